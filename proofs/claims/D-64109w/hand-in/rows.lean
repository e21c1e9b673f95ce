section
-- ===== PART A: goes FIRST, ahead of the names: the tables' words, and 'selects' of the private methods out of them =====
/-- a private method of a class that the tables say can be made, by its rows of tables_1 -/
def lw_okq (q : MethodName × Nat) : Prop := (q.1.cls ≠ "java/lang/invoke/MethodHandle" ∧ q.1.cls ≠ "java/lang/invoke/VarHandle") ∧ Cond.instantiable q.1.cls q.2 ∈ tables_1 ∧ Cond.privateMethod q.1 ∈ tables_1 ∧ Cond.instanceMethod q.1 ∈ tables_1
set_option maxRecDepth 100000
theorem lw_t1 {w : Cond} (h : w ∈ tables_1_1) : w ∈ tables_1 := List.mem_append_left _ h
theorem lw_t2 {w : Cond} (h : w ∈ tables_1_2) : w ∈ tables_1 := List.mem_append_right _ h
theorem lw_p0 : lw_okq (⟨"ProcessEquiv", "hasStep", "(III)Z"⟩, 7) := ⟨⟨by decide +kernel, by decide +kernel⟩, lw_t1 (List.mem_of_getElem? (i := 4) rfl), lw_t1 (List.mem_of_getElem? (i := 46) rfl), lw_t1 (List.mem_of_getElem? (i := 47) rfl)⟩
theorem lw_p1 : lw_okq (⟨"ProcessEquiv", "turn", "(III)V"⟩, 7) := ⟨⟨by decide +kernel, by decide +kernel⟩, lw_t1 (List.mem_of_getElem? (i := 4) rfl), lw_t1 (List.mem_of_getElem? (i := 53) rfl), lw_t1 (List.mem_of_getElem? (i := 54) rfl)⟩
theorem lw_p2 : lw_okq (⟨"ProcessEquiv", "divide", "(Z)V"⟩, 7) := ⟨⟨by decide +kernel, by decide +kernel⟩, lw_t1 (List.mem_of_getElem? (i := 4) rfl), lw_t1 (List.mem_of_getElem? (i := 76) rfl), lw_t1 (List.mem_of_getElem? (i := 77) rfl)⟩
theorem lw_p3 : lw_okq (⟨"ProcessEquiv", "placeFor", "(ZI)I"⟩, 7) := ⟨⟨by decide +kernel, by decide +kernel⟩, lw_t1 (List.mem_of_getElem? (i := 4) rfl), lw_t1 (List.mem_of_getElem? (i := 80) rfl), lw_t1 (List.mem_of_getElem? (i := 81) rfl)⟩
theorem lw_p4 : lw_okq (⟨"ProcessEquiv", "staysTogether", "(ZII)Z"⟩, 7) := ⟨⟨by decide +kernel, by decide +kernel⟩, lw_t1 (List.mem_of_getElem? (i := 4) rfl), lw_t1 (List.mem_of_getElem? (i := 84) rfl), lw_t1 (List.mem_of_getElem? (i := 85) rfl)⟩
theorem lw_p5 : lw_okq (⟨"ProcessEquiv", "groupsAfter", "(ZII)I"⟩, 7) := ⟨⟨by decide +kernel, by decide +kernel⟩, lw_t1 (List.mem_of_getElem? (i := 4) rfl), lw_t1 (List.mem_of_getElem? (i := 88) rfl), lw_t1 (List.mem_of_getElem? (i := 89) rfl)⟩
theorem lw_p6 : lw_okq (⟨"ProcessEquiv", "target", "(ZI)I"⟩, 7) := ⟨⟨by decide +kernel, by decide +kernel⟩, lw_t1 (List.mem_of_getElem? (i := 4) rfl), lw_t1 (List.mem_of_getElem? (i := 92) rfl), lw_t1 (List.mem_of_getElem? (i := 93) rfl)⟩
theorem lw_p7 : lw_okq (⟨"ProcessEquiv", "note", "(II)Z"⟩, 7) := ⟨⟨by decide +kernel, by decide +kernel⟩, lw_t1 (List.mem_of_getElem? (i := 4) rfl), lw_t1 (List.mem_of_getElem? (i := 96) rfl), lw_t1 (List.mem_of_getElem? (i := 97) rfl)⟩
theorem lw_p8 : lw_okq (⟨"ProcessEquiv", "countGroups", "()I"⟩, 7) := ⟨⟨by decide +kernel, by decide +kernel⟩, lw_t1 (List.mem_of_getElem? (i := 4) rfl), lw_t1 (List.mem_of_getElem? (i := 108) rfl), lw_t1 (List.mem_of_getElem? (i := 109) rfl)⟩
theorem lw_p9 : lw_okq (⟨"ProcessEquiv", "lengthen", "()V"⟩, 7) := ⟨⟨by decide +kernel, by decide +kernel⟩, lw_t1 (List.mem_of_getElem? (i := 4) rfl), lw_t1 (List.mem_of_getElem? (i := 124) rfl), lw_t1 (List.mem_of_getElem? (i := 125) rfl)⟩
theorem lw_p10 : lw_okq (⟨"ProcessEquiv", "silentFrom", "(I)I"⟩, 7) := ⟨⟨by decide +kernel, by decide +kernel⟩, lw_t1 (List.mem_of_getElem? (i := 4) rfl), lw_t1 (List.mem_of_getElem? (i := 128) rfl), lw_t1 (List.mem_of_getElem? (i := 129) rfl)⟩
theorem lw_p11 : lw_okq (⟨"ProcessEquiv", "longFrom", "(II)I"⟩, 7) := ⟨⟨by decide +kernel, by decide +kernel⟩, lw_t1 (List.mem_of_getElem? (i := 4) rfl), lw_t1 (List.mem_of_getElem? (i := 132) rfl), lw_t1 (List.mem_of_getElem? (i := 133) rfl)⟩
theorem lw_p12 : lw_okq (⟨"ProcessEquiv", "cutFollowers", "()V"⟩, 7) := ⟨⟨by decide +kernel, by decide +kernel⟩, lw_t1 (List.mem_of_getElem? (i := 4) rfl), lw_t1 (List.mem_of_getElem? (i := 144) rfl), lw_t1 (List.mem_of_getElem? (i := 145) rfl)⟩
theorem lw_p13 : lw_okq (⟨"ProcessEquiv", "allowed", "(I)I"⟩, 7) := ⟨⟨by decide +kernel, by decide +kernel⟩, lw_t1 (List.mem_of_getElem? (i := 4) rfl), lw_t1 (List.mem_of_getElem? (i := 148) rfl), lw_t1 (List.mem_of_getElem? (i := 149) rfl)⟩
theorem lw_p14 : lw_okq (⟨"ProcessEquiv", "before", "(II)I"⟩, 7) := ⟨⟨by decide +kernel, by decide +kernel⟩, lw_t1 (List.mem_of_getElem? (i := 4) rfl), lw_t1 (List.mem_of_getElem? (i := 152) rfl), lw_t1 (List.mem_of_getElem? (i := 153) rfl)⟩
theorem lw_p15 : lw_okq (⟨"ProcessEquiv", "written", "()J"⟩, 7) := ⟨⟨by decide +kernel, by decide +kernel⟩, lw_t1 (List.mem_of_getElem? (i := 4) rfl), lw_t1 (List.mem_of_getElem? (i := 168) rfl), lw_t1 (List.mem_of_getElem? (i := 169) rfl)⟩
def lw_privs_1 : List (MethodName × Nat) := [(⟨"ProcessEquiv", "hasStep", "(III)Z"⟩, 7), (⟨"ProcessEquiv", "turn", "(III)V"⟩, 7), (⟨"ProcessEquiv", "divide", "(Z)V"⟩, 7), (⟨"ProcessEquiv", "placeFor", "(ZI)I"⟩, 7), (⟨"ProcessEquiv", "staysTogether", "(ZII)Z"⟩, 7), (⟨"ProcessEquiv", "groupsAfter", "(ZII)I"⟩, 7), (⟨"ProcessEquiv", "target", "(ZI)I"⟩, 7), (⟨"ProcessEquiv", "note", "(II)Z"⟩, 7), (⟨"ProcessEquiv", "countGroups", "()I"⟩, 7), (⟨"ProcessEquiv", "lengthen", "()V"⟩, 7), (⟨"ProcessEquiv", "silentFrom", "(I)I"⟩, 7), (⟨"ProcessEquiv", "longFrom", "(II)I"⟩, 7), (⟨"ProcessEquiv", "cutFollowers", "()V"⟩, 7), (⟨"ProcessEquiv", "allowed", "(I)I"⟩, 7), (⟨"ProcessEquiv", "before", "(II)I"⟩, 7), (⟨"ProcessEquiv", "written", "()J"⟩, 7)]
theorem lw_r1 : ∀ q ∈ lw_privs_1, lw_okq q := List.forall_mem_cons.mpr ⟨lw_p0, List.forall_mem_cons.mpr ⟨lw_p1, List.forall_mem_cons.mpr ⟨lw_p2, List.forall_mem_cons.mpr ⟨lw_p3, List.forall_mem_cons.mpr ⟨lw_p4, List.forall_mem_cons.mpr ⟨lw_p5, List.forall_mem_cons.mpr ⟨lw_p6, List.forall_mem_cons.mpr ⟨lw_p7, List.forall_mem_cons.mpr ⟨lw_p8, List.forall_mem_cons.mpr ⟨lw_p9, List.forall_mem_cons.mpr ⟨lw_p10, List.forall_mem_cons.mpr ⟨lw_p11, List.forall_mem_cons.mpr ⟨lw_p12, List.forall_mem_cons.mpr ⟨lw_p13, List.forall_mem_cons.mpr ⟨lw_p14, List.forall_mem_cons.mpr ⟨lw_p15, fun _ h => absurd h List.not_mem_nil⟩⟩⟩⟩⟩⟩⟩⟩⟩⟩⟩⟩⟩⟩⟩⟩
theorem lw_p16 : lw_okq (⟨"ProcessEquivModel", "state", "(I)Z"⟩, 5) := ⟨⟨by decide +kernel, by decide +kernel⟩, lw_t1 (List.mem_of_getElem? (i := 173) rfl), lw_t1 (List.mem_of_getElem? (i := 201) rfl), lw_t1 (List.mem_of_getElem? (i := 202) rfl)⟩
theorem lw_p17 : lw_okq (⟨"ProcessEquivModel", "step", "(III)Z"⟩, 5) := ⟨⟨by decide +kernel, by decide +kernel⟩, lw_t1 (List.mem_of_getElem? (i := 173) rfl), lw_t1 (List.mem_of_getElem? (i := 209) rfl), lw_t1 (List.mem_of_getElem? (i := 210) rfl)⟩
theorem lw_p18 : lw_okq (⟨"ProcessEquivModel", "tellSteps", "()V"⟩, 5) := ⟨⟨by decide +kernel, by decide +kernel⟩, lw_t1 (List.mem_of_getElem? (i := 173) rfl), lw_t1 (List.mem_of_getElem? (i := 225) rfl), lw_t1 (List.mem_of_getElem? (i := 226) rfl)⟩
theorem lw_p19 : lw_okq (⟨"ProcessEquivModel", "useSteps", "()V"⟩, 5) := ⟨⟨by decide +kernel, by decide +kernel⟩, lw_t1 (List.mem_of_getElem? (i := 173) rfl), lw_t1 (List.mem_of_getElem? (i := 229) rfl), lw_t1 (List.mem_of_getElem? (i := 230) rfl)⟩
theorem lw_p20 : lw_okq (⟨"ProcessEquivModel", "tell", "()V"⟩, 5) := ⟨⟨by decide +kernel, by decide +kernel⟩, lw_t1 (List.mem_of_getElem? (i := 173) rfl), lw_t1 (List.mem_of_getElem? (i := 233) rfl), lw_t1 (List.mem_of_getElem? (i := 234) rfl)⟩
theorem lw_p21 : lw_okq (⟨"ProcessEquivModel", "differs", "(III)Z"⟩, 5) := ⟨⟨by decide +kernel, by decide +kernel⟩, lw_t1 (List.mem_of_getElem? (i := 173) rfl), lw_t1 (List.mem_of_getElem? (i := 237) rfl), lw_t1 (List.mem_of_getElem? (i := 238) rfl)⟩
theorem lw_p22 : lw_okq (⟨"ProcessEquivModel", "lonely", "(III)Z"⟩, 5) := ⟨⟨by decide +kernel, by decide +kernel⟩, lw_t1 (List.mem_of_getElem? (i := 173) rfl), lw_t2 (List.mem_of_getElem? (i := 1) rfl), lw_t2 (List.mem_of_getElem? (i := 2) rfl)⟩
theorem lw_p23 : lw_okq (⟨"ProcessEquivModel", "count", "()I"⟩, 5) := ⟨⟨by decide +kernel, by decide +kernel⟩, lw_t1 (List.mem_of_getElem? (i := 173) rfl), lw_t2 (List.mem_of_getElem? (i := 13) rfl), lw_t2 (List.mem_of_getElem? (i := 14) rfl)⟩
theorem lw_p24 : lw_okq (⟨"ProcessEquivModel", "tellLongSteps", "()V"⟩, 5) := ⟨⟨by decide +kernel, by decide +kernel⟩, lw_t1 (List.mem_of_getElem? (i := 173) rfl), lw_t2 (List.mem_of_getElem? (i := 29) rfl), lw_t2 (List.mem_of_getElem? (i := 30) rfl)⟩
theorem lw_p25 : lw_okq (⟨"ProcessEquivModel", "useLongSteps", "()V"⟩, 5) := ⟨⟨by decide +kernel, by decide +kernel⟩, lw_t1 (List.mem_of_getElem? (i := 173) rfl), lw_t2 (List.mem_of_getElem? (i := 33) rfl), lw_t2 (List.mem_of_getElem? (i := 34) rfl)⟩
theorem lw_p26 : lw_okq (⟨"ProcessEquivModel", "quietly", "(I)I"⟩, 5) := ⟨⟨by decide +kernel, by decide +kernel⟩, lw_t1 (List.mem_of_getElem? (i := 173) rfl), lw_t2 (List.mem_of_getElem? (i := 37) rfl), lw_t2 (List.mem_of_getElem? (i := 38) rfl)⟩
theorem lw_p27 : lw_okq (⟨"ProcessEquivModel", "onward", "(II)I"⟩, 5) := ⟨⟨by decide +kernel, by decide +kernel⟩, lw_t1 (List.mem_of_getElem? (i := 173) rfl), lw_t2 (List.mem_of_getElem? (i := 41) rfl), lw_t2 (List.mem_of_getElem? (i := 42) rfl)⟩
theorem lw_p28 : lw_okq (⟨"ProcessEquivModel", "labelled", "(II)I"⟩, 5) := ⟨⟨by decide +kernel, by decide +kernel⟩, lw_t1 (List.mem_of_getElem? (i := 173) rfl), lw_t2 (List.mem_of_getElem? (i := 45) rfl), lw_t2 (List.mem_of_getElem? (i := 46) rfl)⟩
theorem lw_p29 : lw_okq (⟨"ProcessEquivModel", "follow", "()V"⟩, 5) := ⟨⟨by decide +kernel, by decide +kernel⟩, lw_t1 (List.mem_of_getElem? (i := 173) rfl), lw_t2 (List.mem_of_getElem? (i := 57) rfl), lw_t2 (List.mem_of_getElem? (i := 58) rfl)⟩
theorem lw_p30 : lw_okq (⟨"ProcessEquivModel", "answers", "(II)Z"⟩, 5) := ⟨⟨by decide +kernel, by decide +kernel⟩, lw_t1 (List.mem_of_getElem? (i := 173) rfl), lw_t2 (List.mem_of_getElem? (i := 61) rfl), lw_t2 (List.mem_of_getElem? (i := 62) rfl)⟩
def lw_privs_2 : List (MethodName × Nat) := [(⟨"ProcessEquivModel", "state", "(I)Z"⟩, 5), (⟨"ProcessEquivModel", "step", "(III)Z"⟩, 5), (⟨"ProcessEquivModel", "tellSteps", "()V"⟩, 5), (⟨"ProcessEquivModel", "useSteps", "()V"⟩, 5), (⟨"ProcessEquivModel", "tell", "()V"⟩, 5), (⟨"ProcessEquivModel", "differs", "(III)Z"⟩, 5), (⟨"ProcessEquivModel", "lonely", "(III)Z"⟩, 5), (⟨"ProcessEquivModel", "count", "()I"⟩, 5), (⟨"ProcessEquivModel", "tellLongSteps", "()V"⟩, 5), (⟨"ProcessEquivModel", "useLongSteps", "()V"⟩, 5), (⟨"ProcessEquivModel", "quietly", "(I)I"⟩, 5), (⟨"ProcessEquivModel", "onward", "(II)I"⟩, 5), (⟨"ProcessEquivModel", "labelled", "(II)I"⟩, 5), (⟨"ProcessEquivModel", "follow", "()V"⟩, 5), (⟨"ProcessEquivModel", "answers", "(II)Z"⟩, 5)]
theorem lw_r2 : ∀ q ∈ lw_privs_2, lw_okq q := List.forall_mem_cons.mpr ⟨lw_p16, List.forall_mem_cons.mpr ⟨lw_p17, List.forall_mem_cons.mpr ⟨lw_p18, List.forall_mem_cons.mpr ⟨lw_p19, List.forall_mem_cons.mpr ⟨lw_p20, List.forall_mem_cons.mpr ⟨lw_p21, List.forall_mem_cons.mpr ⟨lw_p22, List.forall_mem_cons.mpr ⟨lw_p23, List.forall_mem_cons.mpr ⟨lw_p24, List.forall_mem_cons.mpr ⟨lw_p25, List.forall_mem_cons.mpr ⟨lw_p26, List.forall_mem_cons.mpr ⟨lw_p27, List.forall_mem_cons.mpr ⟨lw_p28, List.forall_mem_cons.mpr ⟨lw_p29, List.forall_mem_cons.mpr ⟨lw_p30, fun _ h => absurd h List.not_mem_nil⟩⟩⟩⟩⟩⟩⟩⟩⟩⟩⟩⟩⟩⟩⟩
def lw_privs : List (MethodName × Nat) := lw_privs_1 ++ (lw_privs_2)
def lw_tbl : List Cond := k2_sels lw_privs ++ tables_1
theorem lw_privs_ok : ∀ q ∈ lw_privs, lw_okq q := by
  show ∀ q ∈ lw_privs_1 ++ (lw_privs_2), lw_okq q
  exact List.forall_mem_append.mpr ⟨lw_r1, lw_r2⟩
-- ===== ONE list of words for every method: the tables' words that hold all through a run =====
def lw_all : List Cond := lw_tbl.filter goodWord
/-- a word of the tables by its place: claim/WORDS.tsv -/
theorem lw_w {w : Cond} (i : Nat) (h : lw_tbl[i]? = some w) (g : goodWord w = true) : w ∈ lw_all := List.mem_filter.mpr ⟨List.mem_of_getElem? h, g⟩
theorem lw_all_tbl {w : Cond} (h : w ∈ lw_all) : w ∈ lw_tbl := (List.mem_filter.mp h).1
theorem lw_self : GoodIn lw_all lw_all := fun w h => ⟨h, good_of_word (List.mem_filter.mp h).2⟩
/-- a class's field words, by their places -/
theorem lw_in (ws : List Cond) (ps : List Nat) (hp : ws = ps.filterMap (fun i => lw_tbl[i]?)) (hg : ws.all goodWord = true) : ∀ w ∈ ws, w ∈ lw_all := by
  intro w h
  have h1 := List.all_eq_true.mp hg w h
  rw [hp] at h
  obtain ⟨i, -, hi⟩ := List.mem_filterMap.mp h
  exact lw_w i hi h1
/-- the words of a contract for the method y with code b, L locals, answer r -/
abbrev ws_ (y : MethodName) (b : ByteArray) (L : Nat) (r : Option FieldType) : List Cond := Cond.code y b L r :: lw_all
theorem lw_meth {y : MethodName} {b : ByteArray} {L : Nat} {r : Option FieldType} (h : Cond.code y b L r ∈ lw_all) : GoodIn lw_all (ws_ y b L r) := by
  intro w hw
  rcases List.mem_cons.mp hw with e | e
  · rw [e]
    exact lw_self _ h
  · exact lw_self _ e
theorem lw_app {a c : List Cond} (ha : ∀ w ∈ a, w ∈ lw_all) (hc : GoodIn lw_all c) : GoodIn lw_all (a ++ c) := by
  intro w hw
  rcases List.mem_append.mp hw with e | e
  · exact lw_self w (ha w e)
  · exact hc w e
/-- what a call through an object asks: cwV n hts (lw_V ..) -/
theorem lw_V {own : String} {idx : Nat} {C : String} {y : MethodName} {b : ByteArray} {L : Nat} {r : Option FieldType} (h1 : Cond.methodLink own idx y ∈ lw_all) (h2 : Cond.instanceMethod y ∈ lw_all) (h3 : Cond.selects C y y ∈ lw_all) (h4 : Cond.initialized C ∈ lw_all) (h5 : Cond.code y b L r ∈ lw_all) : GoodIn lw_all (wsV own idx C y (ws_ y b L r)) := by
  refine lw_app ?_ (lw_meth h5)
  intro w hw
  simp only [List.mem_cons, List.not_mem_nil, or_false] at hw
  rcases hw with e | e | e | e
  · rw [e]; exact h1
  · rw [e]; exact h2
  · rw [e]; exact h3
  · rw [e]; exact h4
/-- what a static call asks: va_cwS n hts (lw_S ..) -/
theorem lw_S {own : String} {idx : Nat} {y : MethodName} {b : ByteArray} {L : Nat} {r : Option FieldType} (h1 : Cond.methodLink own idx y ∈ lw_all) (h2 : Cond.static y ∈ lw_all) (h3 : Cond.initialized y.cls ∈ lw_all) (h4 : Cond.code y b L r ∈ lw_all) : GoodIn lw_all (va_wsS own idx y (ws_ y b L r)) := by
  refine lw_app ?_ (lw_meth h4)
  intro w hw
  simp only [List.mem_cons, List.not_mem_nil, or_false] at hw
  rcases hw with e | e | e
  · rw [e]; exact h1
  · rw [e]; exact h2
  · rw [e]; exact h3
/-- the words of a contract for a method WITH HANDLERS (hh: its table) -/
abbrev wsW_ (y : MethodName) (b : ByteArray) (L : Nat) (r : Option FieldType) (hh : List (Nat × Nat × Nat × Nat)) : List Cond := Cond.codeWith y b L r hh :: lw_all
theorem lw_methW {y : MethodName} {b : ByteArray} {L : Nat} {r : Option FieldType} {hh : List (Nat × Nat × Nat × Nat)} (h : Cond.codeWith y b L r hh ∈ lw_all) : GoodIn lw_all (wsW_ y b L r hh) := by
  intro w hw
  rcases List.mem_cons.mp hw with e | e
  · rw [e]
    exact lw_self _ h
  · exact lw_self _ e
/-- any list of words by their places (lw_in), good -/
theorem lw_good {ws : List Cond} (h : ∀ w ∈ ws, w ∈ lw_all) : GoodIn lw_all ws := fun w hw => lw_self w (h w hw)
/-- what a call of a method with handlers asks: vx_cwVW n hts (lw_VW ..), vx_cwSW n hts (lw_SW ..) -/
theorem lw_VW {own : String} {idx : Nat} {C : String} {y : MethodName} {b : ByteArray} {L : Nat} {r : Option FieldType} {hh : List (Nat × Nat × Nat × Nat)} (h1 : Cond.methodLink own idx y ∈ lw_all) (h2 : Cond.instanceMethod y ∈ lw_all) (h3 : Cond.selects C y y ∈ lw_all) (h4 : Cond.initialized C ∈ lw_all) (h5 : Cond.codeWith y b L r hh ∈ lw_all) : GoodIn lw_all (wsV own idx C y (wsW_ y b L r hh)) := by
  refine lw_app ?_ (lw_methW h5)
  intro w hw
  simp only [List.mem_cons, List.not_mem_nil, or_false] at hw
  rcases hw with e | e | e | e
  · rw [e]; exact h1
  · rw [e]; exact h2
  · rw [e]; exact h3
  · rw [e]; exact h4
theorem lw_SW {own : String} {idx : Nat} {y : MethodName} {b : ByteArray} {L : Nat} {r : Option FieldType} {hh : List (Nat × Nat × Nat × Nat)} (h1 : Cond.methodLink own idx y ∈ lw_all) (h2 : Cond.static y ∈ lw_all) (h3 : Cond.initialized y.cls ∈ lw_all) (h4 : Cond.codeWith y b L r hh ∈ lw_all) : GoodIn lw_all (va_wsS own idx y (wsW_ y b L r hh)) := by
  refine lw_app ?_ (lw_methW h4)
  intro w hw
  simp only [List.mem_cons, List.not_mem_nil, or_false] at hw
  rcases hw with e | e | e
  · rw [e]; exact h1
  · rw [e]; exact h2
  · rw [e]; exact h3
/-- a word by its place in its run of the tables -/
theorem lw_at {r : List Cond} (hr : ∀ w ∈ r, w ∈ lw_tbl) {w : Cond} (i : Nat) (h : r[i]? = some w) : w ∈ lw_tbl := hr w (List.mem_of_getElem? h)
theorem lw_g {w : Cond} (h : w ∈ lw_tbl) (g : goodWord w = true) : w ∈ lw_all := List.mem_filter.mpr ⟨h, g⟩
theorem lw_ms : ∀ w ∈ k2_sels lw_privs, w ∈ lw_tbl := fun w h => show w ∈ k2_sels lw_privs ++ tables_1 from List.mem_append_left _ h
theorem lw_m1 : ∀ w ∈ tables_1_1, w ∈ lw_tbl := fun w h => show w ∈ k2_sels lw_privs ++ tables_1 from List.mem_append_right (k2_sels lw_privs) (show w ∈ tables_1 from List.mem_append_left _ h)
theorem lw_m2 : ∀ w ∈ tables_1_2, w ∈ lw_tbl := fun w h => show w ∈ k2_sels lw_privs ++ tables_1 from List.mem_append_right (k2_sels lw_privs) (show w ∈ tables_1 from List.mem_append_right _ h)
theorem qs0 : (Cond.selects "ProcessEquiv" ⟨"ProcessEquiv", "hasStep", "(III)Z"⟩ ⟨"ProcessEquiv", "hasStep", "(III)Z"⟩) ∈ lw_all := lw_g (lw_at lw_ms 0 rfl) rfl
theorem qs1 : (Cond.selects "ProcessEquiv" ⟨"ProcessEquiv", "turn", "(III)V"⟩ ⟨"ProcessEquiv", "turn", "(III)V"⟩) ∈ lw_all := lw_g (lw_at lw_ms 1 rfl) rfl
theorem qs2 : (Cond.selects "ProcessEquiv" ⟨"ProcessEquiv", "divide", "(Z)V"⟩ ⟨"ProcessEquiv", "divide", "(Z)V"⟩) ∈ lw_all := lw_g (lw_at lw_ms 2 rfl) rfl
theorem qs3 : (Cond.selects "ProcessEquiv" ⟨"ProcessEquiv", "placeFor", "(ZI)I"⟩ ⟨"ProcessEquiv", "placeFor", "(ZI)I"⟩) ∈ lw_all := lw_g (lw_at lw_ms 3 rfl) rfl
theorem qs4 : (Cond.selects "ProcessEquiv" ⟨"ProcessEquiv", "staysTogether", "(ZII)Z"⟩ ⟨"ProcessEquiv", "staysTogether", "(ZII)Z"⟩) ∈ lw_all := lw_g (lw_at lw_ms 4 rfl) rfl
theorem qs5 : (Cond.selects "ProcessEquiv" ⟨"ProcessEquiv", "groupsAfter", "(ZII)I"⟩ ⟨"ProcessEquiv", "groupsAfter", "(ZII)I"⟩) ∈ lw_all := lw_g (lw_at lw_ms 5 rfl) rfl
theorem qs6 : (Cond.selects "ProcessEquiv" ⟨"ProcessEquiv", "target", "(ZI)I"⟩ ⟨"ProcessEquiv", "target", "(ZI)I"⟩) ∈ lw_all := lw_g (lw_at lw_ms 6 rfl) rfl
theorem qs7 : (Cond.selects "ProcessEquiv" ⟨"ProcessEquiv", "note", "(II)Z"⟩ ⟨"ProcessEquiv", "note", "(II)Z"⟩) ∈ lw_all := lw_g (lw_at lw_ms 7 rfl) rfl
theorem qs8 : (Cond.selects "ProcessEquiv" ⟨"ProcessEquiv", "countGroups", "()I"⟩ ⟨"ProcessEquiv", "countGroups", "()I"⟩) ∈ lw_all := lw_g (lw_at lw_ms 8 rfl) rfl
theorem qs9 : (Cond.selects "ProcessEquiv" ⟨"ProcessEquiv", "lengthen", "()V"⟩ ⟨"ProcessEquiv", "lengthen", "()V"⟩) ∈ lw_all := lw_g (lw_at lw_ms 9 rfl) rfl
theorem qs10 : (Cond.selects "ProcessEquiv" ⟨"ProcessEquiv", "silentFrom", "(I)I"⟩ ⟨"ProcessEquiv", "silentFrom", "(I)I"⟩) ∈ lw_all := lw_g (lw_at lw_ms 10 rfl) rfl
theorem qs11 : (Cond.selects "ProcessEquiv" ⟨"ProcessEquiv", "longFrom", "(II)I"⟩ ⟨"ProcessEquiv", "longFrom", "(II)I"⟩) ∈ lw_all := lw_g (lw_at lw_ms 11 rfl) rfl
theorem qs12 : (Cond.selects "ProcessEquiv" ⟨"ProcessEquiv", "cutFollowers", "()V"⟩ ⟨"ProcessEquiv", "cutFollowers", "()V"⟩) ∈ lw_all := lw_g (lw_at lw_ms 12 rfl) rfl
theorem qs13 : (Cond.selects "ProcessEquiv" ⟨"ProcessEquiv", "allowed", "(I)I"⟩ ⟨"ProcessEquiv", "allowed", "(I)I"⟩) ∈ lw_all := lw_g (lw_at lw_ms 13 rfl) rfl
theorem qs14 : (Cond.selects "ProcessEquiv" ⟨"ProcessEquiv", "before", "(II)I"⟩ ⟨"ProcessEquiv", "before", "(II)I"⟩) ∈ lw_all := lw_g (lw_at lw_ms 14 rfl) rfl
theorem qs15 : (Cond.selects "ProcessEquiv" ⟨"ProcessEquiv", "written", "()J"⟩ ⟨"ProcessEquiv", "written", "()J"⟩) ∈ lw_all := lw_g (lw_at lw_ms 15 rfl) rfl
theorem qs16 : (Cond.selects "ProcessEquivModel" ⟨"ProcessEquivModel", "state", "(I)Z"⟩ ⟨"ProcessEquivModel", "state", "(I)Z"⟩) ∈ lw_all := lw_g (lw_at lw_ms 16 rfl) rfl
theorem qs17 : (Cond.selects "ProcessEquivModel" ⟨"ProcessEquivModel", "step", "(III)Z"⟩ ⟨"ProcessEquivModel", "step", "(III)Z"⟩) ∈ lw_all := lw_g (lw_at lw_ms 17 rfl) rfl
theorem qs18 : (Cond.selects "ProcessEquivModel" ⟨"ProcessEquivModel", "tellSteps", "()V"⟩ ⟨"ProcessEquivModel", "tellSteps", "()V"⟩) ∈ lw_all := lw_g (lw_at lw_ms 18 rfl) rfl
theorem qs19 : (Cond.selects "ProcessEquivModel" ⟨"ProcessEquivModel", "useSteps", "()V"⟩ ⟨"ProcessEquivModel", "useSteps", "()V"⟩) ∈ lw_all := lw_g (lw_at lw_ms 19 rfl) rfl
theorem qs20 : (Cond.selects "ProcessEquivModel" ⟨"ProcessEquivModel", "tell", "()V"⟩ ⟨"ProcessEquivModel", "tell", "()V"⟩) ∈ lw_all := lw_g (lw_at lw_ms 20 rfl) rfl
theorem qs21 : (Cond.selects "ProcessEquivModel" ⟨"ProcessEquivModel", "differs", "(III)Z"⟩ ⟨"ProcessEquivModel", "differs", "(III)Z"⟩) ∈ lw_all := lw_g (lw_at lw_ms 21 rfl) rfl
theorem qs22 : (Cond.selects "ProcessEquivModel" ⟨"ProcessEquivModel", "lonely", "(III)Z"⟩ ⟨"ProcessEquivModel", "lonely", "(III)Z"⟩) ∈ lw_all := lw_g (lw_at lw_ms 22 rfl) rfl
theorem qs23 : (Cond.selects "ProcessEquivModel" ⟨"ProcessEquivModel", "count", "()I"⟩ ⟨"ProcessEquivModel", "count", "()I"⟩) ∈ lw_all := lw_g (lw_at lw_ms 23 rfl) rfl
theorem qs24 : (Cond.selects "ProcessEquivModel" ⟨"ProcessEquivModel", "tellLongSteps", "()V"⟩ ⟨"ProcessEquivModel", "tellLongSteps", "()V"⟩) ∈ lw_all := lw_g (lw_at lw_ms 24 rfl) rfl
theorem qs25 : (Cond.selects "ProcessEquivModel" ⟨"ProcessEquivModel", "useLongSteps", "()V"⟩ ⟨"ProcessEquivModel", "useLongSteps", "()V"⟩) ∈ lw_all := lw_g (lw_at lw_ms 25 rfl) rfl
theorem qs26 : (Cond.selects "ProcessEquivModel" ⟨"ProcessEquivModel", "quietly", "(I)I"⟩ ⟨"ProcessEquivModel", "quietly", "(I)I"⟩) ∈ lw_all := lw_g (lw_at lw_ms 26 rfl) rfl
theorem qs27 : (Cond.selects "ProcessEquivModel" ⟨"ProcessEquivModel", "onward", "(II)I"⟩ ⟨"ProcessEquivModel", "onward", "(II)I"⟩) ∈ lw_all := lw_g (lw_at lw_ms 27 rfl) rfl
theorem qs28 : (Cond.selects "ProcessEquivModel" ⟨"ProcessEquivModel", "labelled", "(II)I"⟩ ⟨"ProcessEquivModel", "labelled", "(II)I"⟩) ∈ lw_all := lw_g (lw_at lw_ms 28 rfl) rfl
theorem qs29 : (Cond.selects "ProcessEquivModel" ⟨"ProcessEquivModel", "follow", "()V"⟩ ⟨"ProcessEquivModel", "follow", "()V"⟩) ∈ lw_all := lw_g (lw_at lw_ms 29 rfl) rfl
theorem qs30 : (Cond.selects "ProcessEquivModel" ⟨"ProcessEquivModel", "answers", "(II)Z"⟩ ⟨"ProcessEquivModel", "answers", "(II)Z"⟩) ∈ lw_all := lw_g (lw_at lw_ms 30 rfl) rfl
end
section
/-! ProcessEquiv -/
set_option maxRecDepth 100000
def RX0 : String := "ProcessEquiv"
def TX0 : u_T := fun k => match k with
  | 0 => ("ProcessEquiv", "next", "[S", true)
  | 1 => ("ProcessEquiv", "longNext", "[S", true)
  | 2 => ("ProcessEquiv", "groupOf", "[B", true)
  | 3 => ("ProcessEquiv", "newGroup", "[B", true)
  | 4 => ("ProcessEquiv", "toldRound", "[B", true)
  | 5 => ("ProcessEquiv", "lastRound", "I", false)
  | _ => ("ProcessEquiv", "followerSets", "[S", true)
def tyX0 : Nat → FieldType := fun k => match k with
  | 0 => .array .short
  | 1 => .array .short
  | 2 => .array .byte
  | 3 => .array .byte
  | 4 => .array .byte
  | 5 => .int
  | _ => .array .short
abbrev wsX00 : List Cond := u_ws RX0 TX0 7
theorem nmX0 : ∀ a, a < 7 → ∀ b, b < 7 → a ≠ b → (TX0 a).2.1 ≠ (TX0 b).2.1 := by decide +kernel
theorem tyX0_ok : ∀ k, k < 7 → parseFieldDescriptor (TX0 k).2.2.1 = some (tyX0 k) := by decide +kernel
abbrev cX0_init : ByteArray := prog_1_method_1_code
def yX0_init : MethodName := ⟨RX0, "<init>", "()V"⟩
theorem dX0_init_0 : decode cX0_init 0 = .ok (.aload_n 0, 1) := by decide +kernel
theorem dX0_init_1 : decode cX0_init 1 = .ok (.invokespecial 1, 3) := by decide +kernel
theorem dX0_init_4 : decode cX0_init 4 = .ok (.aload_n 0, 1) := by decide +kernel
theorem dX0_init_5 : decode cX0_init 5 = .ok (.bipush 24, 2) := by decide +kernel
theorem dX0_init_7 : decode cX0_init 7 = .ok (.newarray .short, 2) := by decide +kernel
theorem dX0_init_9 : decode cX0_init 9 = .ok (.putfield 7, 3) := by decide +kernel
theorem dX0_init_12 : decode cX0_init 12 = .ok (.aload_n 0, 1) := by decide +kernel
theorem dX0_init_13 : decode cX0_init 13 = .ok (.bipush 24, 2) := by decide +kernel
theorem dX0_init_15 : decode cX0_init 15 = .ok (.newarray .short, 2) := by decide +kernel
theorem dX0_init_17 : decode cX0_init 17 = .ok (.putfield 13, 3) := by decide +kernel
theorem dX0_init_20 : decode cX0_init 20 = .ok (.aload_n 0, 1) := by decide +kernel
theorem dX0_init_21 : decode cX0_init 21 = .ok (.bipush 8, 2) := by decide +kernel
theorem dX0_init_23 : decode cX0_init 23 = .ok (.newarray .byte, 2) := by decide +kernel
theorem dX0_init_25 : decode cX0_init 25 = .ok (.putfield 16, 3) := by decide +kernel
theorem dX0_init_28 : decode cX0_init 28 = .ok (.aload_n 0, 1) := by decide +kernel
theorem dX0_init_29 : decode cX0_init 29 = .ok (.bipush 8, 2) := by decide +kernel
theorem dX0_init_31 : decode cX0_init 31 = .ok (.newarray .byte, 2) := by decide +kernel
theorem dX0_init_33 : decode cX0_init 33 = .ok (.putfield 20, 3) := by decide +kernel
theorem dX0_init_36 : decode cX0_init 36 = .ok (.aload_n 0, 1) := by decide +kernel
theorem dX0_init_37 : decode cX0_init 37 = .ok (.bipush 64, 2) := by decide +kernel
theorem dX0_init_39 : decode cX0_init 39 = .ok (.newarray .byte, 2) := by decide +kernel
theorem dX0_init_41 : decode cX0_init 41 = .ok (.putfield 23, 3) := by decide +kernel
theorem dX0_init_44 : decode cX0_init 44 = .ok (.aload_n 0, 1) := by decide +kernel
theorem dX0_init_45 : decode cX0_init 45 = .ok (.bipush 8, 2) := by decide +kernel
theorem dX0_init_47 : decode cX0_init 47 = .ok (.newarray .short, 2) := by decide +kernel
theorem dX0_init_49 : decode cX0_init 49 = .ok (.putfield 26, 3) := by decide +kernel
theorem dX0_init_52 : decode cX0_init 52 = .ok (.return_, 1) := by decide +kernel
abbrev cX0_join : ByteArray := prog_1_method_7_code
def yX0_join : MethodName := ⟨RX0, "join", "(III)Z"⟩
theorem dX0_join_0 : decode cX0_join 0 = .ok (.iload_n 1, 1) := by decide +kernel
theorem dX0_join_1 : decode cX0_join 1 = .ok (.iload_n 2, 1) := by decide +kernel
theorem dX0_join_2 : decode cX0_join 2 = .ok (.iload_n 3, 1) := by decide +kernel
theorem dX0_join_3 : decode cX0_join 3 = .ok (.invokestatic 37, 3) := by decide +kernel
theorem dX0_join_6 : decode cX0_join 6 = .ok (.ifCond .ne 5, 3) := by decide +kernel
theorem dX0_join_9 : decode cX0_join 9 = .ok (.iconst 0, 1) := by decide +kernel
theorem dX0_join_10 : decode cX0_join 10 = .ok (.ireturn, 1) := by decide +kernel
theorem dX0_join_11 : decode cX0_join 11 = .ok (.aload_n 0, 1) := by decide +kernel
theorem dX0_join_12 : decode cX0_join 12 = .ok (.iload_n 1, 1) := by decide +kernel
theorem dX0_join_13 : decode cX0_join 13 = .ok (.iload_n 2, 1) := by decide +kernel
theorem dX0_join_14 : decode cX0_join 14 = .ok (.iload_n 3, 1) := by decide +kernel
theorem dX0_join_15 : decode cX0_join 15 = .ok (.invokevirtual 41, 3) := by decide +kernel
theorem dX0_join_18 : decode cX0_join 18 = .ok (.ifCond .ne 10, 3) := by decide +kernel
theorem dX0_join_21 : decode cX0_join 21 = .ok (.aload_n 0, 1) := by decide +kernel
theorem dX0_join_22 : decode cX0_join 22 = .ok (.iload_n 1, 1) := by decide +kernel
theorem dX0_join_23 : decode cX0_join 23 = .ok (.iload_n 2, 1) := by decide +kernel
theorem dX0_join_24 : decode cX0_join 24 = .ok (.iload_n 3, 1) := by decide +kernel
theorem dX0_join_25 : decode cX0_join 25 = .ok (.invokevirtual 44, 3) := by decide +kernel
theorem dX0_join_28 : decode cX0_join 28 = .ok (.iconst 1, 1) := by decide +kernel
theorem dX0_join_29 : decode cX0_join 29 = .ok (.ireturn, 1) := by decide +kernel
abbrev cX0_isStep : ByteArray := prog_1_method_3_code
def yX0_isStep : MethodName := ⟨RX0, "isStep", "(III)Z"⟩
theorem dX0_isStep_0 : decode cX0_isStep 0 = .ok (.iload_n 0, 1) := by decide +kernel
theorem dX0_isStep_1 : decode cX0_isStep 1 = .ok (.invokestatic 29, 3) := by decide +kernel
theorem dX0_isStep_4 : decode cX0_isStep 4 = .ok (.ifCond .eq 23, 3) := by decide +kernel
theorem dX0_isStep_7 : decode cX0_isStep 7 = .ok (.iload_n 1, 1) := by decide +kernel
theorem dX0_isStep_8 : decode cX0_isStep 8 = .ok (.invokestatic 29, 3) := by decide +kernel
theorem dX0_isStep_11 : decode cX0_isStep 11 = .ok (.ifCond .eq 16, 3) := by decide +kernel
theorem dX0_isStep_14 : decode cX0_isStep 14 = .ok (.iload_n 2, 1) := by decide +kernel
theorem dX0_isStep_15 : decode cX0_isStep 15 = .ok (.ifCond .lt 12, 3) := by decide +kernel
theorem dX0_isStep_18 : decode cX0_isStep 18 = .ok (.iload_n 2, 1) := by decide +kernel
theorem dX0_isStep_19 : decode cX0_isStep 19 = .ok (.iconst 3, 1) := by decide +kernel
theorem dX0_isStep_20 : decode cX0_isStep 20 = .ok (.if_icmp .ge 7, 3) := by decide +kernel
theorem dX0_isStep_23 : decode cX0_isStep 23 = .ok (.iconst 1, 1) := by decide +kernel
theorem dX0_isStep_24 : decode cX0_isStep 24 = .ok (.goto 4, 3) := by decide +kernel
theorem dX0_isStep_27 : decode cX0_isStep 27 = .ok (.iconst 0, 1) := by decide +kernel
theorem dX0_isStep_28 : decode cX0_isStep 28 = .ok (.ireturn, 1) := by decide +kernel
abbrev cX0_isState : ByteArray := prog_1_method_2_code
def yX0_isState : MethodName := ⟨RX0, "isState", "(I)Z"⟩
theorem dX0_isState_0 : decode cX0_isState 0 = .ok (.iload_n 0, 1) := by decide +kernel
theorem dX0_isState_1 : decode cX0_isState 1 = .ok (.ifCond .lt 13, 3) := by decide +kernel
theorem dX0_isState_4 : decode cX0_isState 4 = .ok (.iload_n 0, 1) := by decide +kernel
theorem dX0_isState_5 : decode cX0_isState 5 = .ok (.bipush 8, 2) := by decide +kernel
theorem dX0_isState_7 : decode cX0_isState 7 = .ok (.if_icmp .ge 7, 3) := by decide +kernel
theorem dX0_isState_10 : decode cX0_isState 10 = .ok (.iconst 1, 1) := by decide +kernel
theorem dX0_isState_11 : decode cX0_isState 11 = .ok (.goto 4, 3) := by decide +kernel
theorem dX0_isState_14 : decode cX0_isState 14 = .ok (.iconst 0, 1) := by decide +kernel
theorem dX0_isState_15 : decode cX0_isState 15 = .ok (.ireturn, 1) := by decide +kernel
abbrev cX0_hasStep : ByteArray := prog_1_method_5_code
def yX0_hasStep : MethodName := ⟨RX0, "hasStep", "(III)Z"⟩
theorem dX0_hasStep_0 : decode cX0_hasStep 0 = .ok (.aload_n 0, 1) := by decide +kernel
theorem dX0_hasStep_1 : decode cX0_hasStep 1 = .ok (.getfield 7, 3) := by decide +kernel
theorem dX0_hasStep_4 : decode cX0_hasStep 4 = .ok (.iload_n 3, 1) := by decide +kernel
theorem dX0_hasStep_5 : decode cX0_hasStep 5 = .ok (.bipush 8, 2) := by decide +kernel
theorem dX0_hasStep_7 : decode cX0_hasStep 7 = .ok (.imul, 1) := by decide +kernel
theorem dX0_hasStep_8 : decode cX0_hasStep 8 = .ok (.iload_n 1, 1) := by decide +kernel
theorem dX0_hasStep_9 : decode cX0_hasStep 9 = .ok (.iadd, 1) := by decide +kernel
theorem dX0_hasStep_10 : decode cX0_hasStep 10 = .ok (.saload, 1) := by decide +kernel
theorem dX0_hasStep_11 : decode cX0_hasStep 11 = .ok (.iload_n 2, 1) := by decide +kernel
theorem dX0_hasStep_12 : decode cX0_hasStep 12 = .ok (.invokestatic 33, 3) := by decide +kernel
theorem dX0_hasStep_15 : decode cX0_hasStep 15 = .ok (.ireturn, 1) := by decide +kernel
abbrev cX0_in : ByteArray := prog_1_method_4_code
def yX0_in : MethodName := ⟨RX0, "in", "(II)Z"⟩
theorem dX0_in_0 : decode cX0_in 0 = .ok (.iload_n 0, 1) := by decide +kernel
theorem dX0_in_1 : decode cX0_in 1 = .ok (.iload_n 1, 1) := by decide +kernel
theorem dX0_in_2 : decode cX0_in 2 = .ok (.ishr, 1) := by decide +kernel
theorem dX0_in_3 : decode cX0_in 3 = .ok (.iconst 1, 1) := by decide +kernel
theorem dX0_in_4 : decode cX0_in 4 = .ok (.iand, 1) := by decide +kernel
theorem dX0_in_5 : decode cX0_in 5 = .ok (.ifCond .eq 7, 3) := by decide +kernel
theorem dX0_in_8 : decode cX0_in 8 = .ok (.iconst 1, 1) := by decide +kernel
theorem dX0_in_9 : decode cX0_in 9 = .ok (.goto 4, 3) := by decide +kernel
theorem dX0_in_12 : decode cX0_in 12 = .ok (.iconst 0, 1) := by decide +kernel
theorem dX0_in_13 : decode cX0_in 13 = .ok (.ireturn, 1) := by decide +kernel
abbrev cX0_turn : ByteArray := prog_1_method_6_code
def yX0_turn : MethodName := ⟨RX0, "turn", "(III)V"⟩
theorem dX0_turn_0 : decode cX0_turn 0 = .ok (.iload_n 3, 1) := by decide +kernel
theorem dX0_turn_1 : decode cX0_turn 1 = .ok (.bipush 8, 2) := by decide +kernel
theorem dX0_turn_3 : decode cX0_turn 3 = .ok (.imul, 1) := by decide +kernel
theorem dX0_turn_4 : decode cX0_turn 4 = .ok (.iload_n 1, 1) := by decide +kernel
theorem dX0_turn_5 : decode cX0_turn 5 = .ok (.iadd, 1) := by decide +kernel
theorem dX0_turn_6 : decode cX0_turn 6 = .ok (.istore 4, 2) := by decide +kernel
theorem dX0_turn_8 : decode cX0_turn 8 = .ok (.aload_n 0, 1) := by decide +kernel
theorem dX0_turn_9 : decode cX0_turn 9 = .ok (.getfield 7, 3) := by decide +kernel
theorem dX0_turn_12 : decode cX0_turn 12 = .ok (.iload 4, 2) := by decide +kernel
theorem dX0_turn_14 : decode cX0_turn 14 = .ok (.aload_n 0, 1) := by decide +kernel
theorem dX0_turn_15 : decode cX0_turn 15 = .ok (.getfield 7, 3) := by decide +kernel
theorem dX0_turn_18 : decode cX0_turn 18 = .ok (.iload 4, 2) := by decide +kernel
theorem dX0_turn_20 : decode cX0_turn 20 = .ok (.saload, 1) := by decide +kernel
theorem dX0_turn_21 : decode cX0_turn 21 = .ok (.iconst 1, 1) := by decide +kernel
theorem dX0_turn_22 : decode cX0_turn 22 = .ok (.iload_n 2, 1) := by decide +kernel
theorem dX0_turn_23 : decode cX0_turn 23 = .ok (.ishl, 1) := by decide +kernel
theorem dX0_turn_24 : decode cX0_turn 24 = .ok (.ixor, 1) := by decide +kernel
theorem dX0_turn_25 : decode cX0_turn 25 = .ok (.i2s, 1) := by decide +kernel
theorem dX0_turn_26 : decode cX0_turn 26 = .ok (.sastore, 1) := by decide +kernel
theorem dX0_turn_27 : decode cX0_turn 27 = .ok (.return_, 1) := by decide +kernel
abbrev cX0_cut : ByteArray := prog_1_method_8_code
def yX0_cut : MethodName := ⟨RX0, "cut", "(III)Z"⟩
theorem dX0_cut_0 : decode cX0_cut 0 = .ok (.iload_n 1, 1) := by decide +kernel
theorem dX0_cut_1 : decode cX0_cut 1 = .ok (.iload_n 2, 1) := by decide +kernel
theorem dX0_cut_2 : decode cX0_cut 2 = .ok (.iload_n 3, 1) := by decide +kernel
theorem dX0_cut_3 : decode cX0_cut 3 = .ok (.invokestatic 37, 3) := by decide +kernel
theorem dX0_cut_6 : decode cX0_cut 6 = .ok (.ifCond .eq 13, 3) := by decide +kernel
theorem dX0_cut_9 : decode cX0_cut 9 = .ok (.aload_n 0, 1) := by decide +kernel
theorem dX0_cut_10 : decode cX0_cut 10 = .ok (.iload_n 1, 1) := by decide +kernel
theorem dX0_cut_11 : decode cX0_cut 11 = .ok (.iload_n 2, 1) := by decide +kernel
theorem dX0_cut_12 : decode cX0_cut 12 = .ok (.iload_n 3, 1) := by decide +kernel
theorem dX0_cut_13 : decode cX0_cut 13 = .ok (.invokevirtual 41, 3) := by decide +kernel
theorem dX0_cut_16 : decode cX0_cut 16 = .ok (.ifCond .ne 5, 3) := by decide +kernel
theorem dX0_cut_19 : decode cX0_cut 19 = .ok (.iconst 0, 1) := by decide +kernel
theorem dX0_cut_20 : decode cX0_cut 20 = .ok (.ireturn, 1) := by decide +kernel
theorem dX0_cut_21 : decode cX0_cut 21 = .ok (.aload_n 0, 1) := by decide +kernel
theorem dX0_cut_22 : decode cX0_cut 22 = .ok (.iload_n 1, 1) := by decide +kernel
theorem dX0_cut_23 : decode cX0_cut 23 = .ok (.iload_n 2, 1) := by decide +kernel
theorem dX0_cut_24 : decode cX0_cut 24 = .ok (.iload_n 3, 1) := by decide +kernel
theorem dX0_cut_25 : decode cX0_cut 25 = .ok (.invokevirtual 44, 3) := by decide +kernel
theorem dX0_cut_28 : decode cX0_cut 28 = .ok (.iconst 1, 1) := by decide +kernel
theorem dX0_cut_29 : decode cX0_cut 29 = .ok (.ireturn, 1) := by decide +kernel
abbrev cX0_steps : ByteArray := prog_1_method_10_code
def yX0_steps : MethodName := ⟨RX0, "steps", "()I"⟩
theorem dX0_steps_0 : decode cX0_steps 0 = .ok (.iconst 0, 1) := by decide +kernel
theorem dX0_steps_1 : decode cX0_steps 1 = .ok (.istore_n 1, 1) := by decide +kernel
theorem dX0_steps_2 : decode cX0_steps 2 = .ok (.iconst 0, 1) := by decide +kernel
theorem dX0_steps_3 : decode cX0_steps 3 = .ok (.istore_n 2, 1) := by decide +kernel
theorem dX0_steps_4 : decode cX0_steps 4 = .ok (.iload_n 2, 1) := by decide +kernel
theorem dX0_steps_5 : decode cX0_steps 5 = .ok (.bipush 24, 2) := by decide +kernel
theorem dX0_steps_7 : decode cX0_steps 7 = .ok (.if_icmp .ge 21, 3) := by decide +kernel
theorem dX0_steps_10 : decode cX0_steps 10 = .ok (.iload_n 1, 1) := by decide +kernel
theorem dX0_steps_11 : decode cX0_steps 11 = .ok (.aload_n 0, 1) := by decide +kernel
theorem dX0_steps_12 : decode cX0_steps 12 = .ok (.getfield 7, 3) := by decide +kernel
theorem dX0_steps_15 : decode cX0_steps 15 = .ok (.iload_n 2, 1) := by decide +kernel
theorem dX0_steps_16 : decode cX0_steps 16 = .ok (.saload, 1) := by decide +kernel
theorem dX0_steps_17 : decode cX0_steps 17 = .ok (.invokestatic 48, 3) := by decide +kernel
theorem dX0_steps_20 : decode cX0_steps 20 = .ok (.iadd, 1) := by decide +kernel
theorem dX0_steps_21 : decode cX0_steps 21 = .ok (.istore_n 1, 1) := by decide +kernel
theorem dX0_steps_22 : decode cX0_steps 22 = .ok (.iinc 2 1, 3) := by decide +kernel
theorem dX0_steps_25 : decode cX0_steps 25 = .ok (.goto (-21), 3) := by decide +kernel
theorem dX0_steps_28 : decode cX0_steps 28 = .ok (.iload_n 1, 1) := by decide +kernel
theorem dX0_steps_29 : decode cX0_steps 29 = .ok (.ireturn, 1) := by decide +kernel
abbrev cX0_ones : ByteArray := prog_1_method_9_code
def yX0_ones : MethodName := ⟨RX0, "ones", "(I)I"⟩
theorem dX0_ones_0 : decode cX0_ones 0 = .ok (.iconst 0, 1) := by decide +kernel
theorem dX0_ones_1 : decode cX0_ones 1 = .ok (.istore_n 1, 1) := by decide +kernel
theorem dX0_ones_2 : decode cX0_ones 2 = .ok (.iconst 0, 1) := by decide +kernel
theorem dX0_ones_3 : decode cX0_ones 3 = .ok (.istore_n 2, 1) := by decide +kernel
theorem dX0_ones_4 : decode cX0_ones 4 = .ok (.iload_n 2, 1) := by decide +kernel
theorem dX0_ones_5 : decode cX0_ones 5 = .ok (.bipush 8, 2) := by decide +kernel
theorem dX0_ones_7 : decode cX0_ones 7 = .ok (.if_icmp .ge 17, 3) := by decide +kernel
theorem dX0_ones_10 : decode cX0_ones 10 = .ok (.iload_n 1, 1) := by decide +kernel
theorem dX0_ones_11 : decode cX0_ones 11 = .ok (.iload_n 0, 1) := by decide +kernel
theorem dX0_ones_12 : decode cX0_ones 12 = .ok (.iload_n 2, 1) := by decide +kernel
theorem dX0_ones_13 : decode cX0_ones 13 = .ok (.ishr, 1) := by decide +kernel
theorem dX0_ones_14 : decode cX0_ones 14 = .ok (.iconst 1, 1) := by decide +kernel
theorem dX0_ones_15 : decode cX0_ones 15 = .ok (.iand, 1) := by decide +kernel
theorem dX0_ones_16 : decode cX0_ones 16 = .ok (.iadd, 1) := by decide +kernel
theorem dX0_ones_17 : decode cX0_ones 17 = .ok (.istore_n 1, 1) := by decide +kernel
theorem dX0_ones_18 : decode cX0_ones 18 = .ok (.iinc 2 1, 3) := by decide +kernel
theorem dX0_ones_21 : decode cX0_ones 21 = .ok (.goto (-17), 3) := by decide +kernel
theorem dX0_ones_24 : decode cX0_ones 24 = .ok (.iload_n 1, 1) := by decide +kernel
theorem dX0_ones_25 : decode cX0_ones 25 = .ok (.ireturn, 1) := by decide +kernel
abbrev cX0_after : ByteArray := prog_1_method_11_code
def yX0_after : MethodName := ⟨RX0, "after", "(II)I"⟩
theorem dX0_after_0 : decode cX0_after 0 = .ok (.iload_n 1, 1) := by decide +kernel
theorem dX0_after_1 : decode cX0_after 1 = .ok (.iconst 0, 1) := by decide +kernel
theorem dX0_after_2 : decode cX0_after 2 = .ok (.iload_n 2, 1) := by decide +kernel
theorem dX0_after_3 : decode cX0_after 3 = .ok (.invokestatic 37, 3) := by decide +kernel
theorem dX0_after_6 : decode cX0_after 6 = .ok (.ifCond .eq 17, 3) := by decide +kernel
theorem dX0_after_9 : decode cX0_after 9 = .ok (.aload_n 0, 1) := by decide +kernel
theorem dX0_after_10 : decode cX0_after 10 = .ok (.getfield 7, 3) := by decide +kernel
theorem dX0_after_13 : decode cX0_after 13 = .ok (.iload_n 2, 1) := by decide +kernel
theorem dX0_after_14 : decode cX0_after 14 = .ok (.bipush 8, 2) := by decide +kernel
theorem dX0_after_16 : decode cX0_after 16 = .ok (.imul, 1) := by decide +kernel
theorem dX0_after_17 : decode cX0_after 17 = .ok (.iload_n 1, 1) := by decide +kernel
theorem dX0_after_18 : decode cX0_after 18 = .ok (.iadd, 1) := by decide +kernel
theorem dX0_after_19 : decode cX0_after 19 = .ok (.saload, 1) := by decide +kernel
theorem dX0_after_20 : decode cX0_after 20 = .ok (.goto 4, 3) := by decide +kernel
theorem dX0_after_23 : decode cX0_after 23 = .ok (.iconst 0, 1) := by decide +kernel
theorem dX0_after_24 : decode cX0_after 24 = .ok (.ireturn, 1) := by decide +kernel
abbrev cX0_alike : ByteArray := prog_1_method_22_code
def yX0_alike : MethodName := ⟨RX0, "alike", "(II)Z"⟩
theorem dX0_alike_0 : decode cX0_alike 0 = .ok (.iload_n 1, 1) := by decide +kernel
theorem dX0_alike_1 : decode cX0_alike 1 = .ok (.invokestatic 29, 3) := by decide +kernel
theorem dX0_alike_4 : decode cX0_alike 4 = .ok (.ifCond .eq 10, 3) := by decide +kernel
theorem dX0_alike_7 : decode cX0_alike 7 = .ok (.iload_n 2, 1) := by decide +kernel
theorem dX0_alike_8 : decode cX0_alike 8 = .ok (.invokestatic 29, 3) := by decide +kernel
theorem dX0_alike_11 : decode cX0_alike 11 = .ok (.ifCond .ne 5, 3) := by decide +kernel
theorem dX0_alike_14 : decode cX0_alike 14 = .ok (.iconst 0, 1) := by decide +kernel
theorem dX0_alike_15 : decode cX0_alike 15 = .ok (.ireturn, 1) := by decide +kernel
theorem dX0_alike_16 : decode cX0_alike 16 = .ok (.aload_n 0, 1) := by decide +kernel
theorem dX0_alike_17 : decode cX0_alike 17 = .ok (.iconst 0, 1) := by decide +kernel
theorem dX0_alike_18 : decode cX0_alike 18 = .ok (.invokevirtual 81, 3) := by decide +kernel
theorem dX0_alike_21 : decode cX0_alike 21 = .ok (.aload_n 0, 1) := by decide +kernel
theorem dX0_alike_22 : decode cX0_alike 22 = .ok (.getfield 16, 3) := by decide +kernel
theorem dX0_alike_25 : decode cX0_alike 25 = .ok (.iload_n 1, 1) := by decide +kernel
theorem dX0_alike_26 : decode cX0_alike 26 = .ok (.baload, 1) := by decide +kernel
theorem dX0_alike_27 : decode cX0_alike 27 = .ok (.aload_n 0, 1) := by decide +kernel
theorem dX0_alike_28 : decode cX0_alike 28 = .ok (.getfield 16, 3) := by decide +kernel
theorem dX0_alike_31 : decode cX0_alike 31 = .ok (.iload_n 2, 1) := by decide +kernel
theorem dX0_alike_32 : decode cX0_alike 32 = .ok (.baload, 1) := by decide +kernel
theorem dX0_alike_33 : decode cX0_alike 33 = .ok (.if_icmp .ne 7, 3) := by decide +kernel
theorem dX0_alike_36 : decode cX0_alike 36 = .ok (.iconst 1, 1) := by decide +kernel
theorem dX0_alike_37 : decode cX0_alike 37 = .ok (.goto 4, 3) := by decide +kernel
theorem dX0_alike_40 : decode cX0_alike 40 = .ok (.iconst 0, 1) := by decide +kernel
theorem dX0_alike_41 : decode cX0_alike 41 = .ok (.ireturn, 1) := by decide +kernel
abbrev cX0_divide : ByteArray := prog_1_method_18_code
def yX0_divide : MethodName := ⟨RX0, "divide", "(Z)V"⟩
theorem dX0_divide_0 : decode cX0_divide 0 = .ok (.iconst 0, 1) := by decide +kernel
theorem dX0_divide_1 : decode cX0_divide 1 = .ok (.istore_n 2, 1) := by decide +kernel
theorem dX0_divide_2 : decode cX0_divide 2 = .ok (.iload_n 2, 1) := by decide +kernel
theorem dX0_divide_3 : decode cX0_divide 3 = .ok (.bipush 64, 2) := by decide +kernel
theorem dX0_divide_5 : decode cX0_divide 5 = .ok (.if_icmp .ge 16, 3) := by decide +kernel
theorem dX0_divide_8 : decode cX0_divide 8 = .ok (.aload_n 0, 1) := by decide +kernel
theorem dX0_divide_9 : decode cX0_divide 9 = .ok (.getfield 23, 3) := by decide +kernel
theorem dX0_divide_12 : decode cX0_divide 12 = .ok (.iload_n 2, 1) := by decide +kernel
theorem dX0_divide_13 : decode cX0_divide 13 = .ok (.iconst (-1), 1) := by decide +kernel
theorem dX0_divide_14 : decode cX0_divide 14 = .ok (.bastore, 1) := by decide +kernel
theorem dX0_divide_15 : decode cX0_divide 15 = .ok (.iinc 2 1, 3) := by decide +kernel
theorem dX0_divide_18 : decode cX0_divide 18 = .ok (.goto (-16), 3) := by decide +kernel
theorem dX0_divide_21 : decode cX0_divide 21 = .ok (.iconst 0, 1) := by decide +kernel
theorem dX0_divide_22 : decode cX0_divide 22 = .ok (.istore_n 2, 1) := by decide +kernel
theorem dX0_divide_23 : decode cX0_divide 23 = .ok (.iload_n 2, 1) := by decide +kernel
theorem dX0_divide_24 : decode cX0_divide 24 = .ok (.bipush 8, 2) := by decide +kernel
theorem dX0_divide_26 : decode cX0_divide 26 = .ok (.if_icmp .ge 16, 3) := by decide +kernel
theorem dX0_divide_29 : decode cX0_divide 29 = .ok (.aload_n 0, 1) := by decide +kernel
theorem dX0_divide_30 : decode cX0_divide 30 = .ok (.getfield 16, 3) := by decide +kernel
theorem dX0_divide_33 : decode cX0_divide 33 = .ok (.iload_n 2, 1) := by decide +kernel
theorem dX0_divide_34 : decode cX0_divide 34 = .ok (.iconst 0, 1) := by decide +kernel
theorem dX0_divide_35 : decode cX0_divide 35 = .ok (.bastore, 1) := by decide +kernel
theorem dX0_divide_36 : decode cX0_divide 36 = .ok (.iinc 2 1, 3) := by decide +kernel
theorem dX0_divide_39 : decode cX0_divide 39 = .ok (.goto (-16), 3) := by decide +kernel
theorem dX0_divide_42 : decode cX0_divide 42 = .ok (.aload_n 0, 1) := by decide +kernel
theorem dX0_divide_43 : decode cX0_divide 43 = .ok (.iconst 0, 1) := by decide +kernel
theorem dX0_divide_44 : decode cX0_divide 44 = .ok (.putfield 67, 3) := by decide +kernel
theorem dX0_divide_47 : decode cX0_divide 47 = .ok (.iconst 1, 1) := by decide +kernel
theorem dX0_divide_48 : decode cX0_divide 48 = .ok (.istore_n 2, 1) := by decide +kernel
theorem dX0_divide_49 : decode cX0_divide 49 = .ok (.iconst 1, 1) := by decide +kernel
theorem dX0_divide_50 : decode cX0_divide 50 = .ok (.istore_n 3, 1) := by decide +kernel
theorem dX0_divide_51 : decode cX0_divide 51 = .ok (.iload_n 3, 1) := by decide +kernel
theorem dX0_divide_52 : decode cX0_divide 52 = .ok (.bipush 8, 2) := by decide +kernel
theorem dX0_divide_54 : decode cX0_divide 54 = .ok (.if_icmp .gt 118, 3) := by decide +kernel
theorem dX0_divide_57 : decode cX0_divide 57 = .ok (.iload_n 2, 1) := by decide +kernel
theorem dX0_divide_58 : decode cX0_divide 58 = .ok (.ifCond .eq 114, 3) := by decide +kernel
theorem dX0_divide_61 : decode cX0_divide 61 = .ok (.iconst 0, 1) := by decide +kernel
theorem dX0_divide_62 : decode cX0_divide 62 = .ok (.istore_n 2, 1) := by decide +kernel
theorem dX0_divide_63 : decode cX0_divide 63 = .ok (.iconst 0, 1) := by decide +kernel
theorem dX0_divide_64 : decode cX0_divide 64 = .ok (.istore 4, 2) := by decide +kernel
theorem dX0_divide_66 : decode cX0_divide 66 = .ok (.iload 4, 2) := by decide +kernel
theorem dX0_divide_68 : decode cX0_divide 68 = .ok (.bipush 8, 2) := by decide +kernel
theorem dX0_divide_70 : decode cX0_divide 70 = .ok (.if_icmp .ge 24, 3) := by decide +kernel
theorem dX0_divide_73 : decode cX0_divide 73 = .ok (.aload_n 0, 1) := by decide +kernel
theorem dX0_divide_74 : decode cX0_divide 74 = .ok (.getfield 20, 3) := by decide +kernel
theorem dX0_divide_77 : decode cX0_divide 77 = .ok (.iload 4, 2) := by decide +kernel
theorem dX0_divide_79 : decode cX0_divide 79 = .ok (.aload_n 0, 1) := by decide +kernel
theorem dX0_divide_80 : decode cX0_divide 80 = .ok (.iload_n 1, 1) := by decide +kernel
theorem dX0_divide_81 : decode cX0_divide 81 = .ok (.iload 4, 2) := by decide +kernel
theorem dX0_divide_83 : decode cX0_divide 83 = .ok (.invokevirtual 71, 3) := by decide +kernel
theorem dX0_divide_86 : decode cX0_divide 86 = .ok (.i2b, 1) := by decide +kernel
theorem dX0_divide_87 : decode cX0_divide 87 = .ok (.bastore, 1) := by decide +kernel
theorem dX0_divide_88 : decode cX0_divide 88 = .ok (.iinc 4 1, 3) := by decide +kernel
theorem dX0_divide_91 : decode cX0_divide 91 = .ok (.goto (-25), 3) := by decide +kernel
theorem dX0_divide_94 : decode cX0_divide 94 = .ok (.iconst 0, 1) := by decide +kernel
theorem dX0_divide_95 : decode cX0_divide 95 = .ok (.istore 4, 2) := by decide +kernel
theorem dX0_divide_97 : decode cX0_divide 97 = .ok (.iload 4, 2) := by decide +kernel
theorem dX0_divide_99 : decode cX0_divide 99 = .ok (.bipush 8, 2) := by decide +kernel
theorem dX0_divide_101 : decode cX0_divide 101 = .ok (.if_icmp .ge 19, 3) := by decide +kernel
theorem dX0_divide_104 : decode cX0_divide 104 = .ok (.iload_n 2, 1) := by decide +kernel
theorem dX0_divide_105 : decode cX0_divide 105 = .ok (.aload_n 0, 1) := by decide +kernel
theorem dX0_divide_106 : decode cX0_divide 106 = .ok (.iload 4, 2) := by decide +kernel
theorem dX0_divide_108 : decode cX0_divide 108 = .ok (.iload_n 3, 1) := by decide +kernel
theorem dX0_divide_109 : decode cX0_divide 109 = .ok (.invokevirtual 74, 3) := by decide +kernel
theorem dX0_divide_112 : decode cX0_divide 112 = .ok (.ior, 1) := by decide +kernel
theorem dX0_divide_113 : decode cX0_divide 113 = .ok (.istore_n 2, 1) := by decide +kernel
theorem dX0_divide_114 : decode cX0_divide 114 = .ok (.iinc 4 1, 3) := by decide +kernel
theorem dX0_divide_117 : decode cX0_divide 117 = .ok (.goto (-20), 3) := by decide +kernel
theorem dX0_divide_120 : decode cX0_divide 120 = .ok (.iconst 0, 1) := by decide +kernel
theorem dX0_divide_121 : decode cX0_divide 121 = .ok (.istore 4, 2) := by decide +kernel
theorem dX0_divide_123 : decode cX0_divide 123 = .ok (.iload 4, 2) := by decide +kernel
theorem dX0_divide_125 : decode cX0_divide 125 = .ok (.bipush 8, 2) := by decide +kernel
theorem dX0_divide_127 : decode cX0_divide 127 = .ok (.if_icmp .ge 23, 3) := by decide +kernel
theorem dX0_divide_130 : decode cX0_divide 130 = .ok (.aload_n 0, 1) := by decide +kernel
theorem dX0_divide_131 : decode cX0_divide 131 = .ok (.getfield 16, 3) := by decide +kernel
theorem dX0_divide_134 : decode cX0_divide 134 = .ok (.iload 4, 2) := by decide +kernel
theorem dX0_divide_136 : decode cX0_divide 136 = .ok (.aload_n 0, 1) := by decide +kernel
theorem dX0_divide_137 : decode cX0_divide 137 = .ok (.getfield 20, 3) := by decide +kernel
theorem dX0_divide_140 : decode cX0_divide 140 = .ok (.iload 4, 2) := by decide +kernel
theorem dX0_divide_142 : decode cX0_divide 142 = .ok (.baload, 1) := by decide +kernel
theorem dX0_divide_143 : decode cX0_divide 143 = .ok (.bastore, 1) := by decide +kernel
theorem dX0_divide_144 : decode cX0_divide 144 = .ok (.iinc 4 1, 3) := by decide +kernel
theorem dX0_divide_147 : decode cX0_divide 147 = .ok (.goto (-24), 3) := by decide +kernel
theorem dX0_divide_150 : decode cX0_divide 150 = .ok (.aload_n 0, 1) := by decide +kernel
theorem dX0_divide_151 : decode cX0_divide 151 = .ok (.iload_n 2, 1) := by decide +kernel
theorem dX0_divide_152 : decode cX0_divide 152 = .ok (.ifCond .eq 7, 3) := by decide +kernel
theorem dX0_divide_155 : decode cX0_divide 155 = .ok (.iload_n 3, 1) := by decide +kernel
theorem dX0_divide_156 : decode cX0_divide 156 = .ok (.goto 7, 3) := by decide +kernel
theorem dX0_divide_159 : decode cX0_divide 159 = .ok (.aload_n 0, 1) := by decide +kernel
theorem dX0_divide_160 : decode cX0_divide 160 = .ok (.getfield 67, 3) := by decide +kernel
theorem dX0_divide_163 : decode cX0_divide 163 = .ok (.putfield 67, 3) := by decide +kernel
theorem dX0_divide_166 : decode cX0_divide 166 = .ok (.iinc 3 1, 3) := by decide +kernel
theorem dX0_divide_169 : decode cX0_divide 169 = .ok (.goto (-118), 3) := by decide +kernel
theorem dX0_divide_172 : decode cX0_divide 172 = .ok (.return_, 1) := by decide +kernel
abbrev cX0_placeFor : ByteArray := prog_1_method_19_code
def yX0_placeFor : MethodName := ⟨RX0, "placeFor", "(ZI)I"⟩
theorem dX0_placeFor_0 : decode cX0_placeFor 0 = .ok (.iconst 0, 1) := by decide +kernel
theorem dX0_placeFor_1 : decode cX0_placeFor 1 = .ok (.istore_n 3, 1) := by decide +kernel
theorem dX0_placeFor_2 : decode cX0_placeFor 2 = .ok (.iload_n 3, 1) := by decide +kernel
theorem dX0_placeFor_3 : decode cX0_placeFor 3 = .ok (.iload_n 2, 1) := by decide +kernel
theorem dX0_placeFor_4 : decode cX0_placeFor 4 = .ok (.if_icmp .ge 46, 3) := by decide +kernel
theorem dX0_placeFor_7 : decode cX0_placeFor 7 = .ok (.aload_n 0, 1) := by decide +kernel
theorem dX0_placeFor_8 : decode cX0_placeFor 8 = .ok (.getfield 16, 3) := by decide +kernel
theorem dX0_placeFor_11 : decode cX0_placeFor 11 = .ok (.iload_n 3, 1) := by decide +kernel
theorem dX0_placeFor_12 : decode cX0_placeFor 12 = .ok (.baload, 1) := by decide +kernel
theorem dX0_placeFor_13 : decode cX0_placeFor 13 = .ok (.aload_n 0, 1) := by decide +kernel
theorem dX0_placeFor_14 : decode cX0_placeFor 14 = .ok (.getfield 16, 3) := by decide +kernel
theorem dX0_placeFor_17 : decode cX0_placeFor 17 = .ok (.iload_n 2, 1) := by decide +kernel
theorem dX0_placeFor_18 : decode cX0_placeFor 18 = .ok (.baload, 1) := by decide +kernel
theorem dX0_placeFor_19 : decode cX0_placeFor 19 = .ok (.if_icmp .ne 25, 3) := by decide +kernel
theorem dX0_placeFor_22 : decode cX0_placeFor 22 = .ok (.aload_n 0, 1) := by decide +kernel
theorem dX0_placeFor_23 : decode cX0_placeFor 23 = .ok (.getfield 20, 3) := by decide +kernel
theorem dX0_placeFor_26 : decode cX0_placeFor 26 = .ok (.iload_n 3, 1) := by decide +kernel
theorem dX0_placeFor_27 : decode cX0_placeFor 27 = .ok (.baload, 1) := by decide +kernel
theorem dX0_placeFor_28 : decode cX0_placeFor 28 = .ok (.iload_n 3, 1) := by decide +kernel
theorem dX0_placeFor_29 : decode cX0_placeFor 29 = .ok (.if_icmp .ne 15, 3) := by decide +kernel
theorem dX0_placeFor_32 : decode cX0_placeFor 32 = .ok (.aload_n 0, 1) := by decide +kernel
theorem dX0_placeFor_33 : decode cX0_placeFor 33 = .ok (.iload_n 1, 1) := by decide +kernel
theorem dX0_placeFor_34 : decode cX0_placeFor 34 = .ok (.iload_n 2, 1) := by decide +kernel
theorem dX0_placeFor_35 : decode cX0_placeFor 35 = .ok (.iload_n 3, 1) := by decide +kernel
theorem dX0_placeFor_36 : decode cX0_placeFor 36 = .ok (.invokevirtual 77, 3) := by decide +kernel
theorem dX0_placeFor_39 : decode cX0_placeFor 39 = .ok (.ifCond .eq 5, 3) := by decide +kernel
theorem dX0_placeFor_42 : decode cX0_placeFor 42 = .ok (.iload_n 3, 1) := by decide +kernel
theorem dX0_placeFor_43 : decode cX0_placeFor 43 = .ok (.ireturn, 1) := by decide +kernel
theorem dX0_placeFor_44 : decode cX0_placeFor 44 = .ok (.iinc 3 1, 3) := by decide +kernel
theorem dX0_placeFor_47 : decode cX0_placeFor 47 = .ok (.goto (-45), 3) := by decide +kernel
theorem dX0_placeFor_50 : decode cX0_placeFor 50 = .ok (.iload_n 2, 1) := by decide +kernel
theorem dX0_placeFor_51 : decode cX0_placeFor 51 = .ok (.ireturn, 1) := by decide +kernel
abbrev cX0_staysTogether : ByteArray := prog_1_method_17_code
def yX0_staysTogether : MethodName := ⟨RX0, "staysTogether", "(ZII)Z"⟩
theorem dX0_staysTogether_0 : decode cX0_staysTogether 0 = .ok (.iconst 0, 1) := by decide +kernel
theorem dX0_staysTogether_1 : decode cX0_staysTogether 1 = .ok (.istore 4, 2) := by decide +kernel
theorem dX0_staysTogether_3 : decode cX0_staysTogether 3 = .ok (.iload 4, 2) := by decide +kernel
theorem dX0_staysTogether_5 : decode cX0_staysTogether 5 = .ok (.iconst 3, 1) := by decide +kernel
theorem dX0_staysTogether_6 : decode cX0_staysTogether 6 = .ok (.if_icmp .ge 34, 3) := by decide +kernel
theorem dX0_staysTogether_9 : decode cX0_staysTogether 9 = .ok (.aload_n 0, 1) := by decide +kernel
theorem dX0_staysTogether_10 : decode cX0_staysTogether 10 = .ok (.iload_n 1, 1) := by decide +kernel
theorem dX0_staysTogether_11 : decode cX0_staysTogether 11 = .ok (.iload_n 2, 1) := by decide +kernel
theorem dX0_staysTogether_12 : decode cX0_staysTogether 12 = .ok (.iload 4, 2) := by decide +kernel
theorem dX0_staysTogether_14 : decode cX0_staysTogether 14 = .ok (.invokevirtual 63, 3) := by decide +kernel
theorem dX0_staysTogether_17 : decode cX0_staysTogether 17 = .ok (.istore 5, 2) := by decide +kernel
theorem dX0_staysTogether_19 : decode cX0_staysTogether 19 = .ok (.iload 5, 2) := by decide +kernel
theorem dX0_staysTogether_21 : decode cX0_staysTogether 21 = .ok (.aload_n 0, 1) := by decide +kernel
theorem dX0_staysTogether_22 : decode cX0_staysTogether 22 = .ok (.iload_n 1, 1) := by decide +kernel
theorem dX0_staysTogether_23 : decode cX0_staysTogether 23 = .ok (.iload_n 3, 1) := by decide +kernel
theorem dX0_staysTogether_24 : decode cX0_staysTogether 24 = .ok (.iload 4, 2) := by decide +kernel
theorem dX0_staysTogether_26 : decode cX0_staysTogether 26 = .ok (.invokevirtual 63, 3) := by decide +kernel
theorem dX0_staysTogether_29 : decode cX0_staysTogether 29 = .ok (.if_icmp .eq 5, 3) := by decide +kernel
theorem dX0_staysTogether_32 : decode cX0_staysTogether 32 = .ok (.iconst 0, 1) := by decide +kernel
theorem dX0_staysTogether_33 : decode cX0_staysTogether 33 = .ok (.ireturn, 1) := by decide +kernel
theorem dX0_staysTogether_34 : decode cX0_staysTogether 34 = .ok (.iinc 4 1, 3) := by decide +kernel
theorem dX0_staysTogether_37 : decode cX0_staysTogether 37 = .ok (.goto (-34), 3) := by decide +kernel
theorem dX0_staysTogether_40 : decode cX0_staysTogether 40 = .ok (.iconst 1, 1) := by decide +kernel
theorem dX0_staysTogether_41 : decode cX0_staysTogether 41 = .ok (.ireturn, 1) := by decide +kernel
abbrev cX0_groupsAfter : ByteArray := prog_1_method_16_code
def yX0_groupsAfter : MethodName := ⟨RX0, "groupsAfter", "(ZII)I"⟩
theorem dX0_groupsAfter_0 : decode cX0_groupsAfter 0 = .ok (.aload_n 0, 1) := by decide +kernel
theorem dX0_groupsAfter_1 : decode cX0_groupsAfter 1 = .ok (.iload_n 1, 1) := by decide +kernel
theorem dX0_groupsAfter_2 : decode cX0_groupsAfter 2 = .ok (.iload_n 3, 1) := by decide +kernel
theorem dX0_groupsAfter_3 : decode cX0_groupsAfter 3 = .ok (.bipush 8, 2) := by decide +kernel
theorem dX0_groupsAfter_5 : decode cX0_groupsAfter 5 = .ok (.imul, 1) := by decide +kernel
theorem dX0_groupsAfter_6 : decode cX0_groupsAfter 6 = .ok (.iload_n 2, 1) := by decide +kernel
theorem dX0_groupsAfter_7 : decode cX0_groupsAfter 7 = .ok (.iadd, 1) := by decide +kernel
theorem dX0_groupsAfter_8 : decode cX0_groupsAfter 8 = .ok (.invokevirtual 59, 3) := by decide +kernel
theorem dX0_groupsAfter_11 : decode cX0_groupsAfter 11 = .ok (.istore 4, 2) := by decide +kernel
theorem dX0_groupsAfter_13 : decode cX0_groupsAfter 13 = .ok (.iconst 0, 1) := by decide +kernel
theorem dX0_groupsAfter_14 : decode cX0_groupsAfter 14 = .ok (.istore 5, 2) := by decide +kernel
theorem dX0_groupsAfter_16 : decode cX0_groupsAfter 16 = .ok (.iconst 0, 1) := by decide +kernel
theorem dX0_groupsAfter_17 : decode cX0_groupsAfter 17 = .ok (.istore 6, 2) := by decide +kernel
theorem dX0_groupsAfter_19 : decode cX0_groupsAfter 19 = .ok (.iload 6, 2) := by decide +kernel
theorem dX0_groupsAfter_21 : decode cX0_groupsAfter 21 = .ok (.bipush 8, 2) := by decide +kernel
theorem dX0_groupsAfter_23 : decode cX0_groupsAfter 23 = .ok (.if_icmp .ge 37, 3) := by decide +kernel
theorem dX0_groupsAfter_26 : decode cX0_groupsAfter 26 = .ok (.iload 5, 2) := by decide +kernel
theorem dX0_groupsAfter_28 : decode cX0_groupsAfter 28 = .ok (.iload 4, 2) := by decide +kernel
theorem dX0_groupsAfter_30 : decode cX0_groupsAfter 30 = .ok (.iload 6, 2) := by decide +kernel
theorem dX0_groupsAfter_32 : decode cX0_groupsAfter 32 = .ok (.invokestatic 33, 3) := by decide +kernel
theorem dX0_groupsAfter_35 : decode cX0_groupsAfter 35 = .ok (.ifCond .eq 15, 3) := by decide +kernel
theorem dX0_groupsAfter_38 : decode cX0_groupsAfter 38 = .ok (.iconst 1, 1) := by decide +kernel
theorem dX0_groupsAfter_39 : decode cX0_groupsAfter 39 = .ok (.aload_n 0, 1) := by decide +kernel
theorem dX0_groupsAfter_40 : decode cX0_groupsAfter 40 = .ok (.getfield 16, 3) := by decide +kernel
theorem dX0_groupsAfter_43 : decode cX0_groupsAfter 43 = .ok (.iload 6, 2) := by decide +kernel
theorem dX0_groupsAfter_45 : decode cX0_groupsAfter 45 = .ok (.baload, 1) := by decide +kernel
theorem dX0_groupsAfter_46 : decode cX0_groupsAfter 46 = .ok (.ishl, 1) := by decide +kernel
theorem dX0_groupsAfter_47 : decode cX0_groupsAfter 47 = .ok (.goto 4, 3) := by decide +kernel
theorem dX0_groupsAfter_50 : decode cX0_groupsAfter 50 = .ok (.iconst 0, 1) := by decide +kernel
theorem dX0_groupsAfter_51 : decode cX0_groupsAfter 51 = .ok (.ior, 1) := by decide +kernel
theorem dX0_groupsAfter_52 : decode cX0_groupsAfter 52 = .ok (.istore 5, 2) := by decide +kernel
theorem dX0_groupsAfter_54 : decode cX0_groupsAfter 54 = .ok (.iinc 6 1, 3) := by decide +kernel
theorem dX0_groupsAfter_57 : decode cX0_groupsAfter 57 = .ok (.goto (-38), 3) := by decide +kernel
theorem dX0_groupsAfter_60 : decode cX0_groupsAfter 60 = .ok (.iload 5, 2) := by decide +kernel
theorem dX0_groupsAfter_62 : decode cX0_groupsAfter 62 = .ok (.ireturn, 1) := by decide +kernel
abbrev cX0_target : ByteArray := prog_1_method_15_code
def yX0_target : MethodName := ⟨RX0, "target", "(ZI)I"⟩
theorem dX0_target_0 : decode cX0_target 0 = .ok (.iload_n 1, 1) := by decide +kernel
theorem dX0_target_1 : decode cX0_target 1 = .ok (.ifCond .eq 12, 3) := by decide +kernel
theorem dX0_target_4 : decode cX0_target 4 = .ok (.aload_n 0, 1) := by decide +kernel
theorem dX0_target_5 : decode cX0_target 5 = .ok (.getfield 13, 3) := by decide +kernel
theorem dX0_target_8 : decode cX0_target 8 = .ok (.iload_n 2, 1) := by decide +kernel
theorem dX0_target_9 : decode cX0_target 9 = .ok (.saload, 1) := by decide +kernel
theorem dX0_target_10 : decode cX0_target 10 = .ok (.goto 9, 3) := by decide +kernel
theorem dX0_target_13 : decode cX0_target 13 = .ok (.aload_n 0, 1) := by decide +kernel
theorem dX0_target_14 : decode cX0_target 14 = .ok (.getfield 7, 3) := by decide +kernel
theorem dX0_target_17 : decode cX0_target 17 = .ok (.iload_n 2, 1) := by decide +kernel
theorem dX0_target_18 : decode cX0_target 18 = .ok (.saload, 1) := by decide +kernel
theorem dX0_target_19 : decode cX0_target 19 = .ok (.ireturn, 1) := by decide +kernel
abbrev cX0_note : ByteArray := prog_1_method_20_code
def yX0_note : MethodName := ⟨RX0, "note", "(II)Z"⟩
theorem dX0_note_0 : decode cX0_note 0 = .ok (.iconst 0, 1) := by decide +kernel
theorem dX0_note_1 : decode cX0_note 1 = .ok (.istore_n 3, 1) := by decide +kernel
theorem dX0_note_2 : decode cX0_note 2 = .ok (.iconst 0, 1) := by decide +kernel
theorem dX0_note_3 : decode cX0_note 3 = .ok (.istore 4, 2) := by decide +kernel
theorem dX0_note_5 : decode cX0_note 5 = .ok (.iload 4, 2) := by decide +kernel
theorem dX0_note_7 : decode cX0_note 7 = .ok (.bipush 8, 2) := by decide +kernel
theorem dX0_note_9 : decode cX0_note 9 = .ok (.if_icmp .ge 57, 3) := by decide +kernel
theorem dX0_note_12 : decode cX0_note 12 = .ok (.aload_n 0, 1) := by decide +kernel
theorem dX0_note_13 : decode cX0_note 13 = .ok (.getfield 16, 3) := by decide +kernel
theorem dX0_note_16 : decode cX0_note 16 = .ok (.iload_n 1, 1) := by decide +kernel
theorem dX0_note_17 : decode cX0_note 17 = .ok (.baload, 1) := by decide +kernel
theorem dX0_note_18 : decode cX0_note 18 = .ok (.aload_n 0, 1) := by decide +kernel
theorem dX0_note_19 : decode cX0_note 19 = .ok (.getfield 16, 3) := by decide +kernel
theorem dX0_note_22 : decode cX0_note 22 = .ok (.iload 4, 2) := by decide +kernel
theorem dX0_note_24 : decode cX0_note 24 = .ok (.baload, 1) := by decide +kernel
theorem dX0_note_25 : decode cX0_note 25 = .ok (.if_icmp .ne 35, 3) := by decide +kernel
theorem dX0_note_28 : decode cX0_note 28 = .ok (.aload_n 0, 1) := by decide +kernel
theorem dX0_note_29 : decode cX0_note 29 = .ok (.getfield 20, 3) := by decide +kernel
theorem dX0_note_32 : decode cX0_note 32 = .ok (.iload_n 1, 1) := by decide +kernel
theorem dX0_note_33 : decode cX0_note 33 = .ok (.baload, 1) := by decide +kernel
theorem dX0_note_34 : decode cX0_note 34 = .ok (.aload_n 0, 1) := by decide +kernel
theorem dX0_note_35 : decode cX0_note 35 = .ok (.getfield 20, 3) := by decide +kernel
theorem dX0_note_38 : decode cX0_note 38 = .ok (.iload 4, 2) := by decide +kernel
theorem dX0_note_40 : decode cX0_note 40 = .ok (.baload, 1) := by decide +kernel
theorem dX0_note_41 : decode cX0_note 41 = .ok (.if_icmp .eq 19, 3) := by decide +kernel
theorem dX0_note_44 : decode cX0_note 44 = .ok (.aload_n 0, 1) := by decide +kernel
theorem dX0_note_45 : decode cX0_note 45 = .ok (.getfield 23, 3) := by decide +kernel
theorem dX0_note_48 : decode cX0_note 48 = .ok (.iload_n 1, 1) := by decide +kernel
theorem dX0_note_49 : decode cX0_note 49 = .ok (.bipush 8, 2) := by decide +kernel
theorem dX0_note_51 : decode cX0_note 51 = .ok (.imul, 1) := by decide +kernel
theorem dX0_note_52 : decode cX0_note 52 = .ok (.iload 4, 2) := by decide +kernel
theorem dX0_note_54 : decode cX0_note 54 = .ok (.iadd, 1) := by decide +kernel
theorem dX0_note_55 : decode cX0_note 55 = .ok (.iload_n 2, 1) := by decide +kernel
theorem dX0_note_56 : decode cX0_note 56 = .ok (.i2b, 1) := by decide +kernel
theorem dX0_note_57 : decode cX0_note 57 = .ok (.bastore, 1) := by decide +kernel
theorem dX0_note_58 : decode cX0_note 58 = .ok (.iconst 1, 1) := by decide +kernel
theorem dX0_note_59 : decode cX0_note 59 = .ok (.istore_n 3, 1) := by decide +kernel
theorem dX0_note_60 : decode cX0_note 60 = .ok (.iinc 4 1, 3) := by decide +kernel
theorem dX0_note_63 : decode cX0_note 63 = .ok (.goto (-58), 3) := by decide +kernel
theorem dX0_note_66 : decode cX0_note 66 = .ok (.iload_n 3, 1) := by decide +kernel
theorem dX0_note_67 : decode cX0_note 67 = .ok (.ireturn, 1) := by decide +kernel
abbrev cX0_group : ByteArray := prog_1_method_23_code
def yX0_group : MethodName := ⟨RX0, "group", "(I)I"⟩
theorem dX0_group_0 : decode cX0_group 0 = .ok (.iload_n 1, 1) := by decide +kernel
theorem dX0_group_1 : decode cX0_group 1 = .ok (.invokestatic 29, 3) := by decide +kernel
theorem dX0_group_4 : decode cX0_group 4 = .ok (.ifCond .ne 5, 3) := by decide +kernel
theorem dX0_group_7 : decode cX0_group 7 = .ok (.iconst 0, 1) := by decide +kernel
theorem dX0_group_8 : decode cX0_group 8 = .ok (.ireturn, 1) := by decide +kernel
theorem dX0_group_9 : decode cX0_group 9 = .ok (.aload_n 0, 1) := by decide +kernel
theorem dX0_group_10 : decode cX0_group 10 = .ok (.iconst 0, 1) := by decide +kernel
theorem dX0_group_11 : decode cX0_group 11 = .ok (.invokevirtual 81, 3) := by decide +kernel
theorem dX0_group_14 : decode cX0_group 14 = .ok (.iconst 0, 1) := by decide +kernel
theorem dX0_group_15 : decode cX0_group 15 = .ok (.istore_n 2, 1) := by decide +kernel
theorem dX0_group_16 : decode cX0_group 16 = .ok (.iconst 0, 1) := by decide +kernel
theorem dX0_group_17 : decode cX0_group 17 = .ok (.istore_n 3, 1) := by decide +kernel
theorem dX0_group_18 : decode cX0_group 18 = .ok (.iload_n 3, 1) := by decide +kernel
theorem dX0_group_19 : decode cX0_group 19 = .ok (.bipush 8, 2) := by decide +kernel
theorem dX0_group_21 : decode cX0_group 21 = .ok (.if_icmp .ge 34, 3) := by decide +kernel
theorem dX0_group_24 : decode cX0_group 24 = .ok (.iload_n 2, 1) := by decide +kernel
theorem dX0_group_25 : decode cX0_group 25 = .ok (.aload_n 0, 1) := by decide +kernel
theorem dX0_group_26 : decode cX0_group 26 = .ok (.getfield 16, 3) := by decide +kernel
theorem dX0_group_29 : decode cX0_group 29 = .ok (.iload_n 3, 1) := by decide +kernel
theorem dX0_group_30 : decode cX0_group 30 = .ok (.baload, 1) := by decide +kernel
theorem dX0_group_31 : decode cX0_group 31 = .ok (.aload_n 0, 1) := by decide +kernel
theorem dX0_group_32 : decode cX0_group 32 = .ok (.getfield 16, 3) := by decide +kernel
theorem dX0_group_35 : decode cX0_group 35 = .ok (.iload_n 1, 1) := by decide +kernel
theorem dX0_group_36 : decode cX0_group 36 = .ok (.baload, 1) := by decide +kernel
theorem dX0_group_37 : decode cX0_group 37 = .ok (.if_icmp .ne 9, 3) := by decide +kernel
theorem dX0_group_40 : decode cX0_group 40 = .ok (.iconst 1, 1) := by decide +kernel
theorem dX0_group_41 : decode cX0_group 41 = .ok (.iload_n 3, 1) := by decide +kernel
theorem dX0_group_42 : decode cX0_group 42 = .ok (.ishl, 1) := by decide +kernel
theorem dX0_group_43 : decode cX0_group 43 = .ok (.goto 4, 3) := by decide +kernel
theorem dX0_group_46 : decode cX0_group 46 = .ok (.iconst 0, 1) := by decide +kernel
theorem dX0_group_47 : decode cX0_group 47 = .ok (.ior, 1) := by decide +kernel
theorem dX0_group_48 : decode cX0_group 48 = .ok (.istore_n 2, 1) := by decide +kernel
theorem dX0_group_49 : decode cX0_group 49 = .ok (.iinc 3 1, 3) := by decide +kernel
theorem dX0_group_52 : decode cX0_group 52 = .ok (.goto (-34), 3) := by decide +kernel
theorem dX0_group_55 : decode cX0_group 55 = .ok (.iload_n 2, 1) := by decide +kernel
theorem dX0_group_56 : decode cX0_group 56 = .ok (.ireturn, 1) := by decide +kernel
abbrev cX0_groups : ByteArray := prog_1_method_24_code
def yX0_groups : MethodName := ⟨RX0, "groups", "()I"⟩
theorem dX0_groups_0 : decode cX0_groups 0 = .ok (.aload_n 0, 1) := by decide +kernel
theorem dX0_groups_1 : decode cX0_groups 1 = .ok (.iconst 0, 1) := by decide +kernel
theorem dX0_groups_2 : decode cX0_groups 2 = .ok (.invokevirtual 81, 3) := by decide +kernel
theorem dX0_groups_5 : decode cX0_groups 5 = .ok (.aload_n 0, 1) := by decide +kernel
theorem dX0_groups_6 : decode cX0_groups 6 = .ok (.invokevirtual 85, 3) := by decide +kernel
theorem dX0_groups_9 : decode cX0_groups 9 = .ok (.ireturn, 1) := by decide +kernel
abbrev cX0_countGroups : ByteArray := prog_1_method_21_code
def yX0_countGroups : MethodName := ⟨RX0, "countGroups", "()I"⟩
theorem dX0_countGroups_0 : decode cX0_countGroups 0 = .ok (.iconst 0, 1) := by decide +kernel
theorem dX0_countGroups_1 : decode cX0_countGroups 1 = .ok (.istore_n 1, 1) := by decide +kernel
theorem dX0_countGroups_2 : decode cX0_countGroups 2 = .ok (.iconst 0, 1) := by decide +kernel
theorem dX0_countGroups_3 : decode cX0_countGroups 3 = .ok (.istore_n 2, 1) := by decide +kernel
theorem dX0_countGroups_4 : decode cX0_countGroups 4 = .ok (.iload_n 2, 1) := by decide +kernel
theorem dX0_countGroups_5 : decode cX0_countGroups 5 = .ok (.bipush 8, 2) := by decide +kernel
theorem dX0_countGroups_7 : decode cX0_countGroups 7 = .ok (.if_icmp .ge 27, 3) := by decide +kernel
theorem dX0_countGroups_10 : decode cX0_countGroups 10 = .ok (.iload_n 1, 1) := by decide +kernel
theorem dX0_countGroups_11 : decode cX0_countGroups 11 = .ok (.aload_n 0, 1) := by decide +kernel
theorem dX0_countGroups_12 : decode cX0_countGroups 12 = .ok (.getfield 16, 3) := by decide +kernel
theorem dX0_countGroups_15 : decode cX0_countGroups 15 = .ok (.iload_n 2, 1) := by decide +kernel
theorem dX0_countGroups_16 : decode cX0_countGroups 16 = .ok (.baload, 1) := by decide +kernel
theorem dX0_countGroups_17 : decode cX0_countGroups 17 = .ok (.iload_n 2, 1) := by decide +kernel
theorem dX0_countGroups_18 : decode cX0_countGroups 18 = .ok (.if_icmp .ne 7, 3) := by decide +kernel
theorem dX0_countGroups_21 : decode cX0_countGroups 21 = .ok (.iconst 1, 1) := by decide +kernel
theorem dX0_countGroups_22 : decode cX0_countGroups 22 = .ok (.goto 4, 3) := by decide +kernel
theorem dX0_countGroups_25 : decode cX0_countGroups 25 = .ok (.iconst 0, 1) := by decide +kernel
theorem dX0_countGroups_26 : decode cX0_countGroups 26 = .ok (.iadd, 1) := by decide +kernel
theorem dX0_countGroups_27 : decode cX0_countGroups 27 = .ok (.istore_n 1, 1) := by decide +kernel
theorem dX0_countGroups_28 : decode cX0_countGroups 28 = .ok (.iinc 2 1, 3) := by decide +kernel
theorem dX0_countGroups_31 : decode cX0_countGroups 31 = .ok (.goto (-27), 3) := by decide +kernel
theorem dX0_countGroups_34 : decode cX0_countGroups 34 = .ok (.iload_n 1, 1) := by decide +kernel
theorem dX0_countGroups_35 : decode cX0_countGroups 35 = .ok (.ireturn, 1) := by decide +kernel
abbrev cX0_toldAfter : ByteArray := prog_1_method_25_code
def yX0_toldAfter : MethodName := ⟨RX0, "toldAfter", "(II)I"⟩
theorem dX0_toldAfter_0 : decode cX0_toldAfter 0 = .ok (.iload_n 1, 1) := by decide +kernel
theorem dX0_toldAfter_1 : decode cX0_toldAfter 1 = .ok (.invokestatic 29, 3) := by decide +kernel
theorem dX0_toldAfter_4 : decode cX0_toldAfter 4 = .ok (.ifCond .eq 10, 3) := by decide +kernel
theorem dX0_toldAfter_7 : decode cX0_toldAfter 7 = .ok (.iload_n 2, 1) := by decide +kernel
theorem dX0_toldAfter_8 : decode cX0_toldAfter 8 = .ok (.invokestatic 29, 3) := by decide +kernel
theorem dX0_toldAfter_11 : decode cX0_toldAfter 11 = .ok (.ifCond .ne 5, 3) := by decide +kernel
theorem dX0_toldAfter_14 : decode cX0_toldAfter 14 = .ok (.iconst (-1), 1) := by decide +kernel
theorem dX0_toldAfter_15 : decode cX0_toldAfter 15 = .ok (.ireturn, 1) := by decide +kernel
theorem dX0_toldAfter_16 : decode cX0_toldAfter 16 = .ok (.aload_n 0, 1) := by decide +kernel
theorem dX0_toldAfter_17 : decode cX0_toldAfter 17 = .ok (.iconst 0, 1) := by decide +kernel
theorem dX0_toldAfter_18 : decode cX0_toldAfter 18 = .ok (.invokevirtual 81, 3) := by decide +kernel
theorem dX0_toldAfter_21 : decode cX0_toldAfter 21 = .ok (.aload_n 0, 1) := by decide +kernel
theorem dX0_toldAfter_22 : decode cX0_toldAfter 22 = .ok (.getfield 23, 3) := by decide +kernel
theorem dX0_toldAfter_25 : decode cX0_toldAfter 25 = .ok (.iload_n 1, 1) := by decide +kernel
theorem dX0_toldAfter_26 : decode cX0_toldAfter 26 = .ok (.bipush 8, 2) := by decide +kernel
theorem dX0_toldAfter_28 : decode cX0_toldAfter 28 = .ok (.imul, 1) := by decide +kernel
theorem dX0_toldAfter_29 : decode cX0_toldAfter 29 = .ok (.iload_n 2, 1) := by decide +kernel
theorem dX0_toldAfter_30 : decode cX0_toldAfter 30 = .ok (.iadd, 1) := by decide +kernel
theorem dX0_toldAfter_31 : decode cX0_toldAfter 31 = .ok (.baload, 1) := by decide +kernel
theorem dX0_toldAfter_32 : decode cX0_toldAfter 32 = .ok (.ireturn, 1) := by decide +kernel
end
section
set_option maxRecDepth 100000
abbrev cX0_rounds : ByteArray := prog_1_method_26_code
def yX0_rounds : MethodName := ⟨RX0, "rounds", "()I"⟩
theorem dX0_rounds_0 : decode cX0_rounds 0 = .ok (.aload_n 0, 1) := by decide +kernel
theorem dX0_rounds_1 : decode cX0_rounds 1 = .ok (.iconst 0, 1) := by decide +kernel
theorem dX0_rounds_2 : decode cX0_rounds 2 = .ok (.invokevirtual 81, 3) := by decide +kernel
theorem dX0_rounds_5 : decode cX0_rounds 5 = .ok (.aload_n 0, 1) := by decide +kernel
theorem dX0_rounds_6 : decode cX0_rounds 6 = .ok (.getfield 67, 3) := by decide +kernel
theorem dX0_rounds_9 : decode cX0_rounds 9 = .ok (.ireturn, 1) := by decide +kernel
abbrev cX0_looselyAlike : ByteArray := prog_1_method_27_code
def yX0_looselyAlike : MethodName := ⟨RX0, "looselyAlike", "(II)Z"⟩
theorem dX0_looselyAlike_0 : decode cX0_looselyAlike 0 = .ok (.iload_n 1, 1) := by decide +kernel
theorem dX0_looselyAlike_1 : decode cX0_looselyAlike 1 = .ok (.invokestatic 29, 3) := by decide +kernel
theorem dX0_looselyAlike_4 : decode cX0_looselyAlike 4 = .ok (.ifCond .eq 10, 3) := by decide +kernel
theorem dX0_looselyAlike_7 : decode cX0_looselyAlike 7 = .ok (.iload_n 2, 1) := by decide +kernel
theorem dX0_looselyAlike_8 : decode cX0_looselyAlike 8 = .ok (.invokestatic 29, 3) := by decide +kernel
theorem dX0_looselyAlike_11 : decode cX0_looselyAlike 11 = .ok (.ifCond .ne 5, 3) := by decide +kernel
theorem dX0_looselyAlike_14 : decode cX0_looselyAlike 14 = .ok (.iconst 0, 1) := by decide +kernel
theorem dX0_looselyAlike_15 : decode cX0_looselyAlike 15 = .ok (.ireturn, 1) := by decide +kernel
theorem dX0_looselyAlike_16 : decode cX0_looselyAlike 16 = .ok (.aload_n 0, 1) := by decide +kernel
theorem dX0_looselyAlike_17 : decode cX0_looselyAlike 17 = .ok (.invokevirtual 89, 3) := by decide +kernel
theorem dX0_looselyAlike_20 : decode cX0_looselyAlike 20 = .ok (.aload_n 0, 1) := by decide +kernel
theorem dX0_looselyAlike_21 : decode cX0_looselyAlike 21 = .ok (.iconst 1, 1) := by decide +kernel
theorem dX0_looselyAlike_22 : decode cX0_looselyAlike 22 = .ok (.invokevirtual 81, 3) := by decide +kernel
theorem dX0_looselyAlike_25 : decode cX0_looselyAlike 25 = .ok (.aload_n 0, 1) := by decide +kernel
theorem dX0_looselyAlike_26 : decode cX0_looselyAlike 26 = .ok (.getfield 16, 3) := by decide +kernel
theorem dX0_looselyAlike_29 : decode cX0_looselyAlike 29 = .ok (.iload_n 1, 1) := by decide +kernel
theorem dX0_looselyAlike_30 : decode cX0_looselyAlike 30 = .ok (.baload, 1) := by decide +kernel
theorem dX0_looselyAlike_31 : decode cX0_looselyAlike 31 = .ok (.aload_n 0, 1) := by decide +kernel
theorem dX0_looselyAlike_32 : decode cX0_looselyAlike 32 = .ok (.getfield 16, 3) := by decide +kernel
theorem dX0_looselyAlike_35 : decode cX0_looselyAlike 35 = .ok (.iload_n 2, 1) := by decide +kernel
theorem dX0_looselyAlike_36 : decode cX0_looselyAlike 36 = .ok (.baload, 1) := by decide +kernel
theorem dX0_looselyAlike_37 : decode cX0_looselyAlike 37 = .ok (.if_icmp .ne 7, 3) := by decide +kernel
theorem dX0_looselyAlike_40 : decode cX0_looselyAlike 40 = .ok (.iconst 1, 1) := by decide +kernel
theorem dX0_looselyAlike_41 : decode cX0_looselyAlike 41 = .ok (.goto 4, 3) := by decide +kernel
theorem dX0_looselyAlike_44 : decode cX0_looselyAlike 44 = .ok (.iconst 0, 1) := by decide +kernel
theorem dX0_looselyAlike_45 : decode cX0_looselyAlike 45 = .ok (.ireturn, 1) := by decide +kernel
abbrev cX0_lengthen : ByteArray := prog_1_method_13_code
def yX0_lengthen : MethodName := ⟨RX0, "lengthen", "()V"⟩
theorem dX0_lengthen_0 : decode cX0_lengthen 0 = .ok (.iconst 0, 1) := by decide +kernel
theorem dX0_lengthen_1 : decode cX0_lengthen 1 = .ok (.istore_n 1, 1) := by decide +kernel
theorem dX0_lengthen_2 : decode cX0_lengthen 2 = .ok (.iload_n 1, 1) := by decide +kernel
theorem dX0_lengthen_3 : decode cX0_lengthen 3 = .ok (.bipush 8, 2) := by decide +kernel
theorem dX0_lengthen_5 : decode cX0_lengthen 5 = .ok (.if_icmp .ge 21, 3) := by decide +kernel
theorem dX0_lengthen_8 : decode cX0_lengthen 8 = .ok (.aload_n 0, 1) := by decide +kernel
theorem dX0_lengthen_9 : decode cX0_lengthen 9 = .ok (.getfield 13, 3) := by decide +kernel
theorem dX0_lengthen_12 : decode cX0_lengthen 12 = .ok (.iload_n 1, 1) := by decide +kernel
theorem dX0_lengthen_13 : decode cX0_lengthen 13 = .ok (.aload_n 0, 1) := by decide +kernel
theorem dX0_lengthen_14 : decode cX0_lengthen 14 = .ok (.iload_n 1, 1) := by decide +kernel
theorem dX0_lengthen_15 : decode cX0_lengthen 15 = .ok (.invokevirtual 52, 3) := by decide +kernel
theorem dX0_lengthen_18 : decode cX0_lengthen 18 = .ok (.i2s, 1) := by decide +kernel
theorem dX0_lengthen_19 : decode cX0_lengthen 19 = .ok (.sastore, 1) := by decide +kernel
theorem dX0_lengthen_20 : decode cX0_lengthen 20 = .ok (.iinc 1 1, 3) := by decide +kernel
theorem dX0_lengthen_23 : decode cX0_lengthen 23 = .ok (.goto (-21), 3) := by decide +kernel
theorem dX0_lengthen_26 : decode cX0_lengthen 26 = .ok (.iconst 0, 1) := by decide +kernel
theorem dX0_lengthen_27 : decode cX0_lengthen 27 = .ok (.istore_n 1, 1) := by decide +kernel
theorem dX0_lengthen_28 : decode cX0_lengthen 28 = .ok (.iload_n 1, 1) := by decide +kernel
theorem dX0_lengthen_29 : decode cX0_lengthen 29 = .ok (.bipush 8, 2) := by decide +kernel
theorem dX0_lengthen_31 : decode cX0_lengthen 31 = .ok (.if_icmp .ge 40, 3) := by decide +kernel
theorem dX0_lengthen_34 : decode cX0_lengthen 34 = .ok (.iconst 1, 1) := by decide +kernel
theorem dX0_lengthen_35 : decode cX0_lengthen 35 = .ok (.istore_n 2, 1) := by decide +kernel
theorem dX0_lengthen_36 : decode cX0_lengthen 36 = .ok (.iload_n 2, 1) := by decide +kernel
theorem dX0_lengthen_37 : decode cX0_lengthen 37 = .ok (.iconst 3, 1) := by decide +kernel
theorem dX0_lengthen_38 : decode cX0_lengthen 38 = .ok (.if_icmp .ge 27, 3) := by decide +kernel
theorem dX0_lengthen_41 : decode cX0_lengthen 41 = .ok (.aload_n 0, 1) := by decide +kernel
theorem dX0_lengthen_42 : decode cX0_lengthen 42 = .ok (.getfield 13, 3) := by decide +kernel
theorem dX0_lengthen_45 : decode cX0_lengthen 45 = .ok (.iload_n 2, 1) := by decide +kernel
theorem dX0_lengthen_46 : decode cX0_lengthen 46 = .ok (.bipush 8, 2) := by decide +kernel
theorem dX0_lengthen_48 : decode cX0_lengthen 48 = .ok (.imul, 1) := by decide +kernel
theorem dX0_lengthen_49 : decode cX0_lengthen 49 = .ok (.iload_n 1, 1) := by decide +kernel
theorem dX0_lengthen_50 : decode cX0_lengthen 50 = .ok (.iadd, 1) := by decide +kernel
theorem dX0_lengthen_51 : decode cX0_lengthen 51 = .ok (.aload_n 0, 1) := by decide +kernel
theorem dX0_lengthen_52 : decode cX0_lengthen 52 = .ok (.iload_n 1, 1) := by decide +kernel
theorem dX0_lengthen_53 : decode cX0_lengthen 53 = .ok (.iload_n 2, 1) := by decide +kernel
theorem dX0_lengthen_54 : decode cX0_lengthen 54 = .ok (.invokevirtual 55, 3) := by decide +kernel
theorem dX0_lengthen_57 : decode cX0_lengthen 57 = .ok (.i2s, 1) := by decide +kernel
theorem dX0_lengthen_58 : decode cX0_lengthen 58 = .ok (.sastore, 1) := by decide +kernel
theorem dX0_lengthen_59 : decode cX0_lengthen 59 = .ok (.iinc 2 1, 3) := by decide +kernel
theorem dX0_lengthen_62 : decode cX0_lengthen 62 = .ok (.goto (-26), 3) := by decide +kernel
theorem dX0_lengthen_65 : decode cX0_lengthen 65 = .ok (.iinc 1 1, 3) := by decide +kernel
theorem dX0_lengthen_68 : decode cX0_lengthen 68 = .ok (.goto (-40), 3) := by decide +kernel
theorem dX0_lengthen_71 : decode cX0_lengthen 71 = .ok (.return_, 1) := by decide +kernel
abbrev cX0_silentFrom : ByteArray := prog_1_method_12_code
def yX0_silentFrom : MethodName := ⟨RX0, "silentFrom", "(I)I"⟩
theorem dX0_silentFrom_0 : decode cX0_silentFrom 0 = .ok (.iconst 1, 1) := by decide +kernel
theorem dX0_silentFrom_1 : decode cX0_silentFrom 1 = .ok (.iload_n 1, 1) := by decide +kernel
theorem dX0_silentFrom_2 : decode cX0_silentFrom 2 = .ok (.ishl, 1) := by decide +kernel
theorem dX0_silentFrom_3 : decode cX0_silentFrom 3 = .ok (.istore_n 2, 1) := by decide +kernel
theorem dX0_silentFrom_4 : decode cX0_silentFrom 4 = .ok (.iconst 0, 1) := by decide +kernel
theorem dX0_silentFrom_5 : decode cX0_silentFrom 5 = .ok (.istore_n 3, 1) := by decide +kernel
theorem dX0_silentFrom_6 : decode cX0_silentFrom 6 = .ok (.iload_n 3, 1) := by decide +kernel
theorem dX0_silentFrom_7 : decode cX0_silentFrom 7 = .ok (.bipush 8, 2) := by decide +kernel
theorem dX0_silentFrom_9 : decode cX0_silentFrom 9 = .ok (.if_icmp .ge 48, 3) := by decide +kernel
theorem dX0_silentFrom_12 : decode cX0_silentFrom 12 = .ok (.iconst 0, 1) := by decide +kernel
theorem dX0_silentFrom_13 : decode cX0_silentFrom 13 = .ok (.istore 4, 2) := by decide +kernel
theorem dX0_silentFrom_15 : decode cX0_silentFrom 15 = .ok (.iload 4, 2) := by decide +kernel
theorem dX0_silentFrom_17 : decode cX0_silentFrom 17 = .ok (.bipush 8, 2) := by decide +kernel
theorem dX0_silentFrom_19 : decode cX0_silentFrom 19 = .ok (.if_icmp .ge 32, 3) := by decide +kernel
theorem dX0_silentFrom_22 : decode cX0_silentFrom 22 = .ok (.iload_n 2, 1) := by decide +kernel
theorem dX0_silentFrom_23 : decode cX0_silentFrom 23 = .ok (.iload_n 2, 1) := by decide +kernel
theorem dX0_silentFrom_24 : decode cX0_silentFrom 24 = .ok (.iload 4, 2) := by decide +kernel
theorem dX0_silentFrom_26 : decode cX0_silentFrom 26 = .ok (.invokestatic 33, 3) := by decide +kernel
theorem dX0_silentFrom_29 : decode cX0_silentFrom 29 = .ok (.ifCond .eq 13, 3) := by decide +kernel
theorem dX0_silentFrom_32 : decode cX0_silentFrom 32 = .ok (.aload_n 0, 1) := by decide +kernel
theorem dX0_silentFrom_33 : decode cX0_silentFrom 33 = .ok (.getfield 7, 3) := by decide +kernel
theorem dX0_silentFrom_36 : decode cX0_silentFrom 36 = .ok (.iload 4, 2) := by decide +kernel
theorem dX0_silentFrom_38 : decode cX0_silentFrom 38 = .ok (.saload, 1) := by decide +kernel
theorem dX0_silentFrom_39 : decode cX0_silentFrom 39 = .ok (.goto 4, 3) := by decide +kernel
theorem dX0_silentFrom_42 : decode cX0_silentFrom 42 = .ok (.iconst 0, 1) := by decide +kernel
theorem dX0_silentFrom_43 : decode cX0_silentFrom 43 = .ok (.ior, 1) := by decide +kernel
theorem dX0_silentFrom_44 : decode cX0_silentFrom 44 = .ok (.istore_n 2, 1) := by decide +kernel
theorem dX0_silentFrom_45 : decode cX0_silentFrom 45 = .ok (.iinc 4 1, 3) := by decide +kernel
theorem dX0_silentFrom_48 : decode cX0_silentFrom 48 = .ok (.goto (-33), 3) := by decide +kernel
theorem dX0_silentFrom_51 : decode cX0_silentFrom 51 = .ok (.iinc 3 1, 3) := by decide +kernel
theorem dX0_silentFrom_54 : decode cX0_silentFrom 54 = .ok (.goto (-48), 3) := by decide +kernel
theorem dX0_silentFrom_57 : decode cX0_silentFrom 57 = .ok (.iload_n 2, 1) := by decide +kernel
theorem dX0_silentFrom_58 : decode cX0_silentFrom 58 = .ok (.ireturn, 1) := by decide +kernel
abbrev cX0_longFrom : ByteArray := prog_1_method_14_code
def yX0_longFrom : MethodName := ⟨RX0, "longFrom", "(II)I"⟩
theorem dX0_longFrom_0 : decode cX0_longFrom 0 = .ok (.iconst 0, 1) := by decide +kernel
theorem dX0_longFrom_1 : decode cX0_longFrom 1 = .ok (.istore_n 3, 1) := by decide +kernel
theorem dX0_longFrom_2 : decode cX0_longFrom 2 = .ok (.iconst 0, 1) := by decide +kernel
theorem dX0_longFrom_3 : decode cX0_longFrom 3 = .ok (.istore 4, 2) := by decide +kernel
theorem dX0_longFrom_5 : decode cX0_longFrom 5 = .ok (.iload 4, 2) := by decide +kernel
theorem dX0_longFrom_7 : decode cX0_longFrom 7 = .ok (.bipush 8, 2) := by decide +kernel
theorem dX0_longFrom_9 : decode cX0_longFrom 9 = .ok (.if_icmp .ge 42, 3) := by decide +kernel
theorem dX0_longFrom_12 : decode cX0_longFrom 12 = .ok (.iload_n 3, 1) := by decide +kernel
theorem dX0_longFrom_13 : decode cX0_longFrom 13 = .ok (.aload_n 0, 1) := by decide +kernel
theorem dX0_longFrom_14 : decode cX0_longFrom 14 = .ok (.getfield 13, 3) := by decide +kernel
theorem dX0_longFrom_17 : decode cX0_longFrom 17 = .ok (.iload_n 1, 1) := by decide +kernel
theorem dX0_longFrom_18 : decode cX0_longFrom 18 = .ok (.saload, 1) := by decide +kernel
theorem dX0_longFrom_19 : decode cX0_longFrom 19 = .ok (.iload 4, 2) := by decide +kernel
theorem dX0_longFrom_21 : decode cX0_longFrom 21 = .ok (.invokestatic 33, 3) := by decide +kernel
theorem dX0_longFrom_24 : decode cX0_longFrom 24 = .ok (.ifCond .eq 18, 3) := by decide +kernel
theorem dX0_longFrom_27 : decode cX0_longFrom 27 = .ok (.aload_n 0, 1) := by decide +kernel
theorem dX0_longFrom_28 : decode cX0_longFrom 28 = .ok (.getfield 7, 3) := by decide +kernel
theorem dX0_longFrom_31 : decode cX0_longFrom 31 = .ok (.iload_n 2, 1) := by decide +kernel
theorem dX0_longFrom_32 : decode cX0_longFrom 32 = .ok (.bipush 8, 2) := by decide +kernel
theorem dX0_longFrom_34 : decode cX0_longFrom 34 = .ok (.imul, 1) := by decide +kernel
theorem dX0_longFrom_35 : decode cX0_longFrom 35 = .ok (.iload 4, 2) := by decide +kernel
theorem dX0_longFrom_37 : decode cX0_longFrom 37 = .ok (.iadd, 1) := by decide +kernel
theorem dX0_longFrom_38 : decode cX0_longFrom 38 = .ok (.saload, 1) := by decide +kernel
theorem dX0_longFrom_39 : decode cX0_longFrom 39 = .ok (.goto 4, 3) := by decide +kernel
theorem dX0_longFrom_42 : decode cX0_longFrom 42 = .ok (.iconst 0, 1) := by decide +kernel
theorem dX0_longFrom_43 : decode cX0_longFrom 43 = .ok (.ior, 1) := by decide +kernel
theorem dX0_longFrom_44 : decode cX0_longFrom 44 = .ok (.istore_n 3, 1) := by decide +kernel
theorem dX0_longFrom_45 : decode cX0_longFrom 45 = .ok (.iinc 4 1, 3) := by decide +kernel
theorem dX0_longFrom_48 : decode cX0_longFrom 48 = .ok (.goto (-43), 3) := by decide +kernel
theorem dX0_longFrom_51 : decode cX0_longFrom 51 = .ok (.iconst 0, 1) := by decide +kernel
theorem dX0_longFrom_52 : decode cX0_longFrom 52 = .ok (.istore 4, 2) := by decide +kernel
theorem dX0_longFrom_54 : decode cX0_longFrom 54 = .ok (.iconst 0, 1) := by decide +kernel
theorem dX0_longFrom_55 : decode cX0_longFrom 55 = .ok (.istore 5, 2) := by decide +kernel
theorem dX0_longFrom_57 : decode cX0_longFrom 57 = .ok (.iload 5, 2) := by decide +kernel
theorem dX0_longFrom_59 : decode cX0_longFrom 59 = .ok (.bipush 8, 2) := by decide +kernel
theorem dX0_longFrom_61 : decode cX0_longFrom 61 = .ok (.if_icmp .ge 34, 3) := by decide +kernel
theorem dX0_longFrom_64 : decode cX0_longFrom 64 = .ok (.iload 4, 2) := by decide +kernel
theorem dX0_longFrom_66 : decode cX0_longFrom 66 = .ok (.iload_n 3, 1) := by decide +kernel
theorem dX0_longFrom_67 : decode cX0_longFrom 67 = .ok (.iload 5, 2) := by decide +kernel
theorem dX0_longFrom_69 : decode cX0_longFrom 69 = .ok (.invokestatic 33, 3) := by decide +kernel
theorem dX0_longFrom_72 : decode cX0_longFrom 72 = .ok (.ifCond .eq 13, 3) := by decide +kernel
theorem dX0_longFrom_75 : decode cX0_longFrom 75 = .ok (.aload_n 0, 1) := by decide +kernel
theorem dX0_longFrom_76 : decode cX0_longFrom 76 = .ok (.getfield 13, 3) := by decide +kernel
theorem dX0_longFrom_79 : decode cX0_longFrom 79 = .ok (.iload 5, 2) := by decide +kernel
theorem dX0_longFrom_81 : decode cX0_longFrom 81 = .ok (.saload, 1) := by decide +kernel
theorem dX0_longFrom_82 : decode cX0_longFrom 82 = .ok (.goto 4, 3) := by decide +kernel
theorem dX0_longFrom_85 : decode cX0_longFrom 85 = .ok (.iconst 0, 1) := by decide +kernel
theorem dX0_longFrom_86 : decode cX0_longFrom 86 = .ok (.ior, 1) := by decide +kernel
theorem dX0_longFrom_87 : decode cX0_longFrom 87 = .ok (.istore 4, 2) := by decide +kernel
theorem dX0_longFrom_89 : decode cX0_longFrom 89 = .ok (.iinc 5 1, 3) := by decide +kernel
theorem dX0_longFrom_92 : decode cX0_longFrom 92 = .ok (.goto (-35), 3) := by decide +kernel
theorem dX0_longFrom_95 : decode cX0_longFrom 95 = .ok (.iload 4, 2) := by decide +kernel
theorem dX0_longFrom_97 : decode cX0_longFrom 97 = .ok (.ireturn, 1) := by decide +kernel
abbrev cX0_looseGroups : ByteArray := prog_1_method_28_code
def yX0_looseGroups : MethodName := ⟨RX0, "looseGroups", "()I"⟩
theorem dX0_looseGroups_0 : decode cX0_looseGroups 0 = .ok (.aload_n 0, 1) := by decide +kernel
theorem dX0_looseGroups_1 : decode cX0_looseGroups 1 = .ok (.invokevirtual 89, 3) := by decide +kernel
theorem dX0_looseGroups_4 : decode cX0_looseGroups 4 = .ok (.aload_n 0, 1) := by decide +kernel
theorem dX0_looseGroups_5 : decode cX0_looseGroups 5 = .ok (.iconst 1, 1) := by decide +kernel
theorem dX0_looseGroups_6 : decode cX0_looseGroups 6 = .ok (.invokevirtual 81, 3) := by decide +kernel
theorem dX0_looseGroups_9 : decode cX0_looseGroups 9 = .ok (.aload_n 0, 1) := by decide +kernel
theorem dX0_looseGroups_10 : decode cX0_looseGroups 10 = .ok (.invokevirtual 85, 3) := by decide +kernel
theorem dX0_looseGroups_13 : decode cX0_looseGroups 13 = .ok (.ireturn, 1) := by decide +kernel
abbrev cX0_follows : ByteArray := prog_1_method_32_code
def yX0_follows : MethodName := ⟨RX0, "follows", "(II)Z"⟩
theorem dX0_follows_0 : decode cX0_follows 0 = .ok (.iload_n 2, 1) := by decide +kernel
theorem dX0_follows_1 : decode cX0_follows 1 = .ok (.invokestatic 29, 3) := by decide +kernel
theorem dX0_follows_4 : decode cX0_follows 4 = .ok (.ifCond .eq 10, 3) := by decide +kernel
theorem dX0_follows_7 : decode cX0_follows 7 = .ok (.iload_n 1, 1) := by decide +kernel
theorem dX0_follows_8 : decode cX0_follows 8 = .ok (.invokestatic 29, 3) := by decide +kernel
theorem dX0_follows_11 : decode cX0_follows 11 = .ok (.ifCond .ne 5, 3) := by decide +kernel
theorem dX0_follows_14 : decode cX0_follows 14 = .ok (.iconst 0, 1) := by decide +kernel
theorem dX0_follows_15 : decode cX0_follows 15 = .ok (.ireturn, 1) := by decide +kernel
theorem dX0_follows_16 : decode cX0_follows 16 = .ok (.aload_n 0, 1) := by decide +kernel
theorem dX0_follows_17 : decode cX0_follows 17 = .ok (.invokevirtual 98, 3) := by decide +kernel
theorem dX0_follows_20 : decode cX0_follows 20 = .ok (.aload_n 0, 1) := by decide +kernel
theorem dX0_follows_21 : decode cX0_follows 21 = .ok (.getfield 26, 3) := by decide +kernel
theorem dX0_follows_24 : decode cX0_follows 24 = .ok (.iload_n 2, 1) := by decide +kernel
theorem dX0_follows_25 : decode cX0_follows 25 = .ok (.saload, 1) := by decide +kernel
theorem dX0_follows_26 : decode cX0_follows 26 = .ok (.iload_n 1, 1) := by decide +kernel
theorem dX0_follows_27 : decode cX0_follows 27 = .ok (.invokestatic 33, 3) := by decide +kernel
theorem dX0_follows_30 : decode cX0_follows 30 = .ok (.ireturn, 1) := by decide +kernel
abbrev cX0_cutFollowers : ByteArray := prog_1_method_29_code
def yX0_cutFollowers : MethodName := ⟨RX0, "cutFollowers", "()V"⟩
theorem dX0_cutFollowers_0 : decode cX0_cutFollowers 0 = .ok (.iconst 0, 1) := by decide +kernel
theorem dX0_cutFollowers_1 : decode cX0_cutFollowers 1 = .ok (.istore_n 1, 1) := by decide +kernel
theorem dX0_cutFollowers_2 : decode cX0_cutFollowers 2 = .ok (.iload_n 1, 1) := by decide +kernel
theorem dX0_cutFollowers_3 : decode cX0_cutFollowers 3 = .ok (.bipush 8, 2) := by decide +kernel
theorem dX0_cutFollowers_5 : decode cX0_cutFollowers 5 = .ok (.if_icmp .ge 18, 3) := by decide +kernel
theorem dX0_cutFollowers_8 : decode cX0_cutFollowers 8 = .ok (.aload_n 0, 1) := by decide +kernel
theorem dX0_cutFollowers_9 : decode cX0_cutFollowers 9 = .ok (.getfield 26, 3) := by decide +kernel
theorem dX0_cutFollowers_12 : decode cX0_cutFollowers 12 = .ok (.iload_n 1, 1) := by decide +kernel
theorem dX0_cutFollowers_13 : decode cX0_cutFollowers 13 = .ok (.sipush 255, 3) := by decide +kernel
theorem dX0_cutFollowers_16 : decode cX0_cutFollowers 16 = .ok (.sastore, 1) := by decide +kernel
theorem dX0_cutFollowers_17 : decode cX0_cutFollowers 17 = .ok (.iinc 1 1, 3) := by decide +kernel
theorem dX0_cutFollowers_20 : decode cX0_cutFollowers 20 = .ok (.goto (-18), 3) := by decide +kernel
theorem dX0_cutFollowers_23 : decode cX0_cutFollowers 23 = .ok (.iconst 1, 1) := by decide +kernel
theorem dX0_cutFollowers_24 : decode cX0_cutFollowers 24 = .ok (.istore_n 1, 1) := by decide +kernel
theorem dX0_cutFollowers_25 : decode cX0_cutFollowers 25 = .ok (.iconst 0, 1) := by decide +kernel
theorem dX0_cutFollowers_26 : decode cX0_cutFollowers 26 = .ok (.istore_n 2, 1) := by decide +kernel
theorem dX0_cutFollowers_27 : decode cX0_cutFollowers 27 = .ok (.iload_n 2, 1) := by decide +kernel
theorem dX0_cutFollowers_28 : decode cX0_cutFollowers 28 = .ok (.bipush 65, 2) := by decide +kernel
theorem dX0_cutFollowers_30 : decode cX0_cutFollowers 30 = .ok (.if_icmp .ge 71, 3) := by decide +kernel
theorem dX0_cutFollowers_33 : decode cX0_cutFollowers 33 = .ok (.iload_n 1, 1) := by decide +kernel
theorem dX0_cutFollowers_34 : decode cX0_cutFollowers 34 = .ok (.ifCond .eq 67, 3) := by decide +kernel
theorem dX0_cutFollowers_37 : decode cX0_cutFollowers 37 = .ok (.iconst 0, 1) := by decide +kernel
theorem dX0_cutFollowers_38 : decode cX0_cutFollowers 38 = .ok (.istore_n 1, 1) := by decide +kernel
theorem dX0_cutFollowers_39 : decode cX0_cutFollowers 39 = .ok (.iconst 0, 1) := by decide +kernel
theorem dX0_cutFollowers_40 : decode cX0_cutFollowers 40 = .ok (.istore_n 3, 1) := by decide +kernel
theorem dX0_cutFollowers_41 : decode cX0_cutFollowers 41 = .ok (.iload_n 3, 1) := by decide +kernel
theorem dX0_cutFollowers_42 : decode cX0_cutFollowers 42 = .ok (.bipush 8, 2) := by decide +kernel
theorem dX0_cutFollowers_44 : decode cX0_cutFollowers 44 = .ok (.if_icmp .ge 51, 3) := by decide +kernel
theorem dX0_cutFollowers_47 : decode cX0_cutFollowers 47 = .ok (.aload_n 0, 1) := by decide +kernel
theorem dX0_cutFollowers_48 : decode cX0_cutFollowers 48 = .ok (.getfield 26, 3) := by decide +kernel
theorem dX0_cutFollowers_51 : decode cX0_cutFollowers 51 = .ok (.iload_n 3, 1) := by decide +kernel
theorem dX0_cutFollowers_52 : decode cX0_cutFollowers 52 = .ok (.saload, 1) := by decide +kernel
theorem dX0_cutFollowers_53 : decode cX0_cutFollowers 53 = .ok (.aload_n 0, 1) := by decide +kernel
theorem dX0_cutFollowers_54 : decode cX0_cutFollowers 54 = .ok (.iload_n 3, 1) := by decide +kernel
theorem dX0_cutFollowers_55 : decode cX0_cutFollowers 55 = .ok (.invokevirtual 92, 3) := by decide +kernel
theorem dX0_cutFollowers_58 : decode cX0_cutFollowers 58 = .ok (.iand, 1) := by decide +kernel
theorem dX0_cutFollowers_59 : decode cX0_cutFollowers 59 = .ok (.istore 4, 2) := by decide +kernel
theorem dX0_cutFollowers_61 : decode cX0_cutFollowers 61 = .ok (.iload_n 1, 1) := by decide +kernel
theorem dX0_cutFollowers_62 : decode cX0_cutFollowers 62 = .ok (.iload 4, 2) := by decide +kernel
theorem dX0_cutFollowers_64 : decode cX0_cutFollowers 64 = .ok (.aload_n 0, 1) := by decide +kernel
theorem dX0_cutFollowers_65 : decode cX0_cutFollowers 65 = .ok (.getfield 26, 3) := by decide +kernel
theorem dX0_cutFollowers_68 : decode cX0_cutFollowers 68 = .ok (.iload_n 3, 1) := by decide +kernel
theorem dX0_cutFollowers_69 : decode cX0_cutFollowers 69 = .ok (.saload, 1) := by decide +kernel
theorem dX0_cutFollowers_70 : decode cX0_cutFollowers 70 = .ok (.if_icmp .eq 7, 3) := by decide +kernel
theorem dX0_cutFollowers_73 : decode cX0_cutFollowers 73 = .ok (.iconst 1, 1) := by decide +kernel
theorem dX0_cutFollowers_74 : decode cX0_cutFollowers 74 = .ok (.goto 4, 3) := by decide +kernel
theorem dX0_cutFollowers_77 : decode cX0_cutFollowers 77 = .ok (.iconst 0, 1) := by decide +kernel
theorem dX0_cutFollowers_78 : decode cX0_cutFollowers 78 = .ok (.ior, 1) := by decide +kernel
theorem dX0_cutFollowers_79 : decode cX0_cutFollowers 79 = .ok (.istore_n 1, 1) := by decide +kernel
theorem dX0_cutFollowers_80 : decode cX0_cutFollowers 80 = .ok (.aload_n 0, 1) := by decide +kernel
theorem dX0_cutFollowers_81 : decode cX0_cutFollowers 81 = .ok (.getfield 26, 3) := by decide +kernel
theorem dX0_cutFollowers_84 : decode cX0_cutFollowers 84 = .ok (.iload_n 3, 1) := by decide +kernel
theorem dX0_cutFollowers_85 : decode cX0_cutFollowers 85 = .ok (.iload 4, 2) := by decide +kernel
theorem dX0_cutFollowers_87 : decode cX0_cutFollowers 87 = .ok (.i2s, 1) := by decide +kernel
theorem dX0_cutFollowers_88 : decode cX0_cutFollowers 88 = .ok (.sastore, 1) := by decide +kernel
theorem dX0_cutFollowers_89 : decode cX0_cutFollowers 89 = .ok (.iinc 3 1, 3) := by decide +kernel
theorem dX0_cutFollowers_92 : decode cX0_cutFollowers 92 = .ok (.goto (-51), 3) := by decide +kernel
theorem dX0_cutFollowers_95 : decode cX0_cutFollowers 95 = .ok (.iinc 2 1, 3) := by decide +kernel
theorem dX0_cutFollowers_98 : decode cX0_cutFollowers 98 = .ok (.goto (-71), 3) := by decide +kernel
theorem dX0_cutFollowers_101 : decode cX0_cutFollowers 101 = .ok (.return_, 1) := by decide +kernel
abbrev cX0_allowed : ByteArray := prog_1_method_30_code
def yX0_allowed : MethodName := ⟨RX0, "allowed", "(I)I"⟩
theorem dX0_allowed_0 : decode cX0_allowed 0 = .ok (.sipush 255, 3) := by decide +kernel
theorem dX0_allowed_3 : decode cX0_allowed 3 = .ok (.istore_n 2, 1) := by decide +kernel
theorem dX0_allowed_4 : decode cX0_allowed 4 = .ok (.iconst 0, 1) := by decide +kernel
theorem dX0_allowed_5 : decode cX0_allowed 5 = .ok (.istore_n 3, 1) := by decide +kernel
theorem dX0_allowed_6 : decode cX0_allowed 6 = .ok (.iload_n 3, 1) := by decide +kernel
theorem dX0_allowed_7 : decode cX0_allowed 7 = .ok (.iconst 3, 1) := by decide +kernel
theorem dX0_allowed_8 : decode cX0_allowed 8 = .ok (.if_icmp .ge 51, 3) := by decide +kernel
theorem dX0_allowed_11 : decode cX0_allowed 11 = .ok (.iconst 0, 1) := by decide +kernel
theorem dX0_allowed_12 : decode cX0_allowed 12 = .ok (.istore 4, 2) := by decide +kernel
theorem dX0_allowed_14 : decode cX0_allowed 14 = .ok (.iload 4, 2) := by decide +kernel
theorem dX0_allowed_16 : decode cX0_allowed 16 = .ok (.bipush 8, 2) := by decide +kernel
theorem dX0_allowed_18 : decode cX0_allowed 18 = .ok (.if_icmp .ge 35, 3) := by decide +kernel
theorem dX0_allowed_21 : decode cX0_allowed 21 = .ok (.aload_n 0, 1) := by decide +kernel
theorem dX0_allowed_22 : decode cX0_allowed 22 = .ok (.iload_n 1, 1) := by decide +kernel
theorem dX0_allowed_23 : decode cX0_allowed 23 = .ok (.iload 4, 2) := by decide +kernel
theorem dX0_allowed_25 : decode cX0_allowed 25 = .ok (.iload_n 3, 1) := by decide +kernel
theorem dX0_allowed_26 : decode cX0_allowed 26 = .ok (.invokevirtual 41, 3) := by decide +kernel
theorem dX0_allowed_29 : decode cX0_allowed 29 = .ok (.ifCond .eq 18, 3) := by decide +kernel
theorem dX0_allowed_32 : decode cX0_allowed 32 = .ok (.iload_n 2, 1) := by decide +kernel
theorem dX0_allowed_33 : decode cX0_allowed 33 = .ok (.aload_n 0, 1) := by decide +kernel
theorem dX0_allowed_34 : decode cX0_allowed 34 = .ok (.iload_n 3, 1) := by decide +kernel
theorem dX0_allowed_35 : decode cX0_allowed 35 = .ok (.aload_n 0, 1) := by decide +kernel
theorem dX0_allowed_36 : decode cX0_allowed 36 = .ok (.getfield 26, 3) := by decide +kernel
theorem dX0_allowed_39 : decode cX0_allowed 39 = .ok (.iload 4, 2) := by decide +kernel
theorem dX0_allowed_41 : decode cX0_allowed 41 = .ok (.saload, 1) := by decide +kernel
theorem dX0_allowed_42 : decode cX0_allowed 42 = .ok (.invokevirtual 95, 3) := by decide +kernel
theorem dX0_allowed_45 : decode cX0_allowed 45 = .ok (.iand, 1) := by decide +kernel
theorem dX0_allowed_46 : decode cX0_allowed 46 = .ok (.istore_n 2, 1) := by decide +kernel
theorem dX0_allowed_47 : decode cX0_allowed 47 = .ok (.iinc 4 1, 3) := by decide +kernel
theorem dX0_allowed_50 : decode cX0_allowed 50 = .ok (.goto (-36), 3) := by decide +kernel
theorem dX0_allowed_53 : decode cX0_allowed 53 = .ok (.iinc 3 1, 3) := by decide +kernel
theorem dX0_allowed_56 : decode cX0_allowed 56 = .ok (.goto (-50), 3) := by decide +kernel
theorem dX0_allowed_59 : decode cX0_allowed 59 = .ok (.iload_n 2, 1) := by decide +kernel
theorem dX0_allowed_60 : decode cX0_allowed 60 = .ok (.ireturn, 1) := by decide +kernel
abbrev cX0_before : ByteArray := prog_1_method_31_code
def yX0_before : MethodName := ⟨RX0, "before", "(II)I"⟩
theorem dX0_before_0 : decode cX0_before 0 = .ok (.iconst 0, 1) := by decide +kernel
theorem dX0_before_1 : decode cX0_before 1 = .ok (.istore_n 3, 1) := by decide +kernel
theorem dX0_before_2 : decode cX0_before 2 = .ok (.iconst 0, 1) := by decide +kernel
theorem dX0_before_3 : decode cX0_before 3 = .ok (.istore 4, 2) := by decide +kernel
theorem dX0_before_5 : decode cX0_before 5 = .ok (.iload 4, 2) := by decide +kernel
theorem dX0_before_7 : decode cX0_before 7 = .ok (.bipush 8, 2) := by decide +kernel
theorem dX0_before_9 : decode cX0_before 9 = .ok (.if_icmp .ge 37, 3) := by decide +kernel
theorem dX0_before_12 : decode cX0_before 12 = .ok (.iload_n 3, 1) := by decide +kernel
theorem dX0_before_13 : decode cX0_before 13 = .ok (.aload_n 0, 1) := by decide +kernel
theorem dX0_before_14 : decode cX0_before 14 = .ok (.getfield 7, 3) := by decide +kernel
theorem dX0_before_17 : decode cX0_before 17 = .ok (.iload_n 1, 1) := by decide +kernel
theorem dX0_before_18 : decode cX0_before 18 = .ok (.bipush 8, 2) := by decide +kernel
theorem dX0_before_20 : decode cX0_before 20 = .ok (.imul, 1) := by decide +kernel
theorem dX0_before_21 : decode cX0_before 21 = .ok (.iload 4, 2) := by decide +kernel
theorem dX0_before_23 : decode cX0_before 23 = .ok (.iadd, 1) := by decide +kernel
theorem dX0_before_24 : decode cX0_before 24 = .ok (.saload, 1) := by decide +kernel
theorem dX0_before_25 : decode cX0_before 25 = .ok (.iload_n 2, 1) := by decide +kernel
theorem dX0_before_26 : decode cX0_before 26 = .ok (.iand, 1) := by decide +kernel
theorem dX0_before_27 : decode cX0_before 27 = .ok (.ifCond .eq 10, 3) := by decide +kernel
theorem dX0_before_30 : decode cX0_before 30 = .ok (.iconst 1, 1) := by decide +kernel
theorem dX0_before_31 : decode cX0_before 31 = .ok (.iload 4, 2) := by decide +kernel
theorem dX0_before_33 : decode cX0_before 33 = .ok (.ishl, 1) := by decide +kernel
theorem dX0_before_34 : decode cX0_before 34 = .ok (.goto 4, 3) := by decide +kernel
theorem dX0_before_37 : decode cX0_before 37 = .ok (.iconst 0, 1) := by decide +kernel
theorem dX0_before_38 : decode cX0_before 38 = .ok (.ior, 1) := by decide +kernel
theorem dX0_before_39 : decode cX0_before 39 = .ok (.istore_n 3, 1) := by decide +kernel
theorem dX0_before_40 : decode cX0_before 40 = .ok (.iinc 4 1, 3) := by decide +kernel
theorem dX0_before_43 : decode cX0_before 43 = .ok (.goto (-38), 3) := by decide +kernel
theorem dX0_before_46 : decode cX0_before 46 = .ok (.iload_n 3, 1) := by decide +kernel
theorem dX0_before_47 : decode cX0_before 47 = .ok (.ireturn, 1) := by decide +kernel
abbrev cX0_followers : ByteArray := prog_1_method_33_code
def yX0_followers : MethodName := ⟨RX0, "followers", "(I)I"⟩
theorem dX0_followers_0 : decode cX0_followers 0 = .ok (.iload_n 1, 1) := by decide +kernel
theorem dX0_followers_1 : decode cX0_followers 1 = .ok (.invokestatic 29, 3) := by decide +kernel
theorem dX0_followers_4 : decode cX0_followers 4 = .ok (.ifCond .ne 5, 3) := by decide +kernel
theorem dX0_followers_7 : decode cX0_followers 7 = .ok (.iconst 0, 1) := by decide +kernel
theorem dX0_followers_8 : decode cX0_followers 8 = .ok (.ireturn, 1) := by decide +kernel
theorem dX0_followers_9 : decode cX0_followers 9 = .ok (.aload_n 0, 1) := by decide +kernel
theorem dX0_followers_10 : decode cX0_followers 10 = .ok (.invokevirtual 98, 3) := by decide +kernel
theorem dX0_followers_13 : decode cX0_followers 13 = .ok (.aload_n 0, 1) := by decide +kernel
theorem dX0_followers_14 : decode cX0_followers 14 = .ok (.getfield 26, 3) := by decide +kernel
theorem dX0_followers_17 : decode cX0_followers 17 = .ok (.iload_n 1, 1) := by decide +kernel
theorem dX0_followers_18 : decode cX0_followers 18 = .ok (.saload, 1) := by decide +kernel
theorem dX0_followers_19 : decode cX0_followers 19 = .ok (.ireturn, 1) := by decide +kernel
abbrev cX0_silently : ByteArray := prog_1_method_34_code
def yX0_silently : MethodName := ⟨RX0, "silently", "(I)I"⟩
theorem dX0_silently_0 : decode cX0_silently 0 = .ok (.iload_n 1, 1) := by decide +kernel
theorem dX0_silently_1 : decode cX0_silently 1 = .ok (.invokestatic 29, 3) := by decide +kernel
theorem dX0_silently_4 : decode cX0_silently 4 = .ok (.ifCond .eq 11, 3) := by decide +kernel
theorem dX0_silently_7 : decode cX0_silently 7 = .ok (.aload_n 0, 1) := by decide +kernel
theorem dX0_silently_8 : decode cX0_silently 8 = .ok (.iload_n 1, 1) := by decide +kernel
theorem dX0_silently_9 : decode cX0_silently 9 = .ok (.invokevirtual 52, 3) := by decide +kernel
theorem dX0_silently_12 : decode cX0_silently 12 = .ok (.goto 4, 3) := by decide +kernel
theorem dX0_silently_15 : decode cX0_silently 15 = .ok (.iconst 0, 1) := by decide +kernel
theorem dX0_silently_16 : decode cX0_silently 16 = .ok (.ireturn, 1) := by decide +kernel
abbrev cX0_idle : ByteArray := prog_1_method_35_code
def yX0_idle : MethodName := ⟨RX0, "idle", "(III)Z"⟩
theorem dX0_idle_0 : decode cX0_idle 0 = .ok (.iload_n 1, 1) := by decide +kernel
theorem dX0_idle_1 : decode cX0_idle 1 = .ok (.iload_n 2, 1) := by decide +kernel
theorem dX0_idle_2 : decode cX0_idle 2 = .ok (.iload_n 3, 1) := by decide +kernel
theorem dX0_idle_3 : decode cX0_idle 3 = .ok (.invokestatic 37, 3) := by decide +kernel
theorem dX0_idle_6 : decode cX0_idle 6 = .ok (.ifCond .eq 13, 3) := by decide +kernel
theorem dX0_idle_9 : decode cX0_idle 9 = .ok (.aload_n 0, 1) := by decide +kernel
theorem dX0_idle_10 : decode cX0_idle 10 = .ok (.iload_n 1, 1) := by decide +kernel
theorem dX0_idle_11 : decode cX0_idle 11 = .ok (.iload_n 2, 1) := by decide +kernel
theorem dX0_idle_12 : decode cX0_idle 12 = .ok (.iload_n 3, 1) := by decide +kernel
theorem dX0_idle_13 : decode cX0_idle 13 = .ok (.invokevirtual 41, 3) := by decide +kernel
theorem dX0_idle_16 : decode cX0_idle 16 = .ok (.ifCond .ne 5, 3) := by decide +kernel
theorem dX0_idle_19 : decode cX0_idle 19 = .ok (.iconst 0, 1) := by decide +kernel
theorem dX0_idle_20 : decode cX0_idle 20 = .ok (.ireturn, 1) := by decide +kernel
theorem dX0_idle_21 : decode cX0_idle 21 = .ok (.aload_n 0, 1) := by decide +kernel
theorem dX0_idle_22 : decode cX0_idle 22 = .ok (.iconst 0, 1) := by decide +kernel
theorem dX0_idle_23 : decode cX0_idle 23 = .ok (.invokevirtual 81, 3) := by decide +kernel
theorem dX0_idle_26 : decode cX0_idle 26 = .ok (.aload_n 0, 1) := by decide +kernel
theorem dX0_idle_27 : decode cX0_idle 27 = .ok (.invokevirtual 101, 3) := by decide +kernel
theorem dX0_idle_30 : decode cX0_idle 30 = .ok (.lstore 4, 2) := by decide +kernel
theorem dX0_idle_32 : decode cX0_idle 32 = .ok (.aload_n 0, 1) := by decide +kernel
theorem dX0_idle_33 : decode cX0_idle 33 = .ok (.iload_n 1, 1) := by decide +kernel
theorem dX0_idle_34 : decode cX0_idle 34 = .ok (.iload_n 2, 1) := by decide +kernel
theorem dX0_idle_35 : decode cX0_idle 35 = .ok (.iload_n 3, 1) := by decide +kernel
theorem dX0_idle_36 : decode cX0_idle 36 = .ok (.invokevirtual 44, 3) := by decide +kernel
theorem dX0_idle_39 : decode cX0_idle 39 = .ok (.aload_n 0, 1) := by decide +kernel
theorem dX0_idle_40 : decode cX0_idle 40 = .ok (.iconst 0, 1) := by decide +kernel
theorem dX0_idle_41 : decode cX0_idle 41 = .ok (.invokevirtual 81, 3) := by decide +kernel
theorem dX0_idle_44 : decode cX0_idle 44 = .ok (.aload_n 0, 1) := by decide +kernel
theorem dX0_idle_45 : decode cX0_idle 45 = .ok (.invokevirtual 101, 3) := by decide +kernel
theorem dX0_idle_48 : decode cX0_idle 48 = .ok (.lstore 6, 2) := by decide +kernel
theorem dX0_idle_50 : decode cX0_idle 50 = .ok (.aload_n 0, 1) := by decide +kernel
theorem dX0_idle_51 : decode cX0_idle 51 = .ok (.iload_n 1, 1) := by decide +kernel
theorem dX0_idle_52 : decode cX0_idle 52 = .ok (.iload_n 2, 1) := by decide +kernel
theorem dX0_idle_53 : decode cX0_idle 53 = .ok (.iload_n 3, 1) := by decide +kernel
theorem dX0_idle_54 : decode cX0_idle 54 = .ok (.invokevirtual 44, 3) := by decide +kernel
theorem dX0_idle_57 : decode cX0_idle 57 = .ok (.lload 4, 2) := by decide +kernel
theorem dX0_idle_59 : decode cX0_idle 59 = .ok (.lload 6, 2) := by decide +kernel
theorem dX0_idle_61 : decode cX0_idle 61 = .ok (.lcmp, 1) := by decide +kernel
theorem dX0_idle_62 : decode cX0_idle 62 = .ok (.ifCond .ne 7, 3) := by decide +kernel
theorem dX0_idle_65 : decode cX0_idle 65 = .ok (.iconst 1, 1) := by decide +kernel
theorem dX0_idle_66 : decode cX0_idle 66 = .ok (.goto 4, 3) := by decide +kernel
theorem dX0_idle_69 : decode cX0_idle 69 = .ok (.iconst 0, 1) := by decide +kernel
theorem dX0_idle_70 : decode cX0_idle 70 = .ok (.ireturn, 1) := by decide +kernel
abbrev cX0_written : ByteArray := prog_1_method_36_code
def yX0_written : MethodName := ⟨RX0, "written", "()J"⟩
theorem dX0_written_0 : decode cX0_written 0 = .ok (.lconst 0, 1) := by decide +kernel
theorem dX0_written_1 : decode cX0_written 1 = .ok (.lstore_n 1, 1) := by decide +kernel
theorem dX0_written_2 : decode cX0_written 2 = .ok (.iconst 0, 1) := by decide +kernel
theorem dX0_written_3 : decode cX0_written 3 = .ok (.istore_n 3, 1) := by decide +kernel
theorem dX0_written_4 : decode cX0_written 4 = .ok (.iload_n 3, 1) := by decide +kernel
theorem dX0_written_5 : decode cX0_written 5 = .ok (.bipush 8, 2) := by decide +kernel
theorem dX0_written_7 : decode cX0_written 7 = .ok (.if_icmp .ge 23, 3) := by decide +kernel
theorem dX0_written_10 : decode cX0_written 10 = .ok (.lload_n 1, 1) := by decide +kernel
theorem dX0_written_11 : decode cX0_written 11 = .ok (.ldc2_w 105, 3) := by decide +kernel
theorem dX0_written_14 : decode cX0_written 14 = .ok (.lmul, 1) := by decide +kernel
theorem dX0_written_15 : decode cX0_written 15 = .ok (.aload_n 0, 1) := by decide +kernel
theorem dX0_written_16 : decode cX0_written 16 = .ok (.getfield 16, 3) := by decide +kernel
theorem dX0_written_19 : decode cX0_written 19 = .ok (.iload_n 3, 1) := by decide +kernel
theorem dX0_written_20 : decode cX0_written 20 = .ok (.baload, 1) := by decide +kernel
theorem dX0_written_21 : decode cX0_written 21 = .ok (.i2l, 1) := by decide +kernel
theorem dX0_written_22 : decode cX0_written 22 = .ok (.ladd, 1) := by decide +kernel
theorem dX0_written_23 : decode cX0_written 23 = .ok (.lstore_n 1, 1) := by decide +kernel
theorem dX0_written_24 : decode cX0_written 24 = .ok (.iinc 3 1, 3) := by decide +kernel
theorem dX0_written_27 : decode cX0_written 27 = .ok (.goto (-23), 3) := by decide +kernel
theorem dX0_written_30 : decode cX0_written 30 = .ok (.lload_n 1, 1) := by decide +kernel
theorem dX0_written_31 : decode cX0_written 31 = .ok (.lreturn, 1) := by decide +kernel
theorem q32 : (Jvm.Cond.initialized "ProcessEquiv") ∈ lw_all := lw_g (lw_at lw_m1 1 rfl) rfl
theorem q35 : (Jvm.Cond.instantiable "ProcessEquiv" (7 : Nat)) ∈ lw_all := lw_g (lw_at lw_m1 4 rfl) rfl
theorem q37 : (Jvm.Cond.instanceMethod ({ cls := "ProcessEquiv", name := "<init>", desc := "()V" } : Jvm.MethodName)) ∈ lw_all := lw_g (lw_at lw_m1 6 rfl) rfl
theorem q38 : (Jvm.Cond.code ({ cls := "ProcessEquiv", name := "<init>", desc := "()V" } : Jvm.MethodName) prog_1_method_1_code (1 : Nat) (Option.none : Option Jvm.ClassFile.FieldType)) ∈ lw_all := lw_g (lw_at lw_m1 7 rfl) rfl
theorem q39 : (Jvm.Cond.methodLink "ProcessEquiv" (1 : Nat) ({ cls := "java/lang/Object", name := "<init>", desc := "()V" } : Jvm.MethodName)) ∈ lw_all := lw_g (lw_at lw_m1 8 rfl) rfl
theorem q42 : (Jvm.Cond.fieldLink "ProcessEquiv" (7 : Nat) "ProcessEquiv" "next" "[S") ∈ lw_all := lw_g (lw_at lw_m1 11 rfl) rfl
theorem q43 : (Jvm.Cond.fieldLink "ProcessEquiv" (13 : Nat) "ProcessEquiv" "longNext" "[S") ∈ lw_all := lw_g (lw_at lw_m1 12 rfl) rfl
theorem q44 : (Jvm.Cond.fieldLink "ProcessEquiv" (16 : Nat) "ProcessEquiv" "groupOf" "[B") ∈ lw_all := lw_g (lw_at lw_m1 13 rfl) rfl
theorem q45 : (Jvm.Cond.fieldLink "ProcessEquiv" (20 : Nat) "ProcessEquiv" "newGroup" "[B") ∈ lw_all := lw_g (lw_at lw_m1 14 rfl) rfl
theorem q46 : (Jvm.Cond.fieldLink "ProcessEquiv" (23 : Nat) "ProcessEquiv" "toldRound" "[B") ∈ lw_all := lw_g (lw_at lw_m1 15 rfl) rfl
theorem q47 : (Jvm.Cond.fieldLink "ProcessEquiv" (67 : Nat) "ProcessEquiv" "lastRound" "I") ∈ lw_all := lw_g (lw_at lw_m1 16 rfl) rfl
theorem q48 : (Jvm.Cond.fieldLink "ProcessEquiv" (26 : Nat) "ProcessEquiv" "followerSets" "[S") ∈ lw_all := lw_g (lw_at lw_m1 17 rfl) rfl
theorem q49 : (Jvm.Cond.laysFinal "ProcessEquiv" "ProcessEquiv" "next" "[S") ∈ lw_all := lw_g (lw_at lw_m1 18 rfl) rfl
theorem q50 : (Jvm.Cond.soleField "ProcessEquiv" "next") ∈ lw_all := lw_g (lw_at lw_m1 19 rfl) rfl
theorem q51 : (Jvm.Cond.laysFinal "ProcessEquiv" "ProcessEquiv" "longNext" "[S") ∈ lw_all := lw_g (lw_at lw_m1 20 rfl) rfl
theorem q52 : (Jvm.Cond.soleField "ProcessEquiv" "longNext") ∈ lw_all := lw_g (lw_at lw_m1 21 rfl) rfl
theorem q53 : (Jvm.Cond.laysFinal "ProcessEquiv" "ProcessEquiv" "groupOf" "[B") ∈ lw_all := lw_g (lw_at lw_m1 22 rfl) rfl
theorem q54 : (Jvm.Cond.soleField "ProcessEquiv" "groupOf") ∈ lw_all := lw_g (lw_at lw_m1 23 rfl) rfl
theorem q55 : (Jvm.Cond.laysFinal "ProcessEquiv" "ProcessEquiv" "newGroup" "[B") ∈ lw_all := lw_g (lw_at lw_m1 24 rfl) rfl
theorem q56 : (Jvm.Cond.soleField "ProcessEquiv" "newGroup") ∈ lw_all := lw_g (lw_at lw_m1 25 rfl) rfl
theorem q57 : (Jvm.Cond.laysFinal "ProcessEquiv" "ProcessEquiv" "toldRound" "[B") ∈ lw_all := lw_g (lw_at lw_m1 26 rfl) rfl
theorem q58 : (Jvm.Cond.soleField "ProcessEquiv" "toldRound") ∈ lw_all := lw_g (lw_at lw_m1 27 rfl) rfl
theorem q59 : (Jvm.Cond.lays "ProcessEquiv" "ProcessEquiv" "lastRound" "I") ∈ lw_all := lw_g (lw_at lw_m1 28 rfl) rfl
theorem q60 : (Jvm.Cond.soleField "ProcessEquiv" "lastRound") ∈ lw_all := lw_g (lw_at lw_m1 29 rfl) rfl
theorem q61 : (Jvm.Cond.laysFinal "ProcessEquiv" "ProcessEquiv" "followerSets" "[S") ∈ lw_all := lw_g (lw_at lw_m1 30 rfl) rfl
theorem q62 : (Jvm.Cond.soleField "ProcessEquiv" "followerSets") ∈ lw_all := lw_g (lw_at lw_m1 31 rfl) rfl
theorem q63 : (Jvm.Cond.superclass "ProcessEquiv" "java/lang/Object") ∈ lw_all := lw_g (lw_at lw_m1 32 rfl) rfl
theorem q67 : (Jvm.Cond.instanceMethod ({ cls := "ProcessEquiv", name := "join", desc := "(III)Z" } : Jvm.MethodName)) ∈ lw_all := lw_g (lw_at lw_m1 36 rfl) rfl
theorem q68 : (Jvm.Cond.selects "ProcessEquiv" ({ cls := "ProcessEquiv", name := "join", desc := "(III)Z" } : Jvm.MethodName) ({ cls := "ProcessEquiv", name := "join", desc := "(III)Z" } : Jvm.MethodName)) ∈ lw_all := lw_g (lw_at lw_m1 37 rfl) rfl
theorem q69 : (Jvm.Cond.code ({ cls := "ProcessEquiv", name := "join", desc := "(III)Z" } : Jvm.MethodName) prog_1_method_7_code (4 : Nat) (Option.some Jvm.ClassFile.FieldType.boolean)) ∈ lw_all := lw_g (lw_at lw_m1 38 rfl) rfl
theorem q70 : (Jvm.Cond.methodLink "ProcessEquiv" (37 : Nat) ({ cls := "ProcessEquiv", name := "isStep", desc := "(III)Z" } : Jvm.MethodName)) ∈ lw_all := lw_g (lw_at lw_m1 39 rfl) rfl
theorem q71 : (Jvm.Cond.static ({ cls := "ProcessEquiv", name := "isStep", desc := "(III)Z" } : Jvm.MethodName)) ∈ lw_all := lw_g (lw_at lw_m1 40 rfl) rfl
theorem q72 : (Jvm.Cond.code ({ cls := "ProcessEquiv", name := "isStep", desc := "(III)Z" } : Jvm.MethodName) prog_1_method_3_code (3 : Nat) (Option.some Jvm.ClassFile.FieldType.boolean)) ∈ lw_all := lw_g (lw_at lw_m1 41 rfl) rfl
theorem q73 : (Jvm.Cond.methodLink "ProcessEquiv" (29 : Nat) ({ cls := "ProcessEquiv", name := "isState", desc := "(I)Z" } : Jvm.MethodName)) ∈ lw_all := lw_g (lw_at lw_m1 42 rfl) rfl
theorem q74 : (Jvm.Cond.static ({ cls := "ProcessEquiv", name := "isState", desc := "(I)Z" } : Jvm.MethodName)) ∈ lw_all := lw_g (lw_at lw_m1 43 rfl) rfl
theorem q75 : (Jvm.Cond.code ({ cls := "ProcessEquiv", name := "isState", desc := "(I)Z" } : Jvm.MethodName) prog_1_method_2_code (1 : Nat) (Option.some Jvm.ClassFile.FieldType.boolean)) ∈ lw_all := lw_g (lw_at lw_m1 44 rfl) rfl
theorem q76 : (Jvm.Cond.methodLink "ProcessEquiv" (41 : Nat) ({ cls := "ProcessEquiv", name := "hasStep", desc := "(III)Z" } : Jvm.MethodName)) ∈ lw_all := lw_g (lw_at lw_m1 45 rfl) rfl
theorem q77 : (Jvm.Cond.privateMethod ({ cls := "ProcessEquiv", name := "hasStep", desc := "(III)Z" } : Jvm.MethodName)) ∈ lw_tbl := lw_at lw_m1 46 rfl
theorem q78 : (Jvm.Cond.instanceMethod ({ cls := "ProcessEquiv", name := "hasStep", desc := "(III)Z" } : Jvm.MethodName)) ∈ lw_all := lw_g (lw_at lw_m1 47 rfl) rfl
theorem q79 : (Jvm.Cond.code ({ cls := "ProcessEquiv", name := "hasStep", desc := "(III)Z" } : Jvm.MethodName) prog_1_method_5_code (4 : Nat) (Option.some Jvm.ClassFile.FieldType.boolean)) ∈ lw_all := lw_g (lw_at lw_m1 48 rfl) rfl
theorem q80 : (Jvm.Cond.methodLink "ProcessEquiv" (33 : Nat) ({ cls := "ProcessEquiv", name := "in", desc := "(II)Z" } : Jvm.MethodName)) ∈ lw_all := lw_g (lw_at lw_m1 49 rfl) rfl
theorem q81 : (Jvm.Cond.static ({ cls := "ProcessEquiv", name := "in", desc := "(II)Z" } : Jvm.MethodName)) ∈ lw_all := lw_g (lw_at lw_m1 50 rfl) rfl
theorem q82 : (Jvm.Cond.code ({ cls := "ProcessEquiv", name := "in", desc := "(II)Z" } : Jvm.MethodName) prog_1_method_4_code (2 : Nat) (Option.some Jvm.ClassFile.FieldType.boolean)) ∈ lw_all := lw_g (lw_at lw_m1 51 rfl) rfl
theorem q83 : (Jvm.Cond.methodLink "ProcessEquiv" (44 : Nat) ({ cls := "ProcessEquiv", name := "turn", desc := "(III)V" } : Jvm.MethodName)) ∈ lw_all := lw_g (lw_at lw_m1 52 rfl) rfl
theorem q84 : (Jvm.Cond.privateMethod ({ cls := "ProcessEquiv", name := "turn", desc := "(III)V" } : Jvm.MethodName)) ∈ lw_tbl := lw_at lw_m1 53 rfl
theorem q85 : (Jvm.Cond.instanceMethod ({ cls := "ProcessEquiv", name := "turn", desc := "(III)V" } : Jvm.MethodName)) ∈ lw_all := lw_g (lw_at lw_m1 54 rfl) rfl
theorem q86 : (Jvm.Cond.code ({ cls := "ProcessEquiv", name := "turn", desc := "(III)V" } : Jvm.MethodName) prog_1_method_6_code (5 : Nat) (Option.none : Option Jvm.ClassFile.FieldType)) ∈ lw_all := lw_g (lw_at lw_m1 55 rfl) rfl
theorem q88 : (Jvm.Cond.instanceMethod ({ cls := "ProcessEquiv", name := "cut", desc := "(III)Z" } : Jvm.MethodName)) ∈ lw_all := lw_g (lw_at lw_m1 57 rfl) rfl
theorem q89 : (Jvm.Cond.selects "ProcessEquiv" ({ cls := "ProcessEquiv", name := "cut", desc := "(III)Z" } : Jvm.MethodName) ({ cls := "ProcessEquiv", name := "cut", desc := "(III)Z" } : Jvm.MethodName)) ∈ lw_all := lw_g (lw_at lw_m1 58 rfl) rfl
theorem q90 : (Jvm.Cond.code ({ cls := "ProcessEquiv", name := "cut", desc := "(III)Z" } : Jvm.MethodName) prog_1_method_8_code (4 : Nat) (Option.some Jvm.ClassFile.FieldType.boolean)) ∈ lw_all := lw_g (lw_at lw_m1 59 rfl) rfl
theorem q92 : (Jvm.Cond.instanceMethod ({ cls := "ProcessEquiv", name := "steps", desc := "()I" } : Jvm.MethodName)) ∈ lw_all := lw_g (lw_at lw_m1 61 rfl) rfl
theorem q93 : (Jvm.Cond.selects "ProcessEquiv" ({ cls := "ProcessEquiv", name := "steps", desc := "()I" } : Jvm.MethodName) ({ cls := "ProcessEquiv", name := "steps", desc := "()I" } : Jvm.MethodName)) ∈ lw_all := lw_g (lw_at lw_m1 62 rfl) rfl
theorem q94 : (Jvm.Cond.code ({ cls := "ProcessEquiv", name := "steps", desc := "()I" } : Jvm.MethodName) prog_1_method_10_code (3 : Nat) (Option.some Jvm.ClassFile.FieldType.int)) ∈ lw_all := lw_g (lw_at lw_m1 63 rfl) rfl
theorem q95 : (Jvm.Cond.methodLink "ProcessEquiv" (48 : Nat) ({ cls := "ProcessEquiv", name := "ones", desc := "(I)I" } : Jvm.MethodName)) ∈ lw_all := lw_g (lw_at lw_m1 64 rfl) rfl
theorem q96 : (Jvm.Cond.static ({ cls := "ProcessEquiv", name := "ones", desc := "(I)I" } : Jvm.MethodName)) ∈ lw_all := lw_g (lw_at lw_m1 65 rfl) rfl
theorem q97 : (Jvm.Cond.code ({ cls := "ProcessEquiv", name := "ones", desc := "(I)I" } : Jvm.MethodName) prog_1_method_9_code (3 : Nat) (Option.some Jvm.ClassFile.FieldType.int)) ∈ lw_all := lw_g (lw_at lw_m1 66 rfl) rfl
theorem q99 : (Jvm.Cond.instanceMethod ({ cls := "ProcessEquiv", name := "after", desc := "(II)I" } : Jvm.MethodName)) ∈ lw_all := lw_g (lw_at lw_m1 68 rfl) rfl
theorem q100 : (Jvm.Cond.selects "ProcessEquiv" ({ cls := "ProcessEquiv", name := "after", desc := "(II)I" } : Jvm.MethodName) ({ cls := "ProcessEquiv", name := "after", desc := "(II)I" } : Jvm.MethodName)) ∈ lw_all := lw_g (lw_at lw_m1 69 rfl) rfl
theorem q101 : (Jvm.Cond.code ({ cls := "ProcessEquiv", name := "after", desc := "(II)I" } : Jvm.MethodName) prog_1_method_11_code (3 : Nat) (Option.some Jvm.ClassFile.FieldType.int)) ∈ lw_all := lw_g (lw_at lw_m1 70 rfl) rfl
theorem q103 : (Jvm.Cond.instanceMethod ({ cls := "ProcessEquiv", name := "alike", desc := "(II)Z" } : Jvm.MethodName)) ∈ lw_all := lw_g (lw_at lw_m1 72 rfl) rfl
theorem q104 : (Jvm.Cond.selects "ProcessEquiv" ({ cls := "ProcessEquiv", name := "alike", desc := "(II)Z" } : Jvm.MethodName) ({ cls := "ProcessEquiv", name := "alike", desc := "(II)Z" } : Jvm.MethodName)) ∈ lw_all := lw_g (lw_at lw_m1 73 rfl) rfl
theorem q105 : (Jvm.Cond.code ({ cls := "ProcessEquiv", name := "alike", desc := "(II)Z" } : Jvm.MethodName) prog_1_method_22_code (3 : Nat) (Option.some Jvm.ClassFile.FieldType.boolean)) ∈ lw_all := lw_g (lw_at lw_m1 74 rfl) rfl
theorem q106 : (Jvm.Cond.methodLink "ProcessEquiv" (81 : Nat) ({ cls := "ProcessEquiv", name := "divide", desc := "(Z)V" } : Jvm.MethodName)) ∈ lw_all := lw_g (lw_at lw_m1 75 rfl) rfl
theorem q107 : (Jvm.Cond.privateMethod ({ cls := "ProcessEquiv", name := "divide", desc := "(Z)V" } : Jvm.MethodName)) ∈ lw_tbl := lw_at lw_m1 76 rfl
theorem q108 : (Jvm.Cond.instanceMethod ({ cls := "ProcessEquiv", name := "divide", desc := "(Z)V" } : Jvm.MethodName)) ∈ lw_all := lw_g (lw_at lw_m1 77 rfl) rfl
theorem q109 : (Jvm.Cond.code ({ cls := "ProcessEquiv", name := "divide", desc := "(Z)V" } : Jvm.MethodName) prog_1_method_18_code (5 : Nat) (Option.none : Option Jvm.ClassFile.FieldType)) ∈ lw_all := lw_g (lw_at lw_m1 78 rfl) rfl
theorem q110 : (Jvm.Cond.methodLink "ProcessEquiv" (71 : Nat) ({ cls := "ProcessEquiv", name := "placeFor", desc := "(ZI)I" } : Jvm.MethodName)) ∈ lw_all := lw_g (lw_at lw_m1 79 rfl) rfl
theorem q111 : (Jvm.Cond.privateMethod ({ cls := "ProcessEquiv", name := "placeFor", desc := "(ZI)I" } : Jvm.MethodName)) ∈ lw_tbl := lw_at lw_m1 80 rfl
theorem q112 : (Jvm.Cond.instanceMethod ({ cls := "ProcessEquiv", name := "placeFor", desc := "(ZI)I" } : Jvm.MethodName)) ∈ lw_all := lw_g (lw_at lw_m1 81 rfl) rfl
theorem q113 : (Jvm.Cond.code ({ cls := "ProcessEquiv", name := "placeFor", desc := "(ZI)I" } : Jvm.MethodName) prog_1_method_19_code (4 : Nat) (Option.some Jvm.ClassFile.FieldType.int)) ∈ lw_all := lw_g (lw_at lw_m1 82 rfl) rfl
theorem q114 : (Jvm.Cond.methodLink "ProcessEquiv" (77 : Nat) ({ cls := "ProcessEquiv", name := "staysTogether", desc := "(ZII)Z" } : Jvm.MethodName)) ∈ lw_all := lw_g (lw_at lw_m1 83 rfl) rfl
theorem q115 : (Jvm.Cond.privateMethod ({ cls := "ProcessEquiv", name := "staysTogether", desc := "(ZII)Z" } : Jvm.MethodName)) ∈ lw_tbl := lw_at lw_m1 84 rfl
theorem q116 : (Jvm.Cond.instanceMethod ({ cls := "ProcessEquiv", name := "staysTogether", desc := "(ZII)Z" } : Jvm.MethodName)) ∈ lw_all := lw_g (lw_at lw_m1 85 rfl) rfl
theorem q117 : (Jvm.Cond.code ({ cls := "ProcessEquiv", name := "staysTogether", desc := "(ZII)Z" } : Jvm.MethodName) prog_1_method_17_code (6 : Nat) (Option.some Jvm.ClassFile.FieldType.boolean)) ∈ lw_all := lw_g (lw_at lw_m1 86 rfl) rfl
theorem q118 : (Jvm.Cond.methodLink "ProcessEquiv" (63 : Nat) ({ cls := "ProcessEquiv", name := "groupsAfter", desc := "(ZII)I" } : Jvm.MethodName)) ∈ lw_all := lw_g (lw_at lw_m1 87 rfl) rfl
theorem q119 : (Jvm.Cond.privateMethod ({ cls := "ProcessEquiv", name := "groupsAfter", desc := "(ZII)I" } : Jvm.MethodName)) ∈ lw_tbl := lw_at lw_m1 88 rfl
theorem q120 : (Jvm.Cond.instanceMethod ({ cls := "ProcessEquiv", name := "groupsAfter", desc := "(ZII)I" } : Jvm.MethodName)) ∈ lw_all := lw_g (lw_at lw_m1 89 rfl) rfl
theorem q121 : (Jvm.Cond.code ({ cls := "ProcessEquiv", name := "groupsAfter", desc := "(ZII)I" } : Jvm.MethodName) prog_1_method_16_code (7 : Nat) (Option.some Jvm.ClassFile.FieldType.int)) ∈ lw_all := lw_g (lw_at lw_m1 90 rfl) rfl
theorem q122 : (Jvm.Cond.methodLink "ProcessEquiv" (59 : Nat) ({ cls := "ProcessEquiv", name := "target", desc := "(ZI)I" } : Jvm.MethodName)) ∈ lw_all := lw_g (lw_at lw_m1 91 rfl) rfl
theorem q123 : (Jvm.Cond.privateMethod ({ cls := "ProcessEquiv", name := "target", desc := "(ZI)I" } : Jvm.MethodName)) ∈ lw_tbl := lw_at lw_m1 92 rfl
theorem q124 : (Jvm.Cond.instanceMethod ({ cls := "ProcessEquiv", name := "target", desc := "(ZI)I" } : Jvm.MethodName)) ∈ lw_all := lw_g (lw_at lw_m1 93 rfl) rfl
theorem q125 : (Jvm.Cond.code ({ cls := "ProcessEquiv", name := "target", desc := "(ZI)I" } : Jvm.MethodName) prog_1_method_15_code (3 : Nat) (Option.some Jvm.ClassFile.FieldType.int)) ∈ lw_all := lw_g (lw_at lw_m1 94 rfl) rfl
theorem q126 : (Jvm.Cond.methodLink "ProcessEquiv" (74 : Nat) ({ cls := "ProcessEquiv", name := "note", desc := "(II)Z" } : Jvm.MethodName)) ∈ lw_all := lw_g (lw_at lw_m1 95 rfl) rfl
theorem q127 : (Jvm.Cond.privateMethod ({ cls := "ProcessEquiv", name := "note", desc := "(II)Z" } : Jvm.MethodName)) ∈ lw_tbl := lw_at lw_m1 96 rfl
theorem q128 : (Jvm.Cond.instanceMethod ({ cls := "ProcessEquiv", name := "note", desc := "(II)Z" } : Jvm.MethodName)) ∈ lw_all := lw_g (lw_at lw_m1 97 rfl) rfl
theorem q129 : (Jvm.Cond.code ({ cls := "ProcessEquiv", name := "note", desc := "(II)Z" } : Jvm.MethodName) prog_1_method_20_code (5 : Nat) (Option.some Jvm.ClassFile.FieldType.boolean)) ∈ lw_all := lw_g (lw_at lw_m1 98 rfl) rfl
theorem q131 : (Jvm.Cond.instanceMethod ({ cls := "ProcessEquiv", name := "group", desc := "(I)I" } : Jvm.MethodName)) ∈ lw_all := lw_g (lw_at lw_m1 100 rfl) rfl
theorem q132 : (Jvm.Cond.selects "ProcessEquiv" ({ cls := "ProcessEquiv", name := "group", desc := "(I)I" } : Jvm.MethodName) ({ cls := "ProcessEquiv", name := "group", desc := "(I)I" } : Jvm.MethodName)) ∈ lw_all := lw_g (lw_at lw_m1 101 rfl) rfl
theorem q133 : (Jvm.Cond.code ({ cls := "ProcessEquiv", name := "group", desc := "(I)I" } : Jvm.MethodName) prog_1_method_23_code (4 : Nat) (Option.some Jvm.ClassFile.FieldType.int)) ∈ lw_all := lw_g (lw_at lw_m1 102 rfl) rfl
theorem q135 : (Jvm.Cond.instanceMethod ({ cls := "ProcessEquiv", name := "groups", desc := "()I" } : Jvm.MethodName)) ∈ lw_all := lw_g (lw_at lw_m1 104 rfl) rfl
theorem q136 : (Jvm.Cond.selects "ProcessEquiv" ({ cls := "ProcessEquiv", name := "groups", desc := "()I" } : Jvm.MethodName) ({ cls := "ProcessEquiv", name := "groups", desc := "()I" } : Jvm.MethodName)) ∈ lw_all := lw_g (lw_at lw_m1 105 rfl) rfl
theorem q137 : (Jvm.Cond.code ({ cls := "ProcessEquiv", name := "groups", desc := "()I" } : Jvm.MethodName) prog_1_method_24_code (1 : Nat) (Option.some Jvm.ClassFile.FieldType.int)) ∈ lw_all := lw_g (lw_at lw_m1 106 rfl) rfl
theorem q138 : (Jvm.Cond.methodLink "ProcessEquiv" (85 : Nat) ({ cls := "ProcessEquiv", name := "countGroups", desc := "()I" } : Jvm.MethodName)) ∈ lw_all := lw_g (lw_at lw_m1 107 rfl) rfl
theorem q139 : (Jvm.Cond.privateMethod ({ cls := "ProcessEquiv", name := "countGroups", desc := "()I" } : Jvm.MethodName)) ∈ lw_tbl := lw_at lw_m1 108 rfl
theorem q140 : (Jvm.Cond.instanceMethod ({ cls := "ProcessEquiv", name := "countGroups", desc := "()I" } : Jvm.MethodName)) ∈ lw_all := lw_g (lw_at lw_m1 109 rfl) rfl
theorem q141 : (Jvm.Cond.code ({ cls := "ProcessEquiv", name := "countGroups", desc := "()I" } : Jvm.MethodName) prog_1_method_21_code (3 : Nat) (Option.some Jvm.ClassFile.FieldType.int)) ∈ lw_all := lw_g (lw_at lw_m1 110 rfl) rfl
theorem q143 : (Jvm.Cond.instanceMethod ({ cls := "ProcessEquiv", name := "toldAfter", desc := "(II)I" } : Jvm.MethodName)) ∈ lw_all := lw_g (lw_at lw_m1 112 rfl) rfl
theorem q144 : (Jvm.Cond.selects "ProcessEquiv" ({ cls := "ProcessEquiv", name := "toldAfter", desc := "(II)I" } : Jvm.MethodName) ({ cls := "ProcessEquiv", name := "toldAfter", desc := "(II)I" } : Jvm.MethodName)) ∈ lw_all := lw_g (lw_at lw_m1 113 rfl) rfl
theorem q145 : (Jvm.Cond.code ({ cls := "ProcessEquiv", name := "toldAfter", desc := "(II)I" } : Jvm.MethodName) prog_1_method_25_code (3 : Nat) (Option.some Jvm.ClassFile.FieldType.int)) ∈ lw_all := lw_g (lw_at lw_m1 114 rfl) rfl
theorem q147 : (Jvm.Cond.instanceMethod ({ cls := "ProcessEquiv", name := "rounds", desc := "()I" } : Jvm.MethodName)) ∈ lw_all := lw_g (lw_at lw_m1 116 rfl) rfl
theorem q148 : (Jvm.Cond.selects "ProcessEquiv" ({ cls := "ProcessEquiv", name := "rounds", desc := "()I" } : Jvm.MethodName) ({ cls := "ProcessEquiv", name := "rounds", desc := "()I" } : Jvm.MethodName)) ∈ lw_all := lw_g (lw_at lw_m1 117 rfl) rfl
theorem q149 : (Jvm.Cond.code ({ cls := "ProcessEquiv", name := "rounds", desc := "()I" } : Jvm.MethodName) prog_1_method_26_code (1 : Nat) (Option.some Jvm.ClassFile.FieldType.int)) ∈ lw_all := lw_g (lw_at lw_m1 118 rfl) rfl
theorem q151 : (Jvm.Cond.instanceMethod ({ cls := "ProcessEquiv", name := "looselyAlike", desc := "(II)Z" } : Jvm.MethodName)) ∈ lw_all := lw_g (lw_at lw_m1 120 rfl) rfl
theorem q152 : (Jvm.Cond.selects "ProcessEquiv" ({ cls := "ProcessEquiv", name := "looselyAlike", desc := "(II)Z" } : Jvm.MethodName) ({ cls := "ProcessEquiv", name := "looselyAlike", desc := "(II)Z" } : Jvm.MethodName)) ∈ lw_all := lw_g (lw_at lw_m1 121 rfl) rfl
theorem q153 : (Jvm.Cond.code ({ cls := "ProcessEquiv", name := "looselyAlike", desc := "(II)Z" } : Jvm.MethodName) prog_1_method_27_code (3 : Nat) (Option.some Jvm.ClassFile.FieldType.boolean)) ∈ lw_all := lw_g (lw_at lw_m1 122 rfl) rfl
theorem q154 : (Jvm.Cond.methodLink "ProcessEquiv" (89 : Nat) ({ cls := "ProcessEquiv", name := "lengthen", desc := "()V" } : Jvm.MethodName)) ∈ lw_all := lw_g (lw_at lw_m1 123 rfl) rfl
theorem q155 : (Jvm.Cond.privateMethod ({ cls := "ProcessEquiv", name := "lengthen", desc := "()V" } : Jvm.MethodName)) ∈ lw_tbl := lw_at lw_m1 124 rfl
theorem q156 : (Jvm.Cond.instanceMethod ({ cls := "ProcessEquiv", name := "lengthen", desc := "()V" } : Jvm.MethodName)) ∈ lw_all := lw_g (lw_at lw_m1 125 rfl) rfl
theorem q157 : (Jvm.Cond.code ({ cls := "ProcessEquiv", name := "lengthen", desc := "()V" } : Jvm.MethodName) prog_1_method_13_code (3 : Nat) (Option.none : Option Jvm.ClassFile.FieldType)) ∈ lw_all := lw_g (lw_at lw_m1 126 rfl) rfl
theorem q158 : (Jvm.Cond.methodLink "ProcessEquiv" (52 : Nat) ({ cls := "ProcessEquiv", name := "silentFrom", desc := "(I)I" } : Jvm.MethodName)) ∈ lw_all := lw_g (lw_at lw_m1 127 rfl) rfl
theorem q159 : (Jvm.Cond.privateMethod ({ cls := "ProcessEquiv", name := "silentFrom", desc := "(I)I" } : Jvm.MethodName)) ∈ lw_tbl := lw_at lw_m1 128 rfl
theorem q160 : (Jvm.Cond.instanceMethod ({ cls := "ProcessEquiv", name := "silentFrom", desc := "(I)I" } : Jvm.MethodName)) ∈ lw_all := lw_g (lw_at lw_m1 129 rfl) rfl
theorem q161 : (Jvm.Cond.code ({ cls := "ProcessEquiv", name := "silentFrom", desc := "(I)I" } : Jvm.MethodName) prog_1_method_12_code (5 : Nat) (Option.some Jvm.ClassFile.FieldType.int)) ∈ lw_all := lw_g (lw_at lw_m1 130 rfl) rfl
theorem q162 : (Jvm.Cond.methodLink "ProcessEquiv" (55 : Nat) ({ cls := "ProcessEquiv", name := "longFrom", desc := "(II)I" } : Jvm.MethodName)) ∈ lw_all := lw_g (lw_at lw_m1 131 rfl) rfl
theorem q163 : (Jvm.Cond.privateMethod ({ cls := "ProcessEquiv", name := "longFrom", desc := "(II)I" } : Jvm.MethodName)) ∈ lw_tbl := lw_at lw_m1 132 rfl
theorem q164 : (Jvm.Cond.instanceMethod ({ cls := "ProcessEquiv", name := "longFrom", desc := "(II)I" } : Jvm.MethodName)) ∈ lw_all := lw_g (lw_at lw_m1 133 rfl) rfl
theorem q165 : (Jvm.Cond.code ({ cls := "ProcessEquiv", name := "longFrom", desc := "(II)I" } : Jvm.MethodName) prog_1_method_14_code (6 : Nat) (Option.some Jvm.ClassFile.FieldType.int)) ∈ lw_all := lw_g (lw_at lw_m1 134 rfl) rfl
theorem q167 : (Jvm.Cond.instanceMethod ({ cls := "ProcessEquiv", name := "looseGroups", desc := "()I" } : Jvm.MethodName)) ∈ lw_all := lw_g (lw_at lw_m1 136 rfl) rfl
theorem q168 : (Jvm.Cond.selects "ProcessEquiv" ({ cls := "ProcessEquiv", name := "looseGroups", desc := "()I" } : Jvm.MethodName) ({ cls := "ProcessEquiv", name := "looseGroups", desc := "()I" } : Jvm.MethodName)) ∈ lw_all := lw_g (lw_at lw_m1 137 rfl) rfl
theorem q169 : (Jvm.Cond.code ({ cls := "ProcessEquiv", name := "looseGroups", desc := "()I" } : Jvm.MethodName) prog_1_method_28_code (1 : Nat) (Option.some Jvm.ClassFile.FieldType.int)) ∈ lw_all := lw_g (lw_at lw_m1 138 rfl) rfl
theorem q171 : (Jvm.Cond.instanceMethod ({ cls := "ProcessEquiv", name := "follows", desc := "(II)Z" } : Jvm.MethodName)) ∈ lw_all := lw_g (lw_at lw_m1 140 rfl) rfl
theorem q172 : (Jvm.Cond.selects "ProcessEquiv" ({ cls := "ProcessEquiv", name := "follows", desc := "(II)Z" } : Jvm.MethodName) ({ cls := "ProcessEquiv", name := "follows", desc := "(II)Z" } : Jvm.MethodName)) ∈ lw_all := lw_g (lw_at lw_m1 141 rfl) rfl
theorem q173 : (Jvm.Cond.code ({ cls := "ProcessEquiv", name := "follows", desc := "(II)Z" } : Jvm.MethodName) prog_1_method_32_code (3 : Nat) (Option.some Jvm.ClassFile.FieldType.boolean)) ∈ lw_all := lw_g (lw_at lw_m1 142 rfl) rfl
theorem q174 : (Jvm.Cond.methodLink "ProcessEquiv" (98 : Nat) ({ cls := "ProcessEquiv", name := "cutFollowers", desc := "()V" } : Jvm.MethodName)) ∈ lw_all := lw_g (lw_at lw_m1 143 rfl) rfl
theorem q175 : (Jvm.Cond.privateMethod ({ cls := "ProcessEquiv", name := "cutFollowers", desc := "()V" } : Jvm.MethodName)) ∈ lw_tbl := lw_at lw_m1 144 rfl
theorem q176 : (Jvm.Cond.instanceMethod ({ cls := "ProcessEquiv", name := "cutFollowers", desc := "()V" } : Jvm.MethodName)) ∈ lw_all := lw_g (lw_at lw_m1 145 rfl) rfl
theorem q177 : (Jvm.Cond.code ({ cls := "ProcessEquiv", name := "cutFollowers", desc := "()V" } : Jvm.MethodName) prog_1_method_29_code (5 : Nat) (Option.none : Option Jvm.ClassFile.FieldType)) ∈ lw_all := lw_g (lw_at lw_m1 146 rfl) rfl
theorem q178 : (Jvm.Cond.methodLink "ProcessEquiv" (92 : Nat) ({ cls := "ProcessEquiv", name := "allowed", desc := "(I)I" } : Jvm.MethodName)) ∈ lw_all := lw_g (lw_at lw_m1 147 rfl) rfl
theorem q179 : (Jvm.Cond.privateMethod ({ cls := "ProcessEquiv", name := "allowed", desc := "(I)I" } : Jvm.MethodName)) ∈ lw_tbl := lw_at lw_m1 148 rfl
theorem q180 : (Jvm.Cond.instanceMethod ({ cls := "ProcessEquiv", name := "allowed", desc := "(I)I" } : Jvm.MethodName)) ∈ lw_all := lw_g (lw_at lw_m1 149 rfl) rfl
theorem q181 : (Jvm.Cond.code ({ cls := "ProcessEquiv", name := "allowed", desc := "(I)I" } : Jvm.MethodName) prog_1_method_30_code (5 : Nat) (Option.some Jvm.ClassFile.FieldType.int)) ∈ lw_all := lw_g (lw_at lw_m1 150 rfl) rfl
theorem q182 : (Jvm.Cond.methodLink "ProcessEquiv" (95 : Nat) ({ cls := "ProcessEquiv", name := "before", desc := "(II)I" } : Jvm.MethodName)) ∈ lw_all := lw_g (lw_at lw_m1 151 rfl) rfl
theorem q183 : (Jvm.Cond.privateMethod ({ cls := "ProcessEquiv", name := "before", desc := "(II)I" } : Jvm.MethodName)) ∈ lw_tbl := lw_at lw_m1 152 rfl
theorem q184 : (Jvm.Cond.instanceMethod ({ cls := "ProcessEquiv", name := "before", desc := "(II)I" } : Jvm.MethodName)) ∈ lw_all := lw_g (lw_at lw_m1 153 rfl) rfl
theorem q185 : (Jvm.Cond.code ({ cls := "ProcessEquiv", name := "before", desc := "(II)I" } : Jvm.MethodName) prog_1_method_31_code (5 : Nat) (Option.some Jvm.ClassFile.FieldType.int)) ∈ lw_all := lw_g (lw_at lw_m1 154 rfl) rfl
theorem q187 : (Jvm.Cond.instanceMethod ({ cls := "ProcessEquiv", name := "followers", desc := "(I)I" } : Jvm.MethodName)) ∈ lw_all := lw_g (lw_at lw_m1 156 rfl) rfl
theorem q188 : (Jvm.Cond.selects "ProcessEquiv" ({ cls := "ProcessEquiv", name := "followers", desc := "(I)I" } : Jvm.MethodName) ({ cls := "ProcessEquiv", name := "followers", desc := "(I)I" } : Jvm.MethodName)) ∈ lw_all := lw_g (lw_at lw_m1 157 rfl) rfl
theorem q189 : (Jvm.Cond.code ({ cls := "ProcessEquiv", name := "followers", desc := "(I)I" } : Jvm.MethodName) prog_1_method_33_code (2 : Nat) (Option.some Jvm.ClassFile.FieldType.int)) ∈ lw_all := lw_g (lw_at lw_m1 158 rfl) rfl
theorem q191 : (Jvm.Cond.instanceMethod ({ cls := "ProcessEquiv", name := "silently", desc := "(I)I" } : Jvm.MethodName)) ∈ lw_all := lw_g (lw_at lw_m1 160 rfl) rfl
theorem q192 : (Jvm.Cond.selects "ProcessEquiv" ({ cls := "ProcessEquiv", name := "silently", desc := "(I)I" } : Jvm.MethodName) ({ cls := "ProcessEquiv", name := "silently", desc := "(I)I" } : Jvm.MethodName)) ∈ lw_all := lw_g (lw_at lw_m1 161 rfl) rfl
theorem q193 : (Jvm.Cond.code ({ cls := "ProcessEquiv", name := "silently", desc := "(I)I" } : Jvm.MethodName) prog_1_method_34_code (2 : Nat) (Option.some Jvm.ClassFile.FieldType.int)) ∈ lw_all := lw_g (lw_at lw_m1 162 rfl) rfl
theorem q195 : (Jvm.Cond.instanceMethod ({ cls := "ProcessEquiv", name := "idle", desc := "(III)Z" } : Jvm.MethodName)) ∈ lw_all := lw_g (lw_at lw_m1 164 rfl) rfl
theorem q196 : (Jvm.Cond.selects "ProcessEquiv" ({ cls := "ProcessEquiv", name := "idle", desc := "(III)Z" } : Jvm.MethodName) ({ cls := "ProcessEquiv", name := "idle", desc := "(III)Z" } : Jvm.MethodName)) ∈ lw_all := lw_g (lw_at lw_m1 165 rfl) rfl
theorem q197 : (Jvm.Cond.code ({ cls := "ProcessEquiv", name := "idle", desc := "(III)Z" } : Jvm.MethodName) prog_1_method_35_code (8 : Nat) (Option.some Jvm.ClassFile.FieldType.boolean)) ∈ lw_all := lw_g (lw_at lw_m1 166 rfl) rfl
theorem q198 : (Jvm.Cond.methodLink "ProcessEquiv" (101 : Nat) ({ cls := "ProcessEquiv", name := "written", desc := "()J" } : Jvm.MethodName)) ∈ lw_all := lw_g (lw_at lw_m1 167 rfl) rfl
theorem q199 : (Jvm.Cond.privateMethod ({ cls := "ProcessEquiv", name := "written", desc := "()J" } : Jvm.MethodName)) ∈ lw_tbl := lw_at lw_m1 168 rfl
theorem q200 : (Jvm.Cond.instanceMethod ({ cls := "ProcessEquiv", name := "written", desc := "()J" } : Jvm.MethodName)) ∈ lw_all := lw_g (lw_at lw_m1 169 rfl) rfl
theorem q201 : (Jvm.Cond.code ({ cls := "ProcessEquiv", name := "written", desc := "()J" } : Jvm.MethodName) prog_1_method_36_code (4 : Nat) (Option.some Jvm.ClassFile.FieldType.long)) ∈ lw_all := lw_g (lw_at lw_m1 170 rfl) rfl
theorem q202 : (Jvm.Cond.constantLong "ProcessEquiv" (105 : Nat) (8 : Int64)) ∈ lw_all := lw_g (lw_at lw_m1 171 rfl) rfl
theorem in_X0 : ∀ w ∈ wsX00, w ∈ lw_all := lw_in wsX00 [49, 51, 53, 55, 57, 59, 61] (by decide +kernel) (by decide +kernel)
end
section
/-! ProcessEquivModel -/
set_option maxRecDepth 100000
def RX1 : String := "ProcessEquivModel"
def TX1 : u_T := fun k => match k with
  | 0 => ("ProcessEquivModel", "next", "[I", false)
  | 1 => ("ProcessEquivModel", "far", "[I", false)
  | 2 => ("ProcessEquivModel", "told", "[I", false)
  | 3 => ("ProcessEquivModel", "kept", "[I", false)
  | _ => ("ProcessEquivModel", "after", "[Z", false)
def tyX1 : Nat → FieldType := fun k => match k with
  | 0 => .array .int
  | 1 => .array .int
  | 2 => .array .int
  | 3 => .array .int
  | _ => .array .boolean
abbrev wsX10 : List Cond := u_ws RX1 TX1 5
theorem nmX1 : ∀ a, a < 5 → ∀ b, b < 5 → a ≠ b → (TX1 a).2.1 ≠ (TX1 b).2.1 := by decide +kernel
theorem tyX1_ok : ∀ k, k < 5 → parseFieldDescriptor (TX1 k).2.2.1 = some (tyX1 k) := by decide +kernel
abbrev cX1_init : ByteArray := prog_3_method_1_code
def yX1_init : MethodName := ⟨RX1, "<init>", "()V"⟩
theorem dX1_init_0 : decode cX1_init 0 = .ok (.aload_n 0, 1) := by decide +kernel
theorem dX1_init_1 : decode cX1_init 1 = .ok (.invokespecial 1, 3) := by decide +kernel
theorem dX1_init_4 : decode cX1_init 4 = .ok (.aload_n 0, 1) := by decide +kernel
theorem dX1_init_5 : decode cX1_init 5 = .ok (.bipush 24, 2) := by decide +kernel
theorem dX1_init_7 : decode cX1_init 7 = .ok (.newarray .int, 2) := by decide +kernel
theorem dX1_init_9 : decode cX1_init 9 = .ok (.putfield 7, 3) := by decide +kernel
theorem dX1_init_12 : decode cX1_init 12 = .ok (.aload_n 0, 1) := by decide +kernel
theorem dX1_init_13 : decode cX1_init 13 = .ok (.bipush 24, 2) := by decide +kernel
theorem dX1_init_15 : decode cX1_init 15 = .ok (.newarray .int, 2) := by decide +kernel
theorem dX1_init_17 : decode cX1_init 17 = .ok (.putfield 13, 3) := by decide +kernel
theorem dX1_init_20 : decode cX1_init 20 = .ok (.aload_n 0, 1) := by decide +kernel
theorem dX1_init_21 : decode cX1_init 21 = .ok (.bipush 64, 2) := by decide +kernel
theorem dX1_init_23 : decode cX1_init 23 = .ok (.newarray .int, 2) := by decide +kernel
theorem dX1_init_25 : decode cX1_init 25 = .ok (.putfield 16, 3) := by decide +kernel
theorem dX1_init_28 : decode cX1_init 28 = .ok (.aload_n 0, 1) := by decide +kernel
theorem dX1_init_29 : decode cX1_init 29 = .ok (.bipush 64, 2) := by decide +kernel
theorem dX1_init_31 : decode cX1_init 31 = .ok (.newarray .int, 2) := by decide +kernel
theorem dX1_init_33 : decode cX1_init 33 = .ok (.putfield 19, 3) := by decide +kernel
theorem dX1_init_36 : decode cX1_init 36 = .ok (.aload_n 0, 1) := by decide +kernel
theorem dX1_init_37 : decode cX1_init 37 = .ok (.bipush 64, 2) := by decide +kernel
theorem dX1_init_39 : decode cX1_init 39 = .ok (.newarray .boolean, 2) := by decide +kernel
theorem dX1_init_41 : decode cX1_init 41 = .ok (.putfield 22, 3) := by decide +kernel
theorem dX1_init_44 : decode cX1_init 44 = .ok (.return_, 1) := by decide +kernel
abbrev cX1_join : ByteArray := prog_3_method_4_code
def yX1_join : MethodName := ⟨RX1, "join", "(III)Z"⟩
theorem dX1_join_0 : decode cX1_join 0 = .ok (.aload_n 0, 1) := by decide +kernel
theorem dX1_join_1 : decode cX1_join 1 = .ok (.iload_n 1, 1) := by decide +kernel
theorem dX1_join_2 : decode cX1_join 2 = .ok (.invokevirtual 26, 3) := by decide +kernel
theorem dX1_join_5 : decode cX1_join 5 = .ok (.ifCond .eq 20, 3) := by decide +kernel
theorem dX1_join_8 : decode cX1_join 8 = .ok (.aload_n 0, 1) := by decide +kernel
theorem dX1_join_9 : decode cX1_join 9 = .ok (.iload_n 2, 1) := by decide +kernel
theorem dX1_join_10 : decode cX1_join 10 = .ok (.invokevirtual 26, 3) := by decide +kernel
theorem dX1_join_13 : decode cX1_join 13 = .ok (.ifCond .eq 12, 3) := by decide +kernel
theorem dX1_join_16 : decode cX1_join 16 = .ok (.iload_n 3, 1) := by decide +kernel
theorem dX1_join_17 : decode cX1_join 17 = .ok (.ifCond .lt 8, 3) := by decide +kernel
theorem dX1_join_20 : decode cX1_join 20 = .ok (.iload_n 3, 1) := by decide +kernel
theorem dX1_join_21 : decode cX1_join 21 = .ok (.iconst 2, 1) := by decide +kernel
theorem dX1_join_22 : decode cX1_join 22 = .ok (.if_icmp .le 5, 3) := by decide +kernel
theorem dX1_join_25 : decode cX1_join 25 = .ok (.iconst 0, 1) := by decide +kernel
theorem dX1_join_26 : decode cX1_join 26 = .ok (.ireturn, 1) := by decide +kernel
theorem dX1_join_27 : decode cX1_join 27 = .ok (.aload_n 0, 1) := by decide +kernel
theorem dX1_join_28 : decode cX1_join 28 = .ok (.getfield 7, 3) := by decide +kernel
theorem dX1_join_31 : decode cX1_join 31 = .ok (.bipush 8, 2) := by decide +kernel
theorem dX1_join_33 : decode cX1_join 33 = .ok (.iload_n 3, 1) := by decide +kernel
theorem dX1_join_34 : decode cX1_join 34 = .ok (.imul, 1) := by decide +kernel
theorem dX1_join_35 : decode cX1_join 35 = .ok (.iload_n 1, 1) := by decide +kernel
theorem dX1_join_36 : decode cX1_join 36 = .ok (.iadd, 1) := by decide +kernel
theorem dX1_join_37 : decode cX1_join 37 = .ok (.aload_n 0, 1) := by decide +kernel
theorem dX1_join_38 : decode cX1_join 38 = .ok (.getfield 7, 3) := by decide +kernel
theorem dX1_join_41 : decode cX1_join 41 = .ok (.bipush 8, 2) := by decide +kernel
theorem dX1_join_43 : decode cX1_join 43 = .ok (.iload_n 3, 1) := by decide +kernel
theorem dX1_join_44 : decode cX1_join 44 = .ok (.imul, 1) := by decide +kernel
theorem dX1_join_45 : decode cX1_join 45 = .ok (.iload_n 1, 1) := by decide +kernel
theorem dX1_join_46 : decode cX1_join 46 = .ok (.iadd, 1) := by decide +kernel
theorem dX1_join_47 : decode cX1_join 47 = .ok (.iaload, 1) := by decide +kernel
theorem dX1_join_48 : decode cX1_join 48 = .ok (.iconst 1, 1) := by decide +kernel
theorem dX1_join_49 : decode cX1_join 49 = .ok (.iload_n 2, 1) := by decide +kernel
theorem dX1_join_50 : decode cX1_join 50 = .ok (.ishl, 1) := by decide +kernel
theorem dX1_join_51 : decode cX1_join 51 = .ok (.ior, 1) := by decide +kernel
theorem dX1_join_52 : decode cX1_join 52 = .ok (.iastore, 1) := by decide +kernel
theorem dX1_join_53 : decode cX1_join 53 = .ok (.iconst 1, 1) := by decide +kernel
theorem dX1_join_54 : decode cX1_join 54 = .ok (.ireturn, 1) := by decide +kernel
abbrev cX1_state : ByteArray := prog_3_method_2_code
def yX1_state : MethodName := ⟨RX1, "state", "(I)Z"⟩
theorem dX1_state_0 : decode cX1_state 0 = .ok (.iload_n 1, 1) := by decide +kernel
theorem dX1_state_1 : decode cX1_state 1 = .ok (.ifCond .lt 13, 3) := by decide +kernel
theorem dX1_state_4 : decode cX1_state 4 = .ok (.iload_n 1, 1) := by decide +kernel
theorem dX1_state_5 : decode cX1_state 5 = .ok (.bipush 7, 2) := by decide +kernel
theorem dX1_state_7 : decode cX1_state 7 = .ok (.if_icmp .gt 7, 3) := by decide +kernel
theorem dX1_state_10 : decode cX1_state 10 = .ok (.iconst 1, 1) := by decide +kernel
theorem dX1_state_11 : decode cX1_state 11 = .ok (.goto 4, 3) := by decide +kernel
theorem dX1_state_14 : decode cX1_state 14 = .ok (.iconst 0, 1) := by decide +kernel
theorem dX1_state_15 : decode cX1_state 15 = .ok (.ireturn, 1) := by decide +kernel
abbrev cX1_cut : ByteArray := prog_3_method_5_code
def yX1_cut : MethodName := ⟨RX1, "cut", "(III)Z"⟩
theorem dX1_cut_0 : decode cX1_cut 0 = .ok (.aload_n 0, 1) := by decide +kernel
theorem dX1_cut_1 : decode cX1_cut 1 = .ok (.iload_n 1, 1) := by decide +kernel
theorem dX1_cut_2 : decode cX1_cut 2 = .ok (.iload_n 2, 1) := by decide +kernel
theorem dX1_cut_3 : decode cX1_cut 3 = .ok (.iload_n 3, 1) := by decide +kernel
theorem dX1_cut_4 : decode cX1_cut 4 = .ok (.invokevirtual 30, 3) := by decide +kernel
theorem dX1_cut_7 : decode cX1_cut 7 = .ok (.ifCond .ne 5, 3) := by decide +kernel
theorem dX1_cut_10 : decode cX1_cut 10 = .ok (.iconst 0, 1) := by decide +kernel
theorem dX1_cut_11 : decode cX1_cut 11 = .ok (.ireturn, 1) := by decide +kernel
theorem dX1_cut_12 : decode cX1_cut 12 = .ok (.aload_n 0, 1) := by decide +kernel
theorem dX1_cut_13 : decode cX1_cut 13 = .ok (.getfield 7, 3) := by decide +kernel
theorem dX1_cut_16 : decode cX1_cut 16 = .ok (.bipush 8, 2) := by decide +kernel
theorem dX1_cut_18 : decode cX1_cut 18 = .ok (.iload_n 3, 1) := by decide +kernel
theorem dX1_cut_19 : decode cX1_cut 19 = .ok (.imul, 1) := by decide +kernel
theorem dX1_cut_20 : decode cX1_cut 20 = .ok (.iload_n 1, 1) := by decide +kernel
theorem dX1_cut_21 : decode cX1_cut 21 = .ok (.iadd, 1) := by decide +kernel
theorem dX1_cut_22 : decode cX1_cut 22 = .ok (.aload_n 0, 1) := by decide +kernel
theorem dX1_cut_23 : decode cX1_cut 23 = .ok (.getfield 7, 3) := by decide +kernel
theorem dX1_cut_26 : decode cX1_cut 26 = .ok (.bipush 8, 2) := by decide +kernel
theorem dX1_cut_28 : decode cX1_cut 28 = .ok (.iload_n 3, 1) := by decide +kernel
theorem dX1_cut_29 : decode cX1_cut 29 = .ok (.imul, 1) := by decide +kernel
theorem dX1_cut_30 : decode cX1_cut 30 = .ok (.iload_n 1, 1) := by decide +kernel
theorem dX1_cut_31 : decode cX1_cut 31 = .ok (.iadd, 1) := by decide +kernel
theorem dX1_cut_32 : decode cX1_cut 32 = .ok (.iaload, 1) := by decide +kernel
theorem dX1_cut_33 : decode cX1_cut 33 = .ok (.iconst 1, 1) := by decide +kernel
theorem dX1_cut_34 : decode cX1_cut 34 = .ok (.iload_n 2, 1) := by decide +kernel
theorem dX1_cut_35 : decode cX1_cut 35 = .ok (.ishl, 1) := by decide +kernel
theorem dX1_cut_36 : decode cX1_cut 36 = .ok (.iconst (-1), 1) := by decide +kernel
theorem dX1_cut_37 : decode cX1_cut 37 = .ok (.ixor, 1) := by decide +kernel
theorem dX1_cut_38 : decode cX1_cut 38 = .ok (.iand, 1) := by decide +kernel
theorem dX1_cut_39 : decode cX1_cut 39 = .ok (.iastore, 1) := by decide +kernel
theorem dX1_cut_40 : decode cX1_cut 40 = .ok (.iconst 1, 1) := by decide +kernel
theorem dX1_cut_41 : decode cX1_cut 41 = .ok (.ireturn, 1) := by decide +kernel
abbrev cX1_step : ByteArray := prog_3_method_3_code
def yX1_step : MethodName := ⟨RX1, "step", "(III)Z"⟩
theorem dX1_step_0 : decode cX1_step 0 = .ok (.aload_n 0, 1) := by decide +kernel
theorem dX1_step_1 : decode cX1_step 1 = .ok (.iload_n 1, 1) := by decide +kernel
theorem dX1_step_2 : decode cX1_step 2 = .ok (.invokevirtual 26, 3) := by decide +kernel
theorem dX1_step_5 : decode cX1_step 5 = .ok (.ifCond .eq 43, 3) := by decide +kernel
theorem dX1_step_8 : decode cX1_step 8 = .ok (.aload_n 0, 1) := by decide +kernel
theorem dX1_step_9 : decode cX1_step 9 = .ok (.iload_n 2, 1) := by decide +kernel
theorem dX1_step_10 : decode cX1_step 10 = .ok (.invokevirtual 26, 3) := by decide +kernel
theorem dX1_step_13 : decode cX1_step 13 = .ok (.ifCond .eq 35, 3) := by decide +kernel
theorem dX1_step_16 : decode cX1_step 16 = .ok (.iload_n 3, 1) := by decide +kernel
theorem dX1_step_17 : decode cX1_step 17 = .ok (.ifCond .lt 31, 3) := by decide +kernel
theorem dX1_step_20 : decode cX1_step 20 = .ok (.iload_n 3, 1) := by decide +kernel
theorem dX1_step_21 : decode cX1_step 21 = .ok (.iconst 2, 1) := by decide +kernel
theorem dX1_step_22 : decode cX1_step 22 = .ok (.if_icmp .gt 26, 3) := by decide +kernel
theorem dX1_step_25 : decode cX1_step 25 = .ok (.aload_n 0, 1) := by decide +kernel
theorem dX1_step_26 : decode cX1_step 26 = .ok (.getfield 7, 3) := by decide +kernel
theorem dX1_step_29 : decode cX1_step 29 = .ok (.bipush 8, 2) := by decide +kernel
theorem dX1_step_31 : decode cX1_step 31 = .ok (.iload_n 3, 1) := by decide +kernel
theorem dX1_step_32 : decode cX1_step 32 = .ok (.imul, 1) := by decide +kernel
theorem dX1_step_33 : decode cX1_step 33 = .ok (.iload_n 1, 1) := by decide +kernel
theorem dX1_step_34 : decode cX1_step 34 = .ok (.iadd, 1) := by decide +kernel
theorem dX1_step_35 : decode cX1_step 35 = .ok (.iaload, 1) := by decide +kernel
theorem dX1_step_36 : decode cX1_step 36 = .ok (.iload_n 2, 1) := by decide +kernel
theorem dX1_step_37 : decode cX1_step 37 = .ok (.ishr, 1) := by decide +kernel
theorem dX1_step_38 : decode cX1_step 38 = .ok (.iconst 1, 1) := by decide +kernel
theorem dX1_step_39 : decode cX1_step 39 = .ok (.iand, 1) := by decide +kernel
theorem dX1_step_40 : decode cX1_step 40 = .ok (.iconst 1, 1) := by decide +kernel
theorem dX1_step_41 : decode cX1_step 41 = .ok (.if_icmp .ne 7, 3) := by decide +kernel
theorem dX1_step_44 : decode cX1_step 44 = .ok (.iconst 1, 1) := by decide +kernel
theorem dX1_step_45 : decode cX1_step 45 = .ok (.goto 4, 3) := by decide +kernel
theorem dX1_step_48 : decode cX1_step 48 = .ok (.iconst 0, 1) := by decide +kernel
theorem dX1_step_49 : decode cX1_step 49 = .ok (.ireturn, 1) := by decide +kernel
abbrev cX1_steps : ByteArray := prog_3_method_6_code
def yX1_steps : MethodName := ⟨RX1, "steps", "()I"⟩
theorem dX1_steps_0 : decode cX1_steps 0 = .ok (.iconst 0, 1) := by decide +kernel
theorem dX1_steps_1 : decode cX1_steps 1 = .ok (.istore_n 1, 1) := by decide +kernel
theorem dX1_steps_2 : decode cX1_steps 2 = .ok (.iconst 0, 1) := by decide +kernel
theorem dX1_steps_3 : decode cX1_steps 3 = .ok (.istore_n 2, 1) := by decide +kernel
theorem dX1_steps_4 : decode cX1_steps 4 = .ok (.iload_n 2, 1) := by decide +kernel
theorem dX1_steps_5 : decode cX1_steps 5 = .ok (.sipush 192, 3) := by decide +kernel
theorem dX1_steps_8 : decode cX1_steps 8 = .ok (.if_icmp .ge 28, 3) := by decide +kernel
theorem dX1_steps_11 : decode cX1_steps 11 = .ok (.iload_n 1, 1) := by decide +kernel
theorem dX1_steps_12 : decode cX1_steps 12 = .ok (.aload_n 0, 1) := by decide +kernel
theorem dX1_steps_13 : decode cX1_steps 13 = .ok (.getfield 7, 3) := by decide +kernel
theorem dX1_steps_16 : decode cX1_steps 16 = .ok (.iload_n 2, 1) := by decide +kernel
theorem dX1_steps_17 : decode cX1_steps 17 = .ok (.bipush 8, 2) := by decide +kernel
theorem dX1_steps_19 : decode cX1_steps 19 = .ok (.idiv, 1) := by decide +kernel
theorem dX1_steps_20 : decode cX1_steps 20 = .ok (.iaload, 1) := by decide +kernel
theorem dX1_steps_21 : decode cX1_steps 21 = .ok (.iload_n 2, 1) := by decide +kernel
theorem dX1_steps_22 : decode cX1_steps 22 = .ok (.bipush 8, 2) := by decide +kernel
theorem dX1_steps_24 : decode cX1_steps 24 = .ok (.irem, 1) := by decide +kernel
theorem dX1_steps_25 : decode cX1_steps 25 = .ok (.ishr, 1) := by decide +kernel
theorem dX1_steps_26 : decode cX1_steps 26 = .ok (.iconst 1, 1) := by decide +kernel
theorem dX1_steps_27 : decode cX1_steps 27 = .ok (.iand, 1) := by decide +kernel
theorem dX1_steps_28 : decode cX1_steps 28 = .ok (.iadd, 1) := by decide +kernel
theorem dX1_steps_29 : decode cX1_steps 29 = .ok (.istore_n 1, 1) := by decide +kernel
theorem dX1_steps_30 : decode cX1_steps 30 = .ok (.iinc 2 1, 3) := by decide +kernel
theorem dX1_steps_33 : decode cX1_steps 33 = .ok (.goto (-29), 3) := by decide +kernel
theorem dX1_steps_36 : decode cX1_steps 36 = .ok (.iload_n 1, 1) := by decide +kernel
theorem dX1_steps_37 : decode cX1_steps 37 = .ok (.ireturn, 1) := by decide +kernel
abbrev cX1_after : ByteArray := prog_3_method_7_code
def yX1_after : MethodName := ⟨RX1, "after", "(II)I"⟩
theorem dX1_after_0 : decode cX1_after 0 = .ok (.aload_n 0, 1) := by decide +kernel
theorem dX1_after_1 : decode cX1_after 1 = .ok (.iload_n 1, 1) := by decide +kernel
theorem dX1_after_2 : decode cX1_after 2 = .ok (.invokevirtual 26, 3) := by decide +kernel
theorem dX1_after_5 : decode cX1_after 5 = .ok (.ifCond .eq 26, 3) := by decide +kernel
theorem dX1_after_8 : decode cX1_after 8 = .ok (.iload_n 2, 1) := by decide +kernel
theorem dX1_after_9 : decode cX1_after 9 = .ok (.ifCond .lt 22, 3) := by decide +kernel
theorem dX1_after_12 : decode cX1_after 12 = .ok (.iload_n 2, 1) := by decide +kernel
theorem dX1_after_13 : decode cX1_after 13 = .ok (.iconst 2, 1) := by decide +kernel
theorem dX1_after_14 : decode cX1_after 14 = .ok (.if_icmp .gt 17, 3) := by decide +kernel
theorem dX1_after_17 : decode cX1_after 17 = .ok (.aload_n 0, 1) := by decide +kernel
theorem dX1_after_18 : decode cX1_after 18 = .ok (.getfield 7, 3) := by decide +kernel
theorem dX1_after_21 : decode cX1_after 21 = .ok (.bipush 8, 2) := by decide +kernel
theorem dX1_after_23 : decode cX1_after 23 = .ok (.iload_n 2, 1) := by decide +kernel
theorem dX1_after_24 : decode cX1_after 24 = .ok (.imul, 1) := by decide +kernel
theorem dX1_after_25 : decode cX1_after 25 = .ok (.iload_n 1, 1) := by decide +kernel
theorem dX1_after_26 : decode cX1_after 26 = .ok (.iadd, 1) := by decide +kernel
theorem dX1_after_27 : decode cX1_after 27 = .ok (.iaload, 1) := by decide +kernel
theorem dX1_after_28 : decode cX1_after 28 = .ok (.goto 4, 3) := by decide +kernel
theorem dX1_after_31 : decode cX1_after 31 = .ok (.iconst 0, 1) := by decide +kernel
theorem dX1_after_32 : decode cX1_after 32 = .ok (.ireturn, 1) := by decide +kernel
abbrev cX1_alike : ByteArray := prog_3_method_19_code
def yX1_alike : MethodName := ⟨RX1, "alike", "(II)Z"⟩
theorem dX1_alike_0 : decode cX1_alike 0 = .ok (.aload_n 0, 1) := by decide +kernel
theorem dX1_alike_1 : decode cX1_alike 1 = .ok (.invokevirtual 60, 3) := by decide +kernel
theorem dX1_alike_4 : decode cX1_alike 4 = .ok (.aload_n 0, 1) := by decide +kernel
theorem dX1_alike_5 : decode cX1_alike 5 = .ok (.iload_n 1, 1) := by decide +kernel
theorem dX1_alike_6 : decode cX1_alike 6 = .ok (.invokevirtual 26, 3) := by decide +kernel
theorem dX1_alike_9 : decode cX1_alike 9 = .ok (.ifCond .eq 29, 3) := by decide +kernel
theorem dX1_alike_12 : decode cX1_alike 12 = .ok (.aload_n 0, 1) := by decide +kernel
theorem dX1_alike_13 : decode cX1_alike 13 = .ok (.iload_n 2, 1) := by decide +kernel
theorem dX1_alike_14 : decode cX1_alike 14 = .ok (.invokevirtual 26, 3) := by decide +kernel
theorem dX1_alike_17 : decode cX1_alike 17 = .ok (.ifCond .eq 21, 3) := by decide +kernel
theorem dX1_alike_20 : decode cX1_alike 20 = .ok (.aload_n 0, 1) := by decide +kernel
theorem dX1_alike_21 : decode cX1_alike 21 = .ok (.getfield 16, 3) := by decide +kernel
theorem dX1_alike_24 : decode cX1_alike 24 = .ok (.bipush 8, 2) := by decide +kernel
theorem dX1_alike_26 : decode cX1_alike 26 = .ok (.iload_n 1, 1) := by decide +kernel
theorem dX1_alike_27 : decode cX1_alike 27 = .ok (.imul, 1) := by decide +kernel
theorem dX1_alike_28 : decode cX1_alike 28 = .ok (.iload_n 2, 1) := by decide +kernel
theorem dX1_alike_29 : decode cX1_alike 29 = .ok (.iadd, 1) := by decide +kernel
theorem dX1_alike_30 : decode cX1_alike 30 = .ok (.iaload, 1) := by decide +kernel
theorem dX1_alike_31 : decode cX1_alike 31 = .ok (.ifCond .ge 7, 3) := by decide +kernel
theorem dX1_alike_34 : decode cX1_alike 34 = .ok (.iconst 1, 1) := by decide +kernel
theorem dX1_alike_35 : decode cX1_alike 35 = .ok (.goto 4, 3) := by decide +kernel
theorem dX1_alike_38 : decode cX1_alike 38 = .ok (.iconst 0, 1) := by decide +kernel
theorem dX1_alike_39 : decode cX1_alike 39 = .ok (.ireturn, 1) := by decide +kernel
abbrev cX1_tellSteps : ByteArray := prog_3_method_16_code
def yX1_tellSteps : MethodName := ⟨RX1, "tellSteps", "()V"⟩
theorem dX1_tellSteps_0 : decode cX1_tellSteps 0 = .ok (.aload_n 0, 1) := by decide +kernel
theorem dX1_tellSteps_1 : decode cX1_tellSteps 1 = .ok (.invokevirtual 51, 3) := by decide +kernel
theorem dX1_tellSteps_4 : decode cX1_tellSteps 4 = .ok (.aload_n 0, 1) := by decide +kernel
theorem dX1_tellSteps_5 : decode cX1_tellSteps 5 = .ok (.invokevirtual 54, 3) := by decide +kernel
theorem dX1_tellSteps_8 : decode cX1_tellSteps 8 = .ok (.return_, 1) := by decide +kernel
abbrev cX1_useSteps : ByteArray := prog_3_method_8_code
def yX1_useSteps : MethodName := ⟨RX1, "useSteps", "()V"⟩
theorem dX1_useSteps_0 : decode cX1_useSteps 0 = .ok (.iconst 0, 1) := by decide +kernel
theorem dX1_useSteps_1 : decode cX1_useSteps 1 = .ok (.istore_n 1, 1) := by decide +kernel
theorem dX1_useSteps_2 : decode cX1_useSteps 2 = .ok (.iload_n 1, 1) := by decide +kernel
theorem dX1_useSteps_3 : decode cX1_useSteps 3 = .ok (.bipush 24, 2) := by decide +kernel
theorem dX1_useSteps_5 : decode cX1_useSteps 5 = .ok (.if_icmp .ge 21, 3) := by decide +kernel
theorem dX1_useSteps_8 : decode cX1_useSteps 8 = .ok (.aload_n 0, 1) := by decide +kernel
theorem dX1_useSteps_9 : decode cX1_useSteps 9 = .ok (.getfield 13, 3) := by decide +kernel
theorem dX1_useSteps_12 : decode cX1_useSteps 12 = .ok (.iload_n 1, 1) := by decide +kernel
theorem dX1_useSteps_13 : decode cX1_useSteps 13 = .ok (.aload_n 0, 1) := by decide +kernel
theorem dX1_useSteps_14 : decode cX1_useSteps 14 = .ok (.getfield 7, 3) := by decide +kernel
theorem dX1_useSteps_17 : decode cX1_useSteps 17 = .ok (.iload_n 1, 1) := by decide +kernel
theorem dX1_useSteps_18 : decode cX1_useSteps 18 = .ok (.iaload, 1) := by decide +kernel
theorem dX1_useSteps_19 : decode cX1_useSteps 19 = .ok (.iastore, 1) := by decide +kernel
theorem dX1_useSteps_20 : decode cX1_useSteps 20 = .ok (.iinc 1 1, 3) := by decide +kernel
theorem dX1_useSteps_23 : decode cX1_useSteps 23 = .ok (.goto (-21), 3) := by decide +kernel
theorem dX1_useSteps_26 : decode cX1_useSteps 26 = .ok (.return_, 1) := by decide +kernel
abbrev cX1_tell : ByteArray := prog_3_method_15_code
def yX1_tell : MethodName := ⟨RX1, "tell", "()V"⟩
theorem dX1_tell_0 : decode cX1_tell 0 = .ok (.iconst 0, 1) := by decide +kernel
theorem dX1_tell_1 : decode cX1_tell 1 = .ok (.istore_n 1, 1) := by decide +kernel
theorem dX1_tell_2 : decode cX1_tell 2 = .ok (.iload_n 1, 1) := by decide +kernel
theorem dX1_tell_3 : decode cX1_tell 3 = .ok (.bipush 64, 2) := by decide +kernel
theorem dX1_tell_5 : decode cX1_tell 5 = .ok (.if_icmp .ge 16, 3) := by decide +kernel
theorem dX1_tell_8 : decode cX1_tell 8 = .ok (.aload_n 0, 1) := by decide +kernel
theorem dX1_tell_9 : decode cX1_tell 9 = .ok (.getfield 16, 3) := by decide +kernel
theorem dX1_tell_12 : decode cX1_tell 12 = .ok (.iload_n 1, 1) := by decide +kernel
theorem dX1_tell_13 : decode cX1_tell 13 = .ok (.iconst (-1), 1) := by decide +kernel
theorem dX1_tell_14 : decode cX1_tell 14 = .ok (.iastore, 1) := by decide +kernel
theorem dX1_tell_15 : decode cX1_tell 15 = .ok (.iinc 1 1, 3) := by decide +kernel
theorem dX1_tell_18 : decode cX1_tell 18 = .ok (.goto (-16), 3) := by decide +kernel
theorem dX1_tell_21 : decode cX1_tell 21 = .ok (.iconst 1, 1) := by decide +kernel
theorem dX1_tell_22 : decode cX1_tell 22 = .ok (.istore_n 1, 1) := by decide +kernel
theorem dX1_tell_23 : decode cX1_tell 23 = .ok (.iconst 1, 1) := by decide +kernel
theorem dX1_tell_24 : decode cX1_tell 24 = .ok (.istore_n 2, 1) := by decide +kernel
theorem dX1_tell_25 : decode cX1_tell 25 = .ok (.iload_n 2, 1) := by decide +kernel
theorem dX1_tell_26 : decode cX1_tell 26 = .ok (.bipush 30, 2) := by decide +kernel
theorem dX1_tell_28 : decode cX1_tell 28 = .ok (.if_icmp .ge 113, 3) := by decide +kernel
theorem dX1_tell_31 : decode cX1_tell 31 = .ok (.iload_n 1, 1) := by decide +kernel
theorem dX1_tell_32 : decode cX1_tell 32 = .ok (.ifCond .eq 109, 3) := by decide +kernel
theorem dX1_tell_35 : decode cX1_tell 35 = .ok (.iconst 0, 1) := by decide +kernel
theorem dX1_tell_36 : decode cX1_tell 36 = .ok (.istore_n 1, 1) := by decide +kernel
theorem dX1_tell_37 : decode cX1_tell 37 = .ok (.iconst 0, 1) := by decide +kernel
theorem dX1_tell_38 : decode cX1_tell 38 = .ok (.istore_n 3, 1) := by decide +kernel
theorem dX1_tell_39 : decode cX1_tell 39 = .ok (.iload_n 3, 1) := by decide +kernel
theorem dX1_tell_40 : decode cX1_tell 40 = .ok (.bipush 64, 2) := by decide +kernel
theorem dX1_tell_42 : decode cX1_tell 42 = .ok (.if_icmp .ge 93, 3) := by decide +kernel
theorem dX1_tell_45 : decode cX1_tell 45 = .ok (.aload_n 0, 1) := by decide +kernel
theorem dX1_tell_46 : decode cX1_tell 46 = .ok (.getfield 16, 3) := by decide +kernel
theorem dX1_tell_49 : decode cX1_tell 49 = .ok (.iload_n 3, 1) := by decide +kernel
theorem dX1_tell_50 : decode cX1_tell 50 = .ok (.iaload, 1) := by decide +kernel
theorem dX1_tell_51 : decode cX1_tell 51 = .ok (.ifCond .ge 39, 3) := by decide +kernel
theorem dX1_tell_54 : decode cX1_tell 54 = .ok (.aload_n 0, 1) := by decide +kernel
theorem dX1_tell_55 : decode cX1_tell 55 = .ok (.iload_n 3, 1) := by decide +kernel
theorem dX1_tell_56 : decode cX1_tell 56 = .ok (.bipush 8, 2) := by decide +kernel
theorem dX1_tell_58 : decode cX1_tell 58 = .ok (.idiv, 1) := by decide +kernel
theorem dX1_tell_59 : decode cX1_tell 59 = .ok (.iload_n 3, 1) := by decide +kernel
theorem dX1_tell_60 : decode cX1_tell 60 = .ok (.bipush 8, 2) := by decide +kernel
theorem dX1_tell_62 : decode cX1_tell 62 = .ok (.irem, 1) := by decide +kernel
theorem dX1_tell_63 : decode cX1_tell 63 = .ok (.iload_n 2, 1) := by decide +kernel
theorem dX1_tell_64 : decode cX1_tell 64 = .ok (.invokevirtual 48, 3) := by decide +kernel
theorem dX1_tell_67 : decode cX1_tell 67 = .ok (.ifCond .ne 19, 3) := by decide +kernel
theorem dX1_tell_70 : decode cX1_tell 70 = .ok (.aload_n 0, 1) := by decide +kernel
theorem dX1_tell_71 : decode cX1_tell 71 = .ok (.iload_n 3, 1) := by decide +kernel
theorem dX1_tell_72 : decode cX1_tell 72 = .ok (.bipush 8, 2) := by decide +kernel
theorem dX1_tell_74 : decode cX1_tell 74 = .ok (.irem, 1) := by decide +kernel
theorem dX1_tell_75 : decode cX1_tell 75 = .ok (.iload_n 3, 1) := by decide +kernel
theorem dX1_tell_76 : decode cX1_tell 76 = .ok (.bipush 8, 2) := by decide +kernel
theorem dX1_tell_78 : decode cX1_tell 78 = .ok (.idiv, 1) := by decide +kernel
theorem dX1_tell_79 : decode cX1_tell 79 = .ok (.iload_n 2, 1) := by decide +kernel
theorem dX1_tell_80 : decode cX1_tell 80 = .ok (.invokevirtual 48, 3) := by decide +kernel
theorem dX1_tell_83 : decode cX1_tell 83 = .ok (.ifCond .eq 7, 3) := by decide +kernel
theorem dX1_tell_86 : decode cX1_tell 86 = .ok (.iconst 1, 1) := by decide +kernel
theorem dX1_tell_87 : decode cX1_tell 87 = .ok (.goto 4, 3) := by decide +kernel
theorem dX1_tell_90 : decode cX1_tell 90 = .ok (.iconst 0, 1) := by decide +kernel
theorem dX1_tell_91 : decode cX1_tell 91 = .ok (.istore 4, 2) := by decide +kernel
theorem dX1_tell_93 : decode cX1_tell 93 = .ok (.aload_n 0, 1) := by decide +kernel
theorem dX1_tell_94 : decode cX1_tell 94 = .ok (.getfield 16, 3) := by decide +kernel
theorem dX1_tell_97 : decode cX1_tell 97 = .ok (.iload_n 3, 1) := by decide +kernel
theorem dX1_tell_98 : decode cX1_tell 98 = .ok (.iload 4, 2) := by decide +kernel
theorem dX1_tell_100 : decode cX1_tell 100 = .ok (.ifCond .eq 7, 3) := by decide +kernel
theorem dX1_tell_103 : decode cX1_tell 103 = .ok (.iload_n 2, 1) := by decide +kernel
theorem dX1_tell_104 : decode cX1_tell 104 = .ok (.goto 9, 3) := by decide +kernel
theorem dX1_tell_107 : decode cX1_tell 107 = .ok (.aload_n 0, 1) := by decide +kernel
theorem dX1_tell_108 : decode cX1_tell 108 = .ok (.getfield 16, 3) := by decide +kernel
theorem dX1_tell_111 : decode cX1_tell 111 = .ok (.iload_n 3, 1) := by decide +kernel
theorem dX1_tell_112 : decode cX1_tell 112 = .ok (.iaload, 1) := by decide +kernel
theorem dX1_tell_113 : decode cX1_tell 113 = .ok (.iastore, 1) := by decide +kernel
theorem dX1_tell_114 : decode cX1_tell 114 = .ok (.iload_n 1, 1) := by decide +kernel
theorem dX1_tell_115 : decode cX1_tell 115 = .ok (.ifCond .ne 8, 3) := by decide +kernel
theorem dX1_tell_118 : decode cX1_tell 118 = .ok (.iload 4, 2) := by decide +kernel
theorem dX1_tell_120 : decode cX1_tell 120 = .ok (.ifCond .eq 7, 3) := by decide +kernel
theorem dX1_tell_123 : decode cX1_tell 123 = .ok (.iconst 1, 1) := by decide +kernel
theorem dX1_tell_124 : decode cX1_tell 124 = .ok (.goto 4, 3) := by decide +kernel
theorem dX1_tell_127 : decode cX1_tell 127 = .ok (.iconst 0, 1) := by decide +kernel
theorem dX1_tell_128 : decode cX1_tell 128 = .ok (.istore_n 1, 1) := by decide +kernel
theorem dX1_tell_129 : decode cX1_tell 129 = .ok (.iinc 3 1, 3) := by decide +kernel
theorem dX1_tell_132 : decode cX1_tell 132 = .ok (.goto (-93), 3) := by decide +kernel
theorem dX1_tell_135 : decode cX1_tell 135 = .ok (.iinc 2 1, 3) := by decide +kernel
theorem dX1_tell_138 : decode cX1_tell 138 = .ok (.goto (-113), 3) := by decide +kernel
theorem dX1_tell_141 : decode cX1_tell 141 = .ok (.return_, 1) := by decide +kernel
abbrev cX1_differs : ByteArray := prog_3_method_13_code
def yX1_differs : MethodName := ⟨RX1, "differs", "(III)Z"⟩
theorem dX1_differs_0 : decode cX1_differs 0 = .ok (.iconst 0, 1) := by decide +kernel
theorem dX1_differs_1 : decode cX1_differs 1 = .ok (.istore 4, 2) := by decide +kernel
theorem dX1_differs_3 : decode cX1_differs 3 = .ok (.iconst 0, 1) := by decide +kernel
theorem dX1_differs_4 : decode cX1_differs 4 = .ok (.istore 5, 2) := by decide +kernel
theorem dX1_differs_6 : decode cX1_differs 6 = .ok (.iload 5, 2) := by decide +kernel
theorem dX1_differs_8 : decode cX1_differs 8 = .ok (.bipush 24, 2) := by decide +kernel
theorem dX1_differs_10 : decode cX1_differs 10 = .ok (.if_icmp .ge 78, 3) := by decide +kernel
theorem dX1_differs_13 : decode cX1_differs 13 = .ok (.iload 5, 2) := by decide +kernel
theorem dX1_differs_15 : decode cX1_differs 15 = .ok (.bipush 8, 2) := by decide +kernel
theorem dX1_differs_17 : decode cX1_differs 17 = .ok (.idiv, 1) := by decide +kernel
theorem dX1_differs_18 : decode cX1_differs 18 = .ok (.istore 6, 2) := by decide +kernel
theorem dX1_differs_20 : decode cX1_differs 20 = .ok (.iload 5, 2) := by decide +kernel
theorem dX1_differs_22 : decode cX1_differs 22 = .ok (.bipush 8, 2) := by decide +kernel
theorem dX1_differs_24 : decode cX1_differs 24 = .ok (.irem, 1) := by decide +kernel
theorem dX1_differs_25 : decode cX1_differs 25 = .ok (.istore 7, 2) := by decide +kernel
theorem dX1_differs_27 : decode cX1_differs 27 = .ok (.iload 4, 2) := by decide +kernel
theorem dX1_differs_29 : decode cX1_differs 29 = .ok (.ifCond .ne 46, 3) := by decide +kernel
theorem dX1_differs_32 : decode cX1_differs 32 = .ok (.aload_n 0, 1) := by decide +kernel
theorem dX1_differs_33 : decode cX1_differs 33 = .ok (.getfield 13, 3) := by decide +kernel
theorem dX1_differs_36 : decode cX1_differs 36 = .ok (.bipush 8, 2) := by decide +kernel
theorem dX1_differs_38 : decode cX1_differs 38 = .ok (.iload 6, 2) := by decide +kernel
theorem dX1_differs_40 : decode cX1_differs 40 = .ok (.imul, 1) := by decide +kernel
theorem dX1_differs_41 : decode cX1_differs 41 = .ok (.iload_n 1, 1) := by decide +kernel
theorem dX1_differs_42 : decode cX1_differs 42 = .ok (.iadd, 1) := by decide +kernel
theorem dX1_differs_43 : decode cX1_differs 43 = .ok (.iaload, 1) := by decide +kernel
theorem dX1_differs_44 : decode cX1_differs 44 = .ok (.iload 7, 2) := by decide +kernel
theorem dX1_differs_46 : decode cX1_differs 46 = .ok (.ishr, 1) := by decide +kernel
theorem dX1_differs_47 : decode cX1_differs 47 = .ok (.iconst 1, 1) := by decide +kernel
theorem dX1_differs_48 : decode cX1_differs 48 = .ok (.iand, 1) := by decide +kernel
theorem dX1_differs_49 : decode cX1_differs 49 = .ok (.iconst 1, 1) := by decide +kernel
theorem dX1_differs_50 : decode cX1_differs 50 = .ok (.if_icmp .ne 29, 3) := by decide +kernel
theorem dX1_differs_53 : decode cX1_differs 53 = .ok (.aload_n 0, 1) := by decide +kernel
theorem dX1_differs_54 : decode cX1_differs 54 = .ok (.iload 7, 2) := by decide +kernel
theorem dX1_differs_56 : decode cX1_differs 56 = .ok (.aload_n 0, 1) := by decide +kernel
theorem dX1_differs_57 : decode cX1_differs 57 = .ok (.getfield 13, 3) := by decide +kernel
theorem dX1_differs_60 : decode cX1_differs 60 = .ok (.bipush 8, 2) := by decide +kernel
theorem dX1_differs_62 : decode cX1_differs 62 = .ok (.iload 6, 2) := by decide +kernel
theorem dX1_differs_64 : decode cX1_differs 64 = .ok (.imul, 1) := by decide +kernel
theorem dX1_differs_65 : decode cX1_differs 65 = .ok (.iload_n 2, 1) := by decide +kernel
theorem dX1_differs_66 : decode cX1_differs 66 = .ok (.iadd, 1) := by decide +kernel
theorem dX1_differs_67 : decode cX1_differs 67 = .ok (.iaload, 1) := by decide +kernel
theorem dX1_differs_68 : decode cX1_differs 68 = .ok (.iload_n 3, 1) := by decide +kernel
theorem dX1_differs_69 : decode cX1_differs 69 = .ok (.invokevirtual 45, 3) := by decide +kernel
theorem dX1_differs_72 : decode cX1_differs 72 = .ok (.ifCond .eq 7, 3) := by decide +kernel
theorem dX1_differs_75 : decode cX1_differs 75 = .ok (.iconst 1, 1) := by decide +kernel
theorem dX1_differs_76 : decode cX1_differs 76 = .ok (.goto 4, 3) := by decide +kernel
theorem dX1_differs_79 : decode cX1_differs 79 = .ok (.iconst 0, 1) := by decide +kernel
theorem dX1_differs_80 : decode cX1_differs 80 = .ok (.istore 4, 2) := by decide +kernel
theorem dX1_differs_82 : decode cX1_differs 82 = .ok (.iinc 5 1, 3) := by decide +kernel
theorem dX1_differs_85 : decode cX1_differs 85 = .ok (.goto (-79), 3) := by decide +kernel
theorem dX1_differs_88 : decode cX1_differs 88 = .ok (.iload 4, 2) := by decide +kernel
theorem dX1_differs_90 : decode cX1_differs 90 = .ok (.ireturn, 1) := by decide +kernel
abbrev cX1_lonely : ByteArray := prog_3_method_14_code
def yX1_lonely : MethodName := ⟨RX1, "lonely", "(III)Z"⟩
theorem dX1_lonely_0 : decode cX1_lonely 0 = .ok (.iconst 1, 1) := by decide +kernel
theorem dX1_lonely_1 : decode cX1_lonely 1 = .ok (.istore 4, 2) := by decide +kernel
theorem dX1_lonely_3 : decode cX1_lonely 3 = .ok (.iconst 0, 1) := by decide +kernel
theorem dX1_lonely_4 : decode cX1_lonely 4 = .ok (.istore 5, 2) := by decide +kernel
theorem dX1_lonely_6 : decode cX1_lonely 6 = .ok (.iload 5, 2) := by decide +kernel
theorem dX1_lonely_8 : decode cX1_lonely 8 = .ok (.bipush 8, 2) := by decide +kernel
theorem dX1_lonely_10 : decode cX1_lonely 10 = .ok (.if_icmp .ge 73, 3) := by decide +kernel
theorem dX1_lonely_13 : decode cX1_lonely 13 = .ok (.aload_n 0, 1) := by decide +kernel
theorem dX1_lonely_14 : decode cX1_lonely 14 = .ok (.getfield 16, 3) := by decide +kernel
theorem dX1_lonely_17 : decode cX1_lonely 17 = .ok (.bipush 8, 2) := by decide +kernel
theorem dX1_lonely_19 : decode cX1_lonely 19 = .ok (.iload_n 1, 1) := by decide +kernel
theorem dX1_lonely_20 : decode cX1_lonely 20 = .ok (.imul, 1) := by decide +kernel
theorem dX1_lonely_21 : decode cX1_lonely 21 = .ok (.iload 5, 2) := by decide +kernel
theorem dX1_lonely_23 : decode cX1_lonely 23 = .ok (.iadd, 1) := by decide +kernel
theorem dX1_lonely_24 : decode cX1_lonely 24 = .ok (.iaload, 1) := by decide +kernel
theorem dX1_lonely_25 : decode cX1_lonely 25 = .ok (.ifCond .lt 23, 3) := by decide +kernel
theorem dX1_lonely_28 : decode cX1_lonely 28 = .ok (.aload_n 0, 1) := by decide +kernel
theorem dX1_lonely_29 : decode cX1_lonely 29 = .ok (.getfield 16, 3) := by decide +kernel
theorem dX1_lonely_32 : decode cX1_lonely 32 = .ok (.bipush 8, 2) := by decide +kernel
theorem dX1_lonely_34 : decode cX1_lonely 34 = .ok (.iload_n 1, 1) := by decide +kernel
theorem dX1_lonely_35 : decode cX1_lonely 35 = .ok (.imul, 1) := by decide +kernel
theorem dX1_lonely_36 : decode cX1_lonely 36 = .ok (.iload 5, 2) := by decide +kernel
theorem dX1_lonely_38 : decode cX1_lonely 38 = .ok (.iadd, 1) := by decide +kernel
theorem dX1_lonely_39 : decode cX1_lonely 39 = .ok (.iaload, 1) := by decide +kernel
theorem dX1_lonely_40 : decode cX1_lonely 40 = .ok (.iload_n 3, 1) := by decide +kernel
theorem dX1_lonely_41 : decode cX1_lonely 41 = .ok (.if_icmp .ge 7, 3) := by decide +kernel
theorem dX1_lonely_44 : decode cX1_lonely 44 = .ok (.iconst 1, 1) := by decide +kernel
theorem dX1_lonely_45 : decode cX1_lonely 45 = .ok (.goto 4, 3) := by decide +kernel
theorem dX1_lonely_48 : decode cX1_lonely 48 = .ok (.iconst 0, 1) := by decide +kernel
theorem dX1_lonely_49 : decode cX1_lonely 49 = .ok (.istore 6, 2) := by decide +kernel
theorem dX1_lonely_51 : decode cX1_lonely 51 = .ok (.iload 4, 2) := by decide +kernel
theorem dX1_lonely_53 : decode cX1_lonely 53 = .ok (.ifCond .eq 21, 3) := by decide +kernel
theorem dX1_lonely_56 : decode cX1_lonely 56 = .ok (.iload_n 2, 1) := by decide +kernel
theorem dX1_lonely_57 : decode cX1_lonely 57 = .ok (.iload 5, 2) := by decide +kernel
theorem dX1_lonely_59 : decode cX1_lonely 59 = .ok (.ishr, 1) := by decide +kernel
theorem dX1_lonely_60 : decode cX1_lonely 60 = .ok (.iconst 1, 1) := by decide +kernel
theorem dX1_lonely_61 : decode cX1_lonely 61 = .ok (.iand, 1) := by decide +kernel
theorem dX1_lonely_62 : decode cX1_lonely 62 = .ok (.ifCond .eq 8, 3) := by decide +kernel
theorem dX1_lonely_65 : decode cX1_lonely 65 = .ok (.iload 6, 2) := by decide +kernel
theorem dX1_lonely_67 : decode cX1_lonely 67 = .ok (.ifCond .eq 7, 3) := by decide +kernel
theorem dX1_lonely_70 : decode cX1_lonely 70 = .ok (.iconst 1, 1) := by decide +kernel
theorem dX1_lonely_71 : decode cX1_lonely 71 = .ok (.goto 4, 3) := by decide +kernel
theorem dX1_lonely_74 : decode cX1_lonely 74 = .ok (.iconst 0, 1) := by decide +kernel
theorem dX1_lonely_75 : decode cX1_lonely 75 = .ok (.istore 4, 2) := by decide +kernel
theorem dX1_lonely_77 : decode cX1_lonely 77 = .ok (.iinc 5 1, 3) := by decide +kernel
theorem dX1_lonely_80 : decode cX1_lonely 80 = .ok (.goto (-74), 3) := by decide +kernel
theorem dX1_lonely_83 : decode cX1_lonely 83 = .ok (.iload 4, 2) := by decide +kernel
theorem dX1_lonely_85 : decode cX1_lonely 85 = .ok (.ireturn, 1) := by decide +kernel
abbrev cX1_group : ByteArray := prog_3_method_20_code
def yX1_group : MethodName := ⟨RX1, "group", "(I)I"⟩
theorem dX1_group_0 : decode cX1_group 0 = .ok (.aload_n 0, 1) := by decide +kernel
theorem dX1_group_1 : decode cX1_group 1 = .ok (.invokevirtual 60, 3) := by decide +kernel
theorem dX1_group_4 : decode cX1_group 4 = .ok (.iconst 0, 1) := by decide +kernel
theorem dX1_group_5 : decode cX1_group 5 = .ok (.istore_n 2, 1) := by decide +kernel
theorem dX1_group_6 : decode cX1_group 6 = .ok (.iconst 0, 1) := by decide +kernel
theorem dX1_group_7 : decode cX1_group 7 = .ok (.istore_n 3, 1) := by decide +kernel
theorem dX1_group_8 : decode cX1_group 8 = .ok (.iload_n 3, 1) := by decide +kernel
theorem dX1_group_9 : decode cX1_group 9 = .ok (.bipush 8, 2) := by decide +kernel
theorem dX1_group_11 : decode cX1_group 11 = .ok (.if_icmp .ge 41, 3) := by decide +kernel
theorem dX1_group_14 : decode cX1_group 14 = .ok (.aload_n 0, 1) := by decide +kernel
theorem dX1_group_15 : decode cX1_group 15 = .ok (.iload_n 1, 1) := by decide +kernel
theorem dX1_group_16 : decode cX1_group 16 = .ok (.invokevirtual 26, 3) := by decide +kernel
theorem dX1_group_19 : decode cX1_group 19 = .ok (.ifCond .eq 33, 3) := by decide +kernel
theorem dX1_group_22 : decode cX1_group 22 = .ok (.aload_n 0, 1) := by decide +kernel
theorem dX1_group_23 : decode cX1_group 23 = .ok (.getfield 16, 3) := by decide +kernel
theorem dX1_group_26 : decode cX1_group 26 = .ok (.bipush 8, 2) := by decide +kernel
theorem dX1_group_28 : decode cX1_group 28 = .ok (.iload_n 1, 1) := by decide +kernel
theorem dX1_group_29 : decode cX1_group 29 = .ok (.imul, 1) := by decide +kernel
theorem dX1_group_30 : decode cX1_group 30 = .ok (.iload_n 3, 1) := by decide +kernel
theorem dX1_group_31 : decode cX1_group 31 = .ok (.iadd, 1) := by decide +kernel
theorem dX1_group_32 : decode cX1_group 32 = .ok (.iaload, 1) := by decide +kernel
theorem dX1_group_33 : decode cX1_group 33 = .ok (.ifCond .ge 11, 3) := by decide +kernel
theorem dX1_group_36 : decode cX1_group 36 = .ok (.iload_n 2, 1) := by decide +kernel
theorem dX1_group_37 : decode cX1_group 37 = .ok (.iconst 1, 1) := by decide +kernel
theorem dX1_group_38 : decode cX1_group 38 = .ok (.iload_n 3, 1) := by decide +kernel
theorem dX1_group_39 : decode cX1_group 39 = .ok (.ishl, 1) := by decide +kernel
theorem dX1_group_40 : decode cX1_group 40 = .ok (.ior, 1) := by decide +kernel
theorem dX1_group_41 : decode cX1_group 41 = .ok (.goto 4, 3) := by decide +kernel
theorem dX1_group_44 : decode cX1_group 44 = .ok (.iload_n 2, 1) := by decide +kernel
theorem dX1_group_45 : decode cX1_group 45 = .ok (.istore_n 2, 1) := by decide +kernel
theorem dX1_group_46 : decode cX1_group 46 = .ok (.iinc 3 1, 3) := by decide +kernel
theorem dX1_group_49 : decode cX1_group 49 = .ok (.goto (-41), 3) := by decide +kernel
theorem dX1_group_52 : decode cX1_group 52 = .ok (.iload_n 2, 1) := by decide +kernel
theorem dX1_group_53 : decode cX1_group 53 = .ok (.ireturn, 1) := by decide +kernel
abbrev cX1_groups : ByteArray := prog_3_method_21_code
def yX1_groups : MethodName := ⟨RX1, "groups", "()I"⟩
theorem dX1_groups_0 : decode cX1_groups 0 = .ok (.aload_n 0, 1) := by decide +kernel
theorem dX1_groups_1 : decode cX1_groups 1 = .ok (.invokevirtual 60, 3) := by decide +kernel
theorem dX1_groups_4 : decode cX1_groups 4 = .ok (.aload_n 0, 1) := by decide +kernel
theorem dX1_groups_5 : decode cX1_groups 5 = .ok (.invokevirtual 63, 3) := by decide +kernel
theorem dX1_groups_8 : decode cX1_groups 8 = .ok (.ireturn, 1) := by decide +kernel
abbrev cX1_count : ByteArray := prog_3_method_18_code
def yX1_count : MethodName := ⟨RX1, "count", "()I"⟩
theorem dX1_count_0 : decode cX1_count 0 = .ok (.iconst 0, 1) := by decide +kernel
theorem dX1_count_1 : decode cX1_count 1 = .ok (.istore_n 1, 1) := by decide +kernel
theorem dX1_count_2 : decode cX1_count 2 = .ok (.iconst 0, 1) := by decide +kernel
theorem dX1_count_3 : decode cX1_count 3 = .ok (.istore_n 2, 1) := by decide +kernel
theorem dX1_count_4 : decode cX1_count 4 = .ok (.iload_n 2, 1) := by decide +kernel
theorem dX1_count_5 : decode cX1_count 5 = .ok (.bipush 8, 2) := by decide +kernel
theorem dX1_count_7 : decode cX1_count 7 = .ok (.if_icmp .ge 63, 3) := by decide +kernel
theorem dX1_count_10 : decode cX1_count 10 = .ok (.iconst 1, 1) := by decide +kernel
theorem dX1_count_11 : decode cX1_count 11 = .ok (.istore_n 3, 1) := by decide +kernel
theorem dX1_count_12 : decode cX1_count 12 = .ok (.iconst 0, 1) := by decide +kernel
theorem dX1_count_13 : decode cX1_count 13 = .ok (.istore 4, 2) := by decide +kernel
theorem dX1_count_15 : decode cX1_count 15 = .ok (.iload 4, 2) := by decide +kernel
theorem dX1_count_17 : decode cX1_count 17 = .ok (.iload_n 2, 1) := by decide +kernel
theorem dX1_count_18 : decode cX1_count 18 = .ok (.if_icmp .ge 34, 3) := by decide +kernel
theorem dX1_count_21 : decode cX1_count 21 = .ok (.iload_n 3, 1) := by decide +kernel
theorem dX1_count_22 : decode cX1_count 22 = .ok (.ifCond .eq 22, 3) := by decide +kernel
theorem dX1_count_25 : decode cX1_count 25 = .ok (.aload_n 0, 1) := by decide +kernel
theorem dX1_count_26 : decode cX1_count 26 = .ok (.getfield 16, 3) := by decide +kernel
theorem dX1_count_29 : decode cX1_count 29 = .ok (.bipush 8, 2) := by decide +kernel
theorem dX1_count_31 : decode cX1_count 31 = .ok (.iload_n 2, 1) := by decide +kernel
theorem dX1_count_32 : decode cX1_count 32 = .ok (.imul, 1) := by decide +kernel
theorem dX1_count_33 : decode cX1_count 33 = .ok (.iload 4, 2) := by decide +kernel
theorem dX1_count_35 : decode cX1_count 35 = .ok (.iadd, 1) := by decide +kernel
theorem dX1_count_36 : decode cX1_count 36 = .ok (.iaload, 1) := by decide +kernel
theorem dX1_count_37 : decode cX1_count 37 = .ok (.ifCond .lt 7, 3) := by decide +kernel
theorem dX1_count_40 : decode cX1_count 40 = .ok (.iconst 1, 1) := by decide +kernel
theorem dX1_count_41 : decode cX1_count 41 = .ok (.goto 4, 3) := by decide +kernel
theorem dX1_count_44 : decode cX1_count 44 = .ok (.iconst 0, 1) := by decide +kernel
theorem dX1_count_45 : decode cX1_count 45 = .ok (.istore_n 3, 1) := by decide +kernel
theorem dX1_count_46 : decode cX1_count 46 = .ok (.iinc 4 1, 3) := by decide +kernel
theorem dX1_count_49 : decode cX1_count 49 = .ok (.goto (-34), 3) := by decide +kernel
theorem dX1_count_52 : decode cX1_count 52 = .ok (.iload_n 3, 1) := by decide +kernel
theorem dX1_count_53 : decode cX1_count 53 = .ok (.ifCond .eq 9, 3) := by decide +kernel
theorem dX1_count_56 : decode cX1_count 56 = .ok (.iload_n 1, 1) := by decide +kernel
theorem dX1_count_57 : decode cX1_count 57 = .ok (.iconst 1, 1) := by decide +kernel
theorem dX1_count_58 : decode cX1_count 58 = .ok (.iadd, 1) := by decide +kernel
theorem dX1_count_59 : decode cX1_count 59 = .ok (.goto 4, 3) := by decide +kernel
theorem dX1_count_62 : decode cX1_count 62 = .ok (.iload_n 1, 1) := by decide +kernel
theorem dX1_count_63 : decode cX1_count 63 = .ok (.istore_n 1, 1) := by decide +kernel
theorem dX1_count_64 : decode cX1_count 64 = .ok (.iinc 2 1, 3) := by decide +kernel
theorem dX1_count_67 : decode cX1_count 67 = .ok (.goto (-63), 3) := by decide +kernel
theorem dX1_count_70 : decode cX1_count 70 = .ok (.iload_n 1, 1) := by decide +kernel
theorem dX1_count_71 : decode cX1_count 71 = .ok (.ireturn, 1) := by decide +kernel
abbrev cX1_toldAfter : ByteArray := prog_3_method_22_code
def yX1_toldAfter : MethodName := ⟨RX1, "toldAfter", "(II)I"⟩
theorem dX1_toldAfter_0 : decode cX1_toldAfter 0 = .ok (.aload_n 0, 1) := by decide +kernel
theorem dX1_toldAfter_1 : decode cX1_toldAfter 1 = .ok (.invokevirtual 60, 3) := by decide +kernel
theorem dX1_toldAfter_4 : decode cX1_toldAfter 4 = .ok (.aload_n 0, 1) := by decide +kernel
theorem dX1_toldAfter_5 : decode cX1_toldAfter 5 = .ok (.iload_n 1, 1) := by decide +kernel
theorem dX1_toldAfter_6 : decode cX1_toldAfter 6 = .ok (.invokevirtual 26, 3) := by decide +kernel
theorem dX1_toldAfter_9 : decode cX1_toldAfter 9 = .ok (.ifCond .eq 25, 3) := by decide +kernel
theorem dX1_toldAfter_12 : decode cX1_toldAfter 12 = .ok (.aload_n 0, 1) := by decide +kernel
theorem dX1_toldAfter_13 : decode cX1_toldAfter 13 = .ok (.iload_n 2, 1) := by decide +kernel
theorem dX1_toldAfter_14 : decode cX1_toldAfter 14 = .ok (.invokevirtual 26, 3) := by decide +kernel
theorem dX1_toldAfter_17 : decode cX1_toldAfter 17 = .ok (.ifCond .eq 17, 3) := by decide +kernel
theorem dX1_toldAfter_20 : decode cX1_toldAfter 20 = .ok (.aload_n 0, 1) := by decide +kernel
theorem dX1_toldAfter_21 : decode cX1_toldAfter 21 = .ok (.getfield 16, 3) := by decide +kernel
theorem dX1_toldAfter_24 : decode cX1_toldAfter 24 = .ok (.bipush 8, 2) := by decide +kernel
theorem dX1_toldAfter_26 : decode cX1_toldAfter 26 = .ok (.iload_n 1, 1) := by decide +kernel
theorem dX1_toldAfter_27 : decode cX1_toldAfter 27 = .ok (.imul, 1) := by decide +kernel
theorem dX1_toldAfter_28 : decode cX1_toldAfter 28 = .ok (.iload_n 2, 1) := by decide +kernel
theorem dX1_toldAfter_29 : decode cX1_toldAfter 29 = .ok (.iadd, 1) := by decide +kernel
theorem dX1_toldAfter_30 : decode cX1_toldAfter 30 = .ok (.iaload, 1) := by decide +kernel
theorem dX1_toldAfter_31 : decode cX1_toldAfter 31 = .ok (.goto 4, 3) := by decide +kernel
theorem dX1_toldAfter_34 : decode cX1_toldAfter 34 = .ok (.iconst (-1), 1) := by decide +kernel
theorem dX1_toldAfter_35 : decode cX1_toldAfter 35 = .ok (.ireturn, 1) := by decide +kernel
abbrev cX1_rounds : ByteArray := prog_3_method_23_code
def yX1_rounds : MethodName := ⟨RX1, "rounds", "()I"⟩
theorem dX1_rounds_0 : decode cX1_rounds 0 = .ok (.aload_n 0, 1) := by decide +kernel
theorem dX1_rounds_1 : decode cX1_rounds 1 = .ok (.invokevirtual 60, 3) := by decide +kernel
theorem dX1_rounds_4 : decode cX1_rounds 4 = .ok (.iconst 0, 1) := by decide +kernel
theorem dX1_rounds_5 : decode cX1_rounds 5 = .ok (.istore_n 1, 1) := by decide +kernel
theorem dX1_rounds_6 : decode cX1_rounds 6 = .ok (.iconst 0, 1) := by decide +kernel
theorem dX1_rounds_7 : decode cX1_rounds 7 = .ok (.istore_n 2, 1) := by decide +kernel
theorem dX1_rounds_8 : decode cX1_rounds 8 = .ok (.iload_n 2, 1) := by decide +kernel
theorem dX1_rounds_9 : decode cX1_rounds 9 = .ok (.bipush 64, 2) := by decide +kernel
theorem dX1_rounds_11 : decode cX1_rounds 11 = .ok (.if_icmp .ge 30, 3) := by decide +kernel
theorem dX1_rounds_14 : decode cX1_rounds 14 = .ok (.aload_n 0, 1) := by decide +kernel
theorem dX1_rounds_15 : decode cX1_rounds 15 = .ok (.getfield 16, 3) := by decide +kernel
theorem dX1_rounds_18 : decode cX1_rounds 18 = .ok (.iload_n 2, 1) := by decide +kernel
theorem dX1_rounds_19 : decode cX1_rounds 19 = .ok (.iaload, 1) := by decide +kernel
theorem dX1_rounds_20 : decode cX1_rounds 20 = .ok (.iload_n 1, 1) := by decide +kernel
theorem dX1_rounds_21 : decode cX1_rounds 21 = .ok (.if_icmp .le 12, 3) := by decide +kernel
theorem dX1_rounds_24 : decode cX1_rounds 24 = .ok (.aload_n 0, 1) := by decide +kernel
theorem dX1_rounds_25 : decode cX1_rounds 25 = .ok (.getfield 16, 3) := by decide +kernel
theorem dX1_rounds_28 : decode cX1_rounds 28 = .ok (.iload_n 2, 1) := by decide +kernel
theorem dX1_rounds_29 : decode cX1_rounds 29 = .ok (.iaload, 1) := by decide +kernel
theorem dX1_rounds_30 : decode cX1_rounds 30 = .ok (.goto 4, 3) := by decide +kernel
theorem dX1_rounds_33 : decode cX1_rounds 33 = .ok (.iload_n 1, 1) := by decide +kernel
theorem dX1_rounds_34 : decode cX1_rounds 34 = .ok (.istore_n 1, 1) := by decide +kernel
theorem dX1_rounds_35 : decode cX1_rounds 35 = .ok (.iinc 2 1, 3) := by decide +kernel
theorem dX1_rounds_38 : decode cX1_rounds 38 = .ok (.goto (-30), 3) := by decide +kernel
theorem dX1_rounds_41 : decode cX1_rounds 41 = .ok (.iload_n 1, 1) := by decide +kernel
theorem dX1_rounds_42 : decode cX1_rounds 42 = .ok (.ireturn, 1) := by decide +kernel
abbrev cX1_looselyAlike : ByteArray := prog_3_method_24_code
def yX1_looselyAlike : MethodName := ⟨RX1, "looselyAlike", "(II)Z"⟩
theorem dX1_looselyAlike_0 : decode cX1_looselyAlike 0 = .ok (.aload_n 0, 1) := by decide +kernel
theorem dX1_looselyAlike_1 : decode cX1_looselyAlike 1 = .ok (.invokevirtual 67, 3) := by decide +kernel
theorem dX1_looselyAlike_4 : decode cX1_looselyAlike 4 = .ok (.aload_n 0, 1) := by decide +kernel
theorem dX1_looselyAlike_5 : decode cX1_looselyAlike 5 = .ok (.iload_n 1, 1) := by decide +kernel
theorem dX1_looselyAlike_6 : decode cX1_looselyAlike 6 = .ok (.invokevirtual 26, 3) := by decide +kernel
theorem dX1_looselyAlike_9 : decode cX1_looselyAlike 9 = .ok (.ifCond .eq 29, 3) := by decide +kernel
theorem dX1_looselyAlike_12 : decode cX1_looselyAlike 12 = .ok (.aload_n 0, 1) := by decide +kernel
theorem dX1_looselyAlike_13 : decode cX1_looselyAlike 13 = .ok (.iload_n 2, 1) := by decide +kernel
theorem dX1_looselyAlike_14 : decode cX1_looselyAlike 14 = .ok (.invokevirtual 26, 3) := by decide +kernel
theorem dX1_looselyAlike_17 : decode cX1_looselyAlike 17 = .ok (.ifCond .eq 21, 3) := by decide +kernel
theorem dX1_looselyAlike_20 : decode cX1_looselyAlike 20 = .ok (.aload_n 0, 1) := by decide +kernel
theorem dX1_looselyAlike_21 : decode cX1_looselyAlike 21 = .ok (.getfield 16, 3) := by decide +kernel
theorem dX1_looselyAlike_24 : decode cX1_looselyAlike 24 = .ok (.bipush 8, 2) := by decide +kernel
theorem dX1_looselyAlike_26 : decode cX1_looselyAlike 26 = .ok (.iload_n 1, 1) := by decide +kernel
theorem dX1_looselyAlike_27 : decode cX1_looselyAlike 27 = .ok (.imul, 1) := by decide +kernel
theorem dX1_looselyAlike_28 : decode cX1_looselyAlike 28 = .ok (.iload_n 2, 1) := by decide +kernel
theorem dX1_looselyAlike_29 : decode cX1_looselyAlike 29 = .ok (.iadd, 1) := by decide +kernel
theorem dX1_looselyAlike_30 : decode cX1_looselyAlike 30 = .ok (.iaload, 1) := by decide +kernel
theorem dX1_looselyAlike_31 : decode cX1_looselyAlike 31 = .ok (.ifCond .ge 7, 3) := by decide +kernel
theorem dX1_looselyAlike_34 : decode cX1_looselyAlike 34 = .ok (.iconst 1, 1) := by decide +kernel
theorem dX1_looselyAlike_35 : decode cX1_looselyAlike 35 = .ok (.goto 4, 3) := by decide +kernel
theorem dX1_looselyAlike_38 : decode cX1_looselyAlike 38 = .ok (.iconst 0, 1) := by decide +kernel
theorem dX1_looselyAlike_39 : decode cX1_looselyAlike 39 = .ok (.ireturn, 1) := by decide +kernel
end
section
set_option maxRecDepth 100000
abbrev cX1_tellLongSteps : ByteArray := prog_3_method_17_code
def yX1_tellLongSteps : MethodName := ⟨RX1, "tellLongSteps", "()V"⟩
theorem dX1_tellLongSteps_0 : decode cX1_tellLongSteps 0 = .ok (.aload_n 0, 1) := by decide +kernel
theorem dX1_tellLongSteps_1 : decode cX1_tellLongSteps 1 = .ok (.invokevirtual 57, 3) := by decide +kernel
theorem dX1_tellLongSteps_4 : decode cX1_tellLongSteps 4 = .ok (.aload_n 0, 1) := by decide +kernel
theorem dX1_tellLongSteps_5 : decode cX1_tellLongSteps 5 = .ok (.invokevirtual 54, 3) := by decide +kernel
theorem dX1_tellLongSteps_8 : decode cX1_tellLongSteps 8 = .ok (.return_, 1) := by decide +kernel
abbrev cX1_useLongSteps : ByteArray := prog_3_method_11_code
def yX1_useLongSteps : MethodName := ⟨RX1, "useLongSteps", "()V"⟩
theorem dX1_useLongSteps_0 : decode cX1_useLongSteps 0 = .ok (.iconst 0, 1) := by decide +kernel
theorem dX1_useLongSteps_1 : decode cX1_useLongSteps 1 = .ok (.istore_n 1, 1) := by decide +kernel
theorem dX1_useLongSteps_2 : decode cX1_useLongSteps 2 = .ok (.iload_n 1, 1) := by decide +kernel
theorem dX1_useLongSteps_3 : decode cX1_useLongSteps 3 = .ok (.bipush 8, 2) := by decide +kernel
theorem dX1_useLongSteps_5 : decode cX1_useLongSteps 5 = .ok (.if_icmp .ge 50, 3) := by decide +kernel
theorem dX1_useLongSteps_8 : decode cX1_useLongSteps 8 = .ok (.aload_n 0, 1) := by decide +kernel
theorem dX1_useLongSteps_9 : decode cX1_useLongSteps 9 = .ok (.getfield 13, 3) := by decide +kernel
theorem dX1_useLongSteps_12 : decode cX1_useLongSteps 12 = .ok (.iload_n 1, 1) := by decide +kernel
theorem dX1_useLongSteps_13 : decode cX1_useLongSteps 13 = .ok (.aload_n 0, 1) := by decide +kernel
theorem dX1_useLongSteps_14 : decode cX1_useLongSteps 14 = .ok (.iload_n 1, 1) := by decide +kernel
theorem dX1_useLongSteps_15 : decode cX1_useLongSteps 15 = .ok (.invokevirtual 38, 3) := by decide +kernel
theorem dX1_useLongSteps_18 : decode cX1_useLongSteps 18 = .ok (.iastore, 1) := by decide +kernel
theorem dX1_useLongSteps_19 : decode cX1_useLongSteps 19 = .ok (.aload_n 0, 1) := by decide +kernel
theorem dX1_useLongSteps_20 : decode cX1_useLongSteps 20 = .ok (.getfield 13, 3) := by decide +kernel
theorem dX1_useLongSteps_23 : decode cX1_useLongSteps 23 = .ok (.bipush 8, 2) := by decide +kernel
theorem dX1_useLongSteps_25 : decode cX1_useLongSteps 25 = .ok (.iload_n 1, 1) := by decide +kernel
theorem dX1_useLongSteps_26 : decode cX1_useLongSteps 26 = .ok (.iadd, 1) := by decide +kernel
theorem dX1_useLongSteps_27 : decode cX1_useLongSteps 27 = .ok (.aload_n 0, 1) := by decide +kernel
theorem dX1_useLongSteps_28 : decode cX1_useLongSteps 28 = .ok (.iload_n 1, 1) := by decide +kernel
theorem dX1_useLongSteps_29 : decode cX1_useLongSteps 29 = .ok (.iconst 1, 1) := by decide +kernel
theorem dX1_useLongSteps_30 : decode cX1_useLongSteps 30 = .ok (.invokevirtual 42, 3) := by decide +kernel
theorem dX1_useLongSteps_33 : decode cX1_useLongSteps 33 = .ok (.iastore, 1) := by decide +kernel
theorem dX1_useLongSteps_34 : decode cX1_useLongSteps 34 = .ok (.aload_n 0, 1) := by decide +kernel
theorem dX1_useLongSteps_35 : decode cX1_useLongSteps 35 = .ok (.getfield 13, 3) := by decide +kernel
theorem dX1_useLongSteps_38 : decode cX1_useLongSteps 38 = .ok (.bipush 16, 2) := by decide +kernel
theorem dX1_useLongSteps_40 : decode cX1_useLongSteps 40 = .ok (.iload_n 1, 1) := by decide +kernel
theorem dX1_useLongSteps_41 : decode cX1_useLongSteps 41 = .ok (.iadd, 1) := by decide +kernel
theorem dX1_useLongSteps_42 : decode cX1_useLongSteps 42 = .ok (.aload_n 0, 1) := by decide +kernel
theorem dX1_useLongSteps_43 : decode cX1_useLongSteps 43 = .ok (.iload_n 1, 1) := by decide +kernel
theorem dX1_useLongSteps_44 : decode cX1_useLongSteps 44 = .ok (.iconst 2, 1) := by decide +kernel
theorem dX1_useLongSteps_45 : decode cX1_useLongSteps 45 = .ok (.invokevirtual 42, 3) := by decide +kernel
theorem dX1_useLongSteps_48 : decode cX1_useLongSteps 48 = .ok (.iastore, 1) := by decide +kernel
theorem dX1_useLongSteps_49 : decode cX1_useLongSteps 49 = .ok (.iinc 1 1, 3) := by decide +kernel
theorem dX1_useLongSteps_52 : decode cX1_useLongSteps 52 = .ok (.goto (-50), 3) := by decide +kernel
theorem dX1_useLongSteps_55 : decode cX1_useLongSteps 55 = .ok (.return_, 1) := by decide +kernel
abbrev cX1_quietly : ByteArray := prog_3_method_9_code
def yX1_quietly : MethodName := ⟨RX1, "quietly", "(I)I"⟩
theorem dX1_quietly_0 : decode cX1_quietly 0 = .ok (.iconst 1, 1) := by decide +kernel
theorem dX1_quietly_1 : decode cX1_quietly 1 = .ok (.iload_n 1, 1) := by decide +kernel
theorem dX1_quietly_2 : decode cX1_quietly 2 = .ok (.ishl, 1) := by decide +kernel
theorem dX1_quietly_3 : decode cX1_quietly 3 = .ok (.istore_n 2, 1) := by decide +kernel
theorem dX1_quietly_4 : decode cX1_quietly 4 = .ok (.iconst 0, 1) := by decide +kernel
theorem dX1_quietly_5 : decode cX1_quietly 5 = .ok (.istore_n 3, 1) := by decide +kernel
theorem dX1_quietly_6 : decode cX1_quietly 6 = .ok (.iload_n 3, 1) := by decide +kernel
theorem dX1_quietly_7 : decode cX1_quietly 7 = .ok (.bipush 8, 2) := by decide +kernel
theorem dX1_quietly_9 : decode cX1_quietly 9 = .ok (.if_icmp .ge 16, 3) := by decide +kernel
theorem dX1_quietly_12 : decode cX1_quietly 12 = .ok (.aload_n 0, 1) := by decide +kernel
theorem dX1_quietly_13 : decode cX1_quietly 13 = .ok (.iload_n 2, 1) := by decide +kernel
theorem dX1_quietly_14 : decode cX1_quietly 14 = .ok (.iconst 0, 1) := by decide +kernel
theorem dX1_quietly_15 : decode cX1_quietly 15 = .ok (.invokevirtual 34, 3) := by decide +kernel
theorem dX1_quietly_18 : decode cX1_quietly 18 = .ok (.istore_n 2, 1) := by decide +kernel
theorem dX1_quietly_19 : decode cX1_quietly 19 = .ok (.iinc 3 1, 3) := by decide +kernel
theorem dX1_quietly_22 : decode cX1_quietly 22 = .ok (.goto (-16), 3) := by decide +kernel
theorem dX1_quietly_25 : decode cX1_quietly 25 = .ok (.iload_n 2, 1) := by decide +kernel
theorem dX1_quietly_26 : decode cX1_quietly 26 = .ok (.ireturn, 1) := by decide +kernel
abbrev cX1_onward : ByteArray := prog_3_method_10_code
def yX1_onward : MethodName := ⟨RX1, "onward", "(II)I"⟩
theorem dX1_onward_0 : decode cX1_onward 0 = .ok (.iload_n 1, 1) := by decide +kernel
theorem dX1_onward_1 : decode cX1_onward 1 = .ok (.istore_n 3, 1) := by decide +kernel
theorem dX1_onward_2 : decode cX1_onward 2 = .ok (.iconst 0, 1) := by decide +kernel
theorem dX1_onward_3 : decode cX1_onward 3 = .ok (.istore 4, 2) := by decide +kernel
theorem dX1_onward_5 : decode cX1_onward 5 = .ok (.iload 4, 2) := by decide +kernel
theorem dX1_onward_7 : decode cX1_onward 7 = .ok (.bipush 8, 2) := by decide +kernel
theorem dX1_onward_9 : decode cX1_onward 9 = .ok (.if_icmp .ge 38, 3) := by decide +kernel
theorem dX1_onward_12 : decode cX1_onward 12 = .ok (.iload_n 1, 1) := by decide +kernel
theorem dX1_onward_13 : decode cX1_onward 13 = .ok (.iload 4, 2) := by decide +kernel
theorem dX1_onward_15 : decode cX1_onward 15 = .ok (.ishr, 1) := by decide +kernel
theorem dX1_onward_16 : decode cX1_onward 16 = .ok (.iconst 1, 1) := by decide +kernel
theorem dX1_onward_17 : decode cX1_onward 17 = .ok (.iand, 1) := by decide +kernel
theorem dX1_onward_18 : decode cX1_onward 18 = .ok (.iconst 1, 1) := by decide +kernel
theorem dX1_onward_19 : decode cX1_onward 19 = .ok (.if_icmp .ne 20, 3) := by decide +kernel
theorem dX1_onward_22 : decode cX1_onward 22 = .ok (.iload_n 3, 1) := by decide +kernel
theorem dX1_onward_23 : decode cX1_onward 23 = .ok (.aload_n 0, 1) := by decide +kernel
theorem dX1_onward_24 : decode cX1_onward 24 = .ok (.getfield 7, 3) := by decide +kernel
theorem dX1_onward_27 : decode cX1_onward 27 = .ok (.bipush 8, 2) := by decide +kernel
theorem dX1_onward_29 : decode cX1_onward 29 = .ok (.iload_n 2, 1) := by decide +kernel
theorem dX1_onward_30 : decode cX1_onward 30 = .ok (.imul, 1) := by decide +kernel
theorem dX1_onward_31 : decode cX1_onward 31 = .ok (.iload 4, 2) := by decide +kernel
theorem dX1_onward_33 : decode cX1_onward 33 = .ok (.iadd, 1) := by decide +kernel
theorem dX1_onward_34 : decode cX1_onward 34 = .ok (.iaload, 1) := by decide +kernel
theorem dX1_onward_35 : decode cX1_onward 35 = .ok (.ior, 1) := by decide +kernel
theorem dX1_onward_36 : decode cX1_onward 36 = .ok (.goto 4, 3) := by decide +kernel
theorem dX1_onward_39 : decode cX1_onward 39 = .ok (.iload_n 3, 1) := by decide +kernel
theorem dX1_onward_40 : decode cX1_onward 40 = .ok (.istore_n 3, 1) := by decide +kernel
theorem dX1_onward_41 : decode cX1_onward 41 = .ok (.iinc 4 1, 3) := by decide +kernel
theorem dX1_onward_44 : decode cX1_onward 44 = .ok (.goto (-39), 3) := by decide +kernel
theorem dX1_onward_47 : decode cX1_onward 47 = .ok (.iload_n 3, 1) := by decide +kernel
theorem dX1_onward_48 : decode cX1_onward 48 = .ok (.ireturn, 1) := by decide +kernel
abbrev cX1_labelled : ByteArray := prog_3_method_12_code
def yX1_labelled : MethodName := ⟨RX1, "labelled", "(II)I"⟩
theorem dX1_labelled_0 : decode cX1_labelled 0 = .ok (.aload_n 0, 1) := by decide +kernel
theorem dX1_labelled_1 : decode cX1_labelled 1 = .ok (.iload_n 1, 1) := by decide +kernel
theorem dX1_labelled_2 : decode cX1_labelled 2 = .ok (.invokevirtual 38, 3) := by decide +kernel
theorem dX1_labelled_5 : decode cX1_labelled 5 = .ok (.istore_n 3, 1) := by decide +kernel
theorem dX1_labelled_6 : decode cX1_labelled 6 = .ok (.iconst 0, 1) := by decide +kernel
theorem dX1_labelled_7 : decode cX1_labelled 7 = .ok (.istore 4, 2) := by decide +kernel
theorem dX1_labelled_9 : decode cX1_labelled 9 = .ok (.iconst 0, 1) := by decide +kernel
theorem dX1_labelled_10 : decode cX1_labelled 10 = .ok (.istore 5, 2) := by decide +kernel
theorem dX1_labelled_12 : decode cX1_labelled 12 = .ok (.iload 5, 2) := by decide +kernel
theorem dX1_labelled_14 : decode cX1_labelled 14 = .ok (.bipush 8, 2) := by decide +kernel
theorem dX1_labelled_16 : decode cX1_labelled 16 = .ok (.if_icmp .ge 41, 3) := by decide +kernel
theorem dX1_labelled_19 : decode cX1_labelled 19 = .ok (.iload_n 3, 1) := by decide +kernel
theorem dX1_labelled_20 : decode cX1_labelled 20 = .ok (.iload 5, 2) := by decide +kernel
theorem dX1_labelled_22 : decode cX1_labelled 22 = .ok (.ishr, 1) := by decide +kernel
theorem dX1_labelled_23 : decode cX1_labelled 23 = .ok (.iconst 1, 1) := by decide +kernel
theorem dX1_labelled_24 : decode cX1_labelled 24 = .ok (.iand, 1) := by decide +kernel
theorem dX1_labelled_25 : decode cX1_labelled 25 = .ok (.iconst 1, 1) := by decide +kernel
theorem dX1_labelled_26 : decode cX1_labelled 26 = .ok (.if_icmp .ne 21, 3) := by decide +kernel
theorem dX1_labelled_29 : decode cX1_labelled 29 = .ok (.iload 4, 2) := by decide +kernel
theorem dX1_labelled_31 : decode cX1_labelled 31 = .ok (.aload_n 0, 1) := by decide +kernel
theorem dX1_labelled_32 : decode cX1_labelled 32 = .ok (.getfield 7, 3) := by decide +kernel
theorem dX1_labelled_35 : decode cX1_labelled 35 = .ok (.bipush 8, 2) := by decide +kernel
theorem dX1_labelled_37 : decode cX1_labelled 37 = .ok (.iload_n 2, 1) := by decide +kernel
theorem dX1_labelled_38 : decode cX1_labelled 38 = .ok (.imul, 1) := by decide +kernel
theorem dX1_labelled_39 : decode cX1_labelled 39 = .ok (.iload 5, 2) := by decide +kernel
theorem dX1_labelled_41 : decode cX1_labelled 41 = .ok (.iadd, 1) := by decide +kernel
theorem dX1_labelled_42 : decode cX1_labelled 42 = .ok (.iaload, 1) := by decide +kernel
theorem dX1_labelled_43 : decode cX1_labelled 43 = .ok (.ior, 1) := by decide +kernel
theorem dX1_labelled_44 : decode cX1_labelled 44 = .ok (.goto 5, 3) := by decide +kernel
theorem dX1_labelled_47 : decode cX1_labelled 47 = .ok (.iload 4, 2) := by decide +kernel
theorem dX1_labelled_49 : decode cX1_labelled 49 = .ok (.istore 4, 2) := by decide +kernel
theorem dX1_labelled_51 : decode cX1_labelled 51 = .ok (.iinc 5 1, 3) := by decide +kernel
theorem dX1_labelled_54 : decode cX1_labelled 54 = .ok (.goto (-42), 3) := by decide +kernel
theorem dX1_labelled_57 : decode cX1_labelled 57 = .ok (.iconst 0, 1) := by decide +kernel
theorem dX1_labelled_58 : decode cX1_labelled 58 = .ok (.istore 5, 2) := by decide +kernel
theorem dX1_labelled_60 : decode cX1_labelled 60 = .ok (.iconst 0, 1) := by decide +kernel
theorem dX1_labelled_61 : decode cX1_labelled 61 = .ok (.istore 6, 2) := by decide +kernel
theorem dX1_labelled_63 : decode cX1_labelled 63 = .ok (.iload 6, 2) := by decide +kernel
theorem dX1_labelled_65 : decode cX1_labelled 65 = .ok (.bipush 8, 2) := by decide +kernel
theorem dX1_labelled_67 : decode cX1_labelled 67 = .ok (.if_icmp .ge 36, 3) := by decide +kernel
theorem dX1_labelled_70 : decode cX1_labelled 70 = .ok (.iload 4, 2) := by decide +kernel
theorem dX1_labelled_72 : decode cX1_labelled 72 = .ok (.iload 6, 2) := by decide +kernel
theorem dX1_labelled_74 : decode cX1_labelled 74 = .ok (.ishr, 1) := by decide +kernel
theorem dX1_labelled_75 : decode cX1_labelled 75 = .ok (.iconst 1, 1) := by decide +kernel
theorem dX1_labelled_76 : decode cX1_labelled 76 = .ok (.iand, 1) := by decide +kernel
theorem dX1_labelled_77 : decode cX1_labelled 77 = .ok (.iconst 1, 1) := by decide +kernel
theorem dX1_labelled_78 : decode cX1_labelled 78 = .ok (.if_icmp .ne 15, 3) := by decide +kernel
theorem dX1_labelled_81 : decode cX1_labelled 81 = .ok (.iload 5, 2) := by decide +kernel
theorem dX1_labelled_83 : decode cX1_labelled 83 = .ok (.aload_n 0, 1) := by decide +kernel
theorem dX1_labelled_84 : decode cX1_labelled 84 = .ok (.iload 6, 2) := by decide +kernel
theorem dX1_labelled_86 : decode cX1_labelled 86 = .ok (.invokevirtual 38, 3) := by decide +kernel
theorem dX1_labelled_89 : decode cX1_labelled 89 = .ok (.ior, 1) := by decide +kernel
theorem dX1_labelled_90 : decode cX1_labelled 90 = .ok (.goto 5, 3) := by decide +kernel
theorem dX1_labelled_93 : decode cX1_labelled 93 = .ok (.iload 5, 2) := by decide +kernel
theorem dX1_labelled_95 : decode cX1_labelled 95 = .ok (.istore 5, 2) := by decide +kernel
theorem dX1_labelled_97 : decode cX1_labelled 97 = .ok (.iinc 6 1, 3) := by decide +kernel
theorem dX1_labelled_100 : decode cX1_labelled 100 = .ok (.goto (-37), 3) := by decide +kernel
theorem dX1_labelled_103 : decode cX1_labelled 103 = .ok (.iload 5, 2) := by decide +kernel
theorem dX1_labelled_105 : decode cX1_labelled 105 = .ok (.ireturn, 1) := by decide +kernel
abbrev cX1_looseGroups : ByteArray := prog_3_method_25_code
def yX1_looseGroups : MethodName := ⟨RX1, "looseGroups", "()I"⟩
theorem dX1_looseGroups_0 : decode cX1_looseGroups 0 = .ok (.aload_n 0, 1) := by decide +kernel
theorem dX1_looseGroups_1 : decode cX1_looseGroups 1 = .ok (.invokevirtual 67, 3) := by decide +kernel
theorem dX1_looseGroups_4 : decode cX1_looseGroups 4 = .ok (.aload_n 0, 1) := by decide +kernel
theorem dX1_looseGroups_5 : decode cX1_looseGroups 5 = .ok (.invokevirtual 63, 3) := by decide +kernel
theorem dX1_looseGroups_8 : decode cX1_looseGroups 8 = .ok (.ireturn, 1) := by decide +kernel
abbrev cX1_follows : ByteArray := prog_3_method_28_code
def yX1_follows : MethodName := ⟨RX1, "follows", "(II)Z"⟩
theorem dX1_follows_0 : decode cX1_follows 0 = .ok (.aload_n 0, 1) := by decide +kernel
theorem dX1_follows_1 : decode cX1_follows 1 = .ok (.invokevirtual 74, 3) := by decide +kernel
theorem dX1_follows_4 : decode cX1_follows 4 = .ok (.aload_n 0, 1) := by decide +kernel
theorem dX1_follows_5 : decode cX1_follows 5 = .ok (.iload_n 2, 1) := by decide +kernel
theorem dX1_follows_6 : decode cX1_follows 6 = .ok (.invokevirtual 26, 3) := by decide +kernel
theorem dX1_follows_9 : decode cX1_follows 9 = .ok (.ifCond .eq 29, 3) := by decide +kernel
theorem dX1_follows_12 : decode cX1_follows 12 = .ok (.aload_n 0, 1) := by decide +kernel
theorem dX1_follows_13 : decode cX1_follows 13 = .ok (.iload_n 1, 1) := by decide +kernel
theorem dX1_follows_14 : decode cX1_follows 14 = .ok (.invokevirtual 26, 3) := by decide +kernel
theorem dX1_follows_17 : decode cX1_follows 17 = .ok (.ifCond .eq 21, 3) := by decide +kernel
theorem dX1_follows_20 : decode cX1_follows 20 = .ok (.aload_n 0, 1) := by decide +kernel
theorem dX1_follows_21 : decode cX1_follows 21 = .ok (.getfield 22, 3) := by decide +kernel
theorem dX1_follows_24 : decode cX1_follows 24 = .ok (.bipush 8, 2) := by decide +kernel
theorem dX1_follows_26 : decode cX1_follows 26 = .ok (.iload_n 1, 1) := by decide +kernel
theorem dX1_follows_27 : decode cX1_follows 27 = .ok (.imul, 1) := by decide +kernel
theorem dX1_follows_28 : decode cX1_follows 28 = .ok (.iload_n 2, 1) := by decide +kernel
theorem dX1_follows_29 : decode cX1_follows 29 = .ok (.iadd, 1) := by decide +kernel
theorem dX1_follows_30 : decode cX1_follows 30 = .ok (.baload, 1) := by decide +kernel
theorem dX1_follows_31 : decode cX1_follows 31 = .ok (.ifCond .eq 7, 3) := by decide +kernel
theorem dX1_follows_34 : decode cX1_follows 34 = .ok (.iconst 1, 1) := by decide +kernel
theorem dX1_follows_35 : decode cX1_follows 35 = .ok (.goto 4, 3) := by decide +kernel
theorem dX1_follows_38 : decode cX1_follows 38 = .ok (.iconst 0, 1) := by decide +kernel
theorem dX1_follows_39 : decode cX1_follows 39 = .ok (.ireturn, 1) := by decide +kernel
abbrev cX1_follow : ByteArray := prog_3_method_27_code
def yX1_follow : MethodName := ⟨RX1, "follow", "()V"⟩
theorem dX1_follow_0 : decode cX1_follow 0 = .ok (.iconst 0, 1) := by decide +kernel
theorem dX1_follow_1 : decode cX1_follow 1 = .ok (.istore_n 1, 1) := by decide +kernel
theorem dX1_follow_2 : decode cX1_follow 2 = .ok (.iload_n 1, 1) := by decide +kernel
theorem dX1_follow_3 : decode cX1_follow 3 = .ok (.bipush 64, 2) := by decide +kernel
theorem dX1_follow_5 : decode cX1_follow 5 = .ok (.if_icmp .ge 16, 3) := by decide +kernel
theorem dX1_follow_8 : decode cX1_follow 8 = .ok (.aload_n 0, 1) := by decide +kernel
theorem dX1_follow_9 : decode cX1_follow 9 = .ok (.getfield 22, 3) := by decide +kernel
theorem dX1_follow_12 : decode cX1_follow 12 = .ok (.iload_n 1, 1) := by decide +kernel
theorem dX1_follow_13 : decode cX1_follow 13 = .ok (.iconst 1, 1) := by decide +kernel
theorem dX1_follow_14 : decode cX1_follow 14 = .ok (.bastore, 1) := by decide +kernel
theorem dX1_follow_15 : decode cX1_follow 15 = .ok (.iinc 1 1, 3) := by decide +kernel
theorem dX1_follow_18 : decode cX1_follow 18 = .ok (.goto (-16), 3) := by decide +kernel
theorem dX1_follow_21 : decode cX1_follow 21 = .ok (.iconst 1, 1) := by decide +kernel
theorem dX1_follow_22 : decode cX1_follow 22 = .ok (.istore_n 1, 1) := by decide +kernel
theorem dX1_follow_23 : decode cX1_follow 23 = .ok (.iconst 0, 1) := by decide +kernel
theorem dX1_follow_24 : decode cX1_follow 24 = .ok (.istore_n 2, 1) := by decide +kernel
theorem dX1_follow_25 : decode cX1_follow 25 = .ok (.iload_n 2, 1) := by decide +kernel
theorem dX1_follow_26 : decode cX1_follow 26 = .ok (.bipush 65, 2) := by decide +kernel
theorem dX1_follow_28 : decode cX1_follow 28 = .ok (.if_icmp .ge 100, 3) := by decide +kernel
theorem dX1_follow_31 : decode cX1_follow 31 = .ok (.iload_n 1, 1) := by decide +kernel
theorem dX1_follow_32 : decode cX1_follow 32 = .ok (.ifCond .eq 96, 3) := by decide +kernel
theorem dX1_follow_35 : decode cX1_follow 35 = .ok (.iconst 0, 1) := by decide +kernel
theorem dX1_follow_36 : decode cX1_follow 36 = .ok (.istore_n 1, 1) := by decide +kernel
theorem dX1_follow_37 : decode cX1_follow 37 = .ok (.iconst 0, 1) := by decide +kernel
theorem dX1_follow_38 : decode cX1_follow 38 = .ok (.istore_n 3, 1) := by decide +kernel
theorem dX1_follow_39 : decode cX1_follow 39 = .ok (.iload_n 3, 1) := by decide +kernel
theorem dX1_follow_40 : decode cX1_follow 40 = .ok (.bipush 64, 2) := by decide +kernel
theorem dX1_follow_42 : decode cX1_follow 42 = .ok (.if_icmp .ge 80, 3) := by decide +kernel
theorem dX1_follow_45 : decode cX1_follow 45 = .ok (.aload_n 0, 1) := by decide +kernel
theorem dX1_follow_46 : decode cX1_follow 46 = .ok (.getfield 22, 3) := by decide +kernel
theorem dX1_follow_49 : decode cX1_follow 49 = .ok (.iload_n 3, 1) := by decide +kernel
theorem dX1_follow_50 : decode cX1_follow 50 = .ok (.baload, 1) := by decide +kernel
theorem dX1_follow_51 : decode cX1_follow 51 = .ok (.ifCond .eq 22, 3) := by decide +kernel
theorem dX1_follow_54 : decode cX1_follow 54 = .ok (.aload_n 0, 1) := by decide +kernel
theorem dX1_follow_55 : decode cX1_follow 55 = .ok (.iload_n 3, 1) := by decide +kernel
theorem dX1_follow_56 : decode cX1_follow 56 = .ok (.bipush 8, 2) := by decide +kernel
theorem dX1_follow_58 : decode cX1_follow 58 = .ok (.idiv, 1) := by decide +kernel
theorem dX1_follow_59 : decode cX1_follow 59 = .ok (.iload_n 3, 1) := by decide +kernel
theorem dX1_follow_60 : decode cX1_follow 60 = .ok (.bipush 8, 2) := by decide +kernel
theorem dX1_follow_62 : decode cX1_follow 62 = .ok (.irem, 1) := by decide +kernel
theorem dX1_follow_63 : decode cX1_follow 63 = .ok (.invokevirtual 70, 3) := by decide +kernel
theorem dX1_follow_66 : decode cX1_follow 66 = .ok (.ifCond .ne 7, 3) := by decide +kernel
theorem dX1_follow_69 : decode cX1_follow 69 = .ok (.iconst 1, 1) := by decide +kernel
theorem dX1_follow_70 : decode cX1_follow 70 = .ok (.goto 4, 3) := by decide +kernel
theorem dX1_follow_73 : decode cX1_follow 73 = .ok (.iconst 0, 1) := by decide +kernel
theorem dX1_follow_74 : decode cX1_follow 74 = .ok (.istore 4, 2) := by decide +kernel
theorem dX1_follow_76 : decode cX1_follow 76 = .ok (.aload_n 0, 1) := by decide +kernel
theorem dX1_follow_77 : decode cX1_follow 77 = .ok (.getfield 22, 3) := by decide +kernel
theorem dX1_follow_80 : decode cX1_follow 80 = .ok (.iload_n 3, 1) := by decide +kernel
theorem dX1_follow_81 : decode cX1_follow 81 = .ok (.aload_n 0, 1) := by decide +kernel
theorem dX1_follow_82 : decode cX1_follow 82 = .ok (.getfield 22, 3) := by decide +kernel
theorem dX1_follow_85 : decode cX1_follow 85 = .ok (.iload_n 3, 1) := by decide +kernel
theorem dX1_follow_86 : decode cX1_follow 86 = .ok (.baload, 1) := by decide +kernel
theorem dX1_follow_87 : decode cX1_follow 87 = .ok (.ifCond .eq 12, 3) := by decide +kernel
theorem dX1_follow_90 : decode cX1_follow 90 = .ok (.iload 4, 2) := by decide +kernel
theorem dX1_follow_92 : decode cX1_follow 92 = .ok (.ifCond .ne 7, 3) := by decide +kernel
theorem dX1_follow_95 : decode cX1_follow 95 = .ok (.iconst 1, 1) := by decide +kernel
theorem dX1_follow_96 : decode cX1_follow 96 = .ok (.goto 4, 3) := by decide +kernel
theorem dX1_follow_99 : decode cX1_follow 99 = .ok (.iconst 0, 1) := by decide +kernel
theorem dX1_follow_100 : decode cX1_follow 100 = .ok (.bastore, 1) := by decide +kernel
theorem dX1_follow_101 : decode cX1_follow 101 = .ok (.iload_n 1, 1) := by decide +kernel
theorem dX1_follow_102 : decode cX1_follow 102 = .ok (.ifCond .ne 8, 3) := by decide +kernel
theorem dX1_follow_105 : decode cX1_follow 105 = .ok (.iload 4, 2) := by decide +kernel
theorem dX1_follow_107 : decode cX1_follow 107 = .ok (.ifCond .eq 7, 3) := by decide +kernel
theorem dX1_follow_110 : decode cX1_follow 110 = .ok (.iconst 1, 1) := by decide +kernel
theorem dX1_follow_111 : decode cX1_follow 111 = .ok (.goto 4, 3) := by decide +kernel
theorem dX1_follow_114 : decode cX1_follow 114 = .ok (.iconst 0, 1) := by decide +kernel
theorem dX1_follow_115 : decode cX1_follow 115 = .ok (.istore_n 1, 1) := by decide +kernel
theorem dX1_follow_116 : decode cX1_follow 116 = .ok (.iinc 3 1, 3) := by decide +kernel
theorem dX1_follow_119 : decode cX1_follow 119 = .ok (.goto (-80), 3) := by decide +kernel
theorem dX1_follow_122 : decode cX1_follow 122 = .ok (.iinc 2 1, 3) := by decide +kernel
theorem dX1_follow_125 : decode cX1_follow 125 = .ok (.goto (-100), 3) := by decide +kernel
theorem dX1_follow_128 : decode cX1_follow 128 = .ok (.return_, 1) := by decide +kernel
abbrev cX1_answers : ByteArray := prog_3_method_26_code
def yX1_answers : MethodName := ⟨RX1, "answers", "(II)Z"⟩
theorem dX1_answers_0 : decode cX1_answers 0 = .ok (.iconst 1, 1) := by decide +kernel
theorem dX1_answers_1 : decode cX1_answers 1 = .ok (.istore_n 3, 1) := by decide +kernel
theorem dX1_answers_2 : decode cX1_answers 2 = .ok (.iconst 0, 1) := by decide +kernel
theorem dX1_answers_3 : decode cX1_answers 3 = .ok (.istore 4, 2) := by decide +kernel
theorem dX1_answers_5 : decode cX1_answers 5 = .ok (.iload 4, 2) := by decide +kernel
theorem dX1_answers_7 : decode cX1_answers 7 = .ok (.bipush 24, 2) := by decide +kernel
theorem dX1_answers_9 : decode cX1_answers 9 = .ok (.if_icmp .ge 138, 3) := by decide +kernel
theorem dX1_answers_12 : decode cX1_answers 12 = .ok (.iload 4, 2) := by decide +kernel
theorem dX1_answers_14 : decode cX1_answers 14 = .ok (.bipush 8, 2) := by decide +kernel
theorem dX1_answers_16 : decode cX1_answers 16 = .ok (.idiv, 1) := by decide +kernel
theorem dX1_answers_17 : decode cX1_answers 17 = .ok (.istore 5, 2) := by decide +kernel
theorem dX1_answers_19 : decode cX1_answers 19 = .ok (.aload_n 0, 1) := by decide +kernel
theorem dX1_answers_20 : decode cX1_answers 20 = .ok (.getfield 7, 3) := by decide +kernel
theorem dX1_answers_23 : decode cX1_answers 23 = .ok (.bipush 8, 2) := by decide +kernel
theorem dX1_answers_25 : decode cX1_answers 25 = .ok (.iload 5, 2) := by decide +kernel
theorem dX1_answers_27 : decode cX1_answers 27 = .ok (.imul, 1) := by decide +kernel
theorem dX1_answers_28 : decode cX1_answers 28 = .ok (.iload_n 2, 1) := by decide +kernel
theorem dX1_answers_29 : decode cX1_answers 29 = .ok (.iadd, 1) := by decide +kernel
theorem dX1_answers_30 : decode cX1_answers 30 = .ok (.iaload, 1) := by decide +kernel
theorem dX1_answers_31 : decode cX1_answers 31 = .ok (.iload 4, 2) := by decide +kernel
theorem dX1_answers_33 : decode cX1_answers 33 = .ok (.bipush 8, 2) := by decide +kernel
theorem dX1_answers_35 : decode cX1_answers 35 = .ok (.irem, 1) := by decide +kernel
theorem dX1_answers_36 : decode cX1_answers 36 = .ok (.ishr, 1) := by decide +kernel
theorem dX1_answers_37 : decode cX1_answers 37 = .ok (.iconst 1, 1) := by decide +kernel
theorem dX1_answers_38 : decode cX1_answers 38 = .ok (.iand, 1) := by decide +kernel
theorem dX1_answers_39 : decode cX1_answers 39 = .ok (.iconst 1, 1) := by decide +kernel
theorem dX1_answers_40 : decode cX1_answers 40 = .ok (.if_icmp .ne 7, 3) := by decide +kernel
theorem dX1_answers_43 : decode cX1_answers 43 = .ok (.iconst 1, 1) := by decide +kernel
theorem dX1_answers_44 : decode cX1_answers 44 = .ok (.goto 4, 3) := by decide +kernel
theorem dX1_answers_47 : decode cX1_answers 47 = .ok (.iconst 0, 1) := by decide +kernel
theorem dX1_answers_48 : decode cX1_answers 48 = .ok (.istore 6, 2) := by decide +kernel
theorem dX1_answers_50 : decode cX1_answers 50 = .ok (.iconst 0, 1) := by decide +kernel
theorem dX1_answers_51 : decode cX1_answers 51 = .ok (.istore 7, 2) := by decide +kernel
theorem dX1_answers_53 : decode cX1_answers 53 = .ok (.iconst 0, 1) := by decide +kernel
theorem dX1_answers_54 : decode cX1_answers 54 = .ok (.istore 8, 2) := by decide +kernel
theorem dX1_answers_56 : decode cX1_answers 56 = .ok (.iload 8, 2) := by decide +kernel
theorem dX1_answers_58 : decode cX1_answers 58 = .ok (.bipush 8, 2) := by decide +kernel
theorem dX1_answers_60 : decode cX1_answers 60 = .ok (.if_icmp .ge 61, 3) := by decide +kernel
theorem dX1_answers_63 : decode cX1_answers 63 = .ok (.iload 7, 2) := by decide +kernel
theorem dX1_answers_65 : decode cX1_answers 65 = .ok (.ifCond .ne 43, 3) := by decide +kernel
theorem dX1_answers_68 : decode cX1_answers 68 = .ok (.aload_n 0, 1) := by decide +kernel
theorem dX1_answers_69 : decode cX1_answers 69 = .ok (.getfield 7, 3) := by decide +kernel
theorem dX1_answers_72 : decode cX1_answers 72 = .ok (.bipush 8, 2) := by decide +kernel
theorem dX1_answers_74 : decode cX1_answers 74 = .ok (.iload 5, 2) := by decide +kernel
theorem dX1_answers_76 : decode cX1_answers 76 = .ok (.imul, 1) := by decide +kernel
theorem dX1_answers_77 : decode cX1_answers 77 = .ok (.iload_n 1, 1) := by decide +kernel
theorem dX1_answers_78 : decode cX1_answers 78 = .ok (.iadd, 1) := by decide +kernel
theorem dX1_answers_79 : decode cX1_answers 79 = .ok (.iaload, 1) := by decide +kernel
theorem dX1_answers_80 : decode cX1_answers 80 = .ok (.iload 8, 2) := by decide +kernel
theorem dX1_answers_82 : decode cX1_answers 82 = .ok (.ishr, 1) := by decide +kernel
theorem dX1_answers_83 : decode cX1_answers 83 = .ok (.iconst 1, 1) := by decide +kernel
theorem dX1_answers_84 : decode cX1_answers 84 = .ok (.iand, 1) := by decide +kernel
theorem dX1_answers_85 : decode cX1_answers 85 = .ok (.iconst 1, 1) := by decide +kernel
theorem dX1_answers_86 : decode cX1_answers 86 = .ok (.if_icmp .ne 26, 3) := by decide +kernel
theorem dX1_answers_89 : decode cX1_answers 89 = .ok (.aload_n 0, 1) := by decide +kernel
theorem dX1_answers_90 : decode cX1_answers 90 = .ok (.getfield 22, 3) := by decide +kernel
theorem dX1_answers_93 : decode cX1_answers 93 = .ok (.bipush 8, 2) := by decide +kernel
theorem dX1_answers_95 : decode cX1_answers 95 = .ok (.iload 8, 2) := by decide +kernel
theorem dX1_answers_97 : decode cX1_answers 97 = .ok (.imul, 1) := by decide +kernel
theorem dX1_answers_98 : decode cX1_answers 98 = .ok (.iload 4, 2) := by decide +kernel
theorem dX1_answers_100 : decode cX1_answers 100 = .ok (.bipush 8, 2) := by decide +kernel
theorem dX1_answers_102 : decode cX1_answers 102 = .ok (.irem, 1) := by decide +kernel
theorem dX1_answers_103 : decode cX1_answers 103 = .ok (.iadd, 1) := by decide +kernel
theorem dX1_answers_104 : decode cX1_answers 104 = .ok (.baload, 1) := by decide +kernel
theorem dX1_answers_105 : decode cX1_answers 105 = .ok (.ifCond .eq 7, 3) := by decide +kernel
theorem dX1_answers_108 : decode cX1_answers 108 = .ok (.iconst 1, 1) := by decide +kernel
theorem dX1_answers_109 : decode cX1_answers 109 = .ok (.goto 4, 3) := by decide +kernel
theorem dX1_answers_112 : decode cX1_answers 112 = .ok (.iconst 0, 1) := by decide +kernel
theorem dX1_answers_113 : decode cX1_answers 113 = .ok (.istore 7, 2) := by decide +kernel
theorem dX1_answers_115 : decode cX1_answers 115 = .ok (.iinc 8 1, 3) := by decide +kernel
theorem dX1_answers_118 : decode cX1_answers 118 = .ok (.goto (-62), 3) := by decide +kernel
theorem dX1_answers_121 : decode cX1_answers 121 = .ok (.iload_n 3, 1) := by decide +kernel
theorem dX1_answers_122 : decode cX1_answers 122 = .ok (.ifCond .eq 17, 3) := by decide +kernel
theorem dX1_answers_125 : decode cX1_answers 125 = .ok (.iload 6, 2) := by decide +kernel
theorem dX1_answers_127 : decode cX1_answers 127 = .ok (.ifCond .eq 8, 3) := by decide +kernel
theorem dX1_answers_130 : decode cX1_answers 130 = .ok (.iload 7, 2) := by decide +kernel
theorem dX1_answers_132 : decode cX1_answers 132 = .ok (.ifCond .eq 7, 3) := by decide +kernel
theorem dX1_answers_135 : decode cX1_answers 135 = .ok (.iconst 1, 1) := by decide +kernel
theorem dX1_answers_136 : decode cX1_answers 136 = .ok (.goto 4, 3) := by decide +kernel
theorem dX1_answers_139 : decode cX1_answers 139 = .ok (.iconst 0, 1) := by decide +kernel
theorem dX1_answers_140 : decode cX1_answers 140 = .ok (.istore_n 3, 1) := by decide +kernel
theorem dX1_answers_141 : decode cX1_answers 141 = .ok (.iinc 4 1, 3) := by decide +kernel
theorem dX1_answers_144 : decode cX1_answers 144 = .ok (.goto (-139), 3) := by decide +kernel
theorem dX1_answers_147 : decode cX1_answers 147 = .ok (.iload_n 3, 1) := by decide +kernel
theorem dX1_answers_148 : decode cX1_answers 148 = .ok (.ireturn, 1) := by decide +kernel
abbrev cX1_followers : ByteArray := prog_3_method_29_code
def yX1_followers : MethodName := ⟨RX1, "followers", "(I)I"⟩
theorem dX1_followers_0 : decode cX1_followers 0 = .ok (.aload_n 0, 1) := by decide +kernel
theorem dX1_followers_1 : decode cX1_followers 1 = .ok (.invokevirtual 74, 3) := by decide +kernel
theorem dX1_followers_4 : decode cX1_followers 4 = .ok (.iconst 0, 1) := by decide +kernel
theorem dX1_followers_5 : decode cX1_followers 5 = .ok (.istore_n 2, 1) := by decide +kernel
theorem dX1_followers_6 : decode cX1_followers 6 = .ok (.iconst 0, 1) := by decide +kernel
theorem dX1_followers_7 : decode cX1_followers 7 = .ok (.istore_n 3, 1) := by decide +kernel
theorem dX1_followers_8 : decode cX1_followers 8 = .ok (.iload_n 3, 1) := by decide +kernel
theorem dX1_followers_9 : decode cX1_followers 9 = .ok (.bipush 8, 2) := by decide +kernel
theorem dX1_followers_11 : decode cX1_followers 11 = .ok (.if_icmp .ge 41, 3) := by decide +kernel
theorem dX1_followers_14 : decode cX1_followers 14 = .ok (.aload_n 0, 1) := by decide +kernel
theorem dX1_followers_15 : decode cX1_followers 15 = .ok (.iload_n 1, 1) := by decide +kernel
theorem dX1_followers_16 : decode cX1_followers 16 = .ok (.invokevirtual 26, 3) := by decide +kernel
theorem dX1_followers_19 : decode cX1_followers 19 = .ok (.ifCond .eq 33, 3) := by decide +kernel
theorem dX1_followers_22 : decode cX1_followers 22 = .ok (.aload_n 0, 1) := by decide +kernel
theorem dX1_followers_23 : decode cX1_followers 23 = .ok (.getfield 22, 3) := by decide +kernel
theorem dX1_followers_26 : decode cX1_followers 26 = .ok (.bipush 8, 2) := by decide +kernel
theorem dX1_followers_28 : decode cX1_followers 28 = .ok (.iload_n 3, 1) := by decide +kernel
theorem dX1_followers_29 : decode cX1_followers 29 = .ok (.imul, 1) := by decide +kernel
theorem dX1_followers_30 : decode cX1_followers 30 = .ok (.iload_n 1, 1) := by decide +kernel
theorem dX1_followers_31 : decode cX1_followers 31 = .ok (.iadd, 1) := by decide +kernel
theorem dX1_followers_32 : decode cX1_followers 32 = .ok (.baload, 1) := by decide +kernel
theorem dX1_followers_33 : decode cX1_followers 33 = .ok (.ifCond .eq 11, 3) := by decide +kernel
theorem dX1_followers_36 : decode cX1_followers 36 = .ok (.iload_n 2, 1) := by decide +kernel
theorem dX1_followers_37 : decode cX1_followers 37 = .ok (.iconst 1, 1) := by decide +kernel
theorem dX1_followers_38 : decode cX1_followers 38 = .ok (.iload_n 3, 1) := by decide +kernel
theorem dX1_followers_39 : decode cX1_followers 39 = .ok (.ishl, 1) := by decide +kernel
theorem dX1_followers_40 : decode cX1_followers 40 = .ok (.ior, 1) := by decide +kernel
theorem dX1_followers_41 : decode cX1_followers 41 = .ok (.goto 4, 3) := by decide +kernel
theorem dX1_followers_44 : decode cX1_followers 44 = .ok (.iload_n 2, 1) := by decide +kernel
theorem dX1_followers_45 : decode cX1_followers 45 = .ok (.istore_n 2, 1) := by decide +kernel
theorem dX1_followers_46 : decode cX1_followers 46 = .ok (.iinc 3 1, 3) := by decide +kernel
theorem dX1_followers_49 : decode cX1_followers 49 = .ok (.goto (-41), 3) := by decide +kernel
theorem dX1_followers_52 : decode cX1_followers 52 = .ok (.iload_n 2, 1) := by decide +kernel
theorem dX1_followers_53 : decode cX1_followers 53 = .ok (.ireturn, 1) := by decide +kernel
abbrev cX1_silently : ByteArray := prog_3_method_30_code
def yX1_silently : MethodName := ⟨RX1, "silently", "(I)I"⟩
theorem dX1_silently_0 : decode cX1_silently 0 = .ok (.aload_n 0, 1) := by decide +kernel
theorem dX1_silently_1 : decode cX1_silently 1 = .ok (.iload_n 1, 1) := by decide +kernel
theorem dX1_silently_2 : decode cX1_silently 2 = .ok (.invokevirtual 26, 3) := by decide +kernel
theorem dX1_silently_5 : decode cX1_silently 5 = .ok (.ifCond .eq 11, 3) := by decide +kernel
theorem dX1_silently_8 : decode cX1_silently 8 = .ok (.aload_n 0, 1) := by decide +kernel
theorem dX1_silently_9 : decode cX1_silently 9 = .ok (.iload_n 1, 1) := by decide +kernel
theorem dX1_silently_10 : decode cX1_silently 10 = .ok (.invokevirtual 38, 3) := by decide +kernel
theorem dX1_silently_13 : decode cX1_silently 13 = .ok (.goto 4, 3) := by decide +kernel
theorem dX1_silently_16 : decode cX1_silently 16 = .ok (.iconst 0, 1) := by decide +kernel
theorem dX1_silently_17 : decode cX1_silently 17 = .ok (.ireturn, 1) := by decide +kernel
abbrev cX1_idle : ByteArray := prog_3_method_31_code
def yX1_idle : MethodName := ⟨RX1, "idle", "(III)Z"⟩
theorem dX1_idle_0 : decode cX1_idle 0 = .ok (.aload_n 0, 1) := by decide +kernel
theorem dX1_idle_1 : decode cX1_idle 1 = .ok (.iload_n 1, 1) := by decide +kernel
theorem dX1_idle_2 : decode cX1_idle 2 = .ok (.iload_n 2, 1) := by decide +kernel
theorem dX1_idle_3 : decode cX1_idle 3 = .ok (.iload_n 3, 1) := by decide +kernel
theorem dX1_idle_4 : decode cX1_idle 4 = .ok (.invokevirtual 30, 3) := by decide +kernel
theorem dX1_idle_7 : decode cX1_idle 7 = .ok (.ifCond .ne 5, 3) := by decide +kernel
theorem dX1_idle_10 : decode cX1_idle 10 = .ok (.iconst 0, 1) := by decide +kernel
theorem dX1_idle_11 : decode cX1_idle 11 = .ok (.ireturn, 1) := by decide +kernel
theorem dX1_idle_12 : decode cX1_idle 12 = .ok (.aload_n 0, 1) := by decide +kernel
theorem dX1_idle_13 : decode cX1_idle 13 = .ok (.invokevirtual 60, 3) := by decide +kernel
theorem dX1_idle_16 : decode cX1_idle 16 = .ok (.iconst 0, 1) := by decide +kernel
theorem dX1_idle_17 : decode cX1_idle 17 = .ok (.istore 4, 2) := by decide +kernel
theorem dX1_idle_19 : decode cX1_idle 19 = .ok (.iload 4, 2) := by decide +kernel
theorem dX1_idle_21 : decode cX1_idle 21 = .ok (.bipush 64, 2) := by decide +kernel
theorem dX1_idle_23 : decode cX1_idle 23 = .ok (.if_icmp .ge 23, 3) := by decide +kernel
theorem dX1_idle_26 : decode cX1_idle 26 = .ok (.aload_n 0, 1) := by decide +kernel
theorem dX1_idle_27 : decode cX1_idle 27 = .ok (.getfield 19, 3) := by decide +kernel
theorem dX1_idle_30 : decode cX1_idle 30 = .ok (.iload 4, 2) := by decide +kernel
theorem dX1_idle_32 : decode cX1_idle 32 = .ok (.aload_n 0, 1) := by decide +kernel
theorem dX1_idle_33 : decode cX1_idle 33 = .ok (.getfield 16, 3) := by decide +kernel
theorem dX1_idle_36 : decode cX1_idle 36 = .ok (.iload 4, 2) := by decide +kernel
theorem dX1_idle_38 : decode cX1_idle 38 = .ok (.iaload, 1) := by decide +kernel
theorem dX1_idle_39 : decode cX1_idle 39 = .ok (.iastore, 1) := by decide +kernel
theorem dX1_idle_40 : decode cX1_idle 40 = .ok (.iinc 4 1, 3) := by decide +kernel
theorem dX1_idle_43 : decode cX1_idle 43 = .ok (.goto (-24), 3) := by decide +kernel
theorem dX1_idle_46 : decode cX1_idle 46 = .ok (.aload_n 0, 1) := by decide +kernel
theorem dX1_idle_47 : decode cX1_idle 47 = .ok (.iload_n 1, 1) := by decide +kernel
theorem dX1_idle_48 : decode cX1_idle 48 = .ok (.iload_n 2, 1) := by decide +kernel
theorem dX1_idle_49 : decode cX1_idle 49 = .ok (.iload_n 3, 1) := by decide +kernel
theorem dX1_idle_50 : decode cX1_idle 50 = .ok (.invokevirtual 77, 3) := by decide +kernel
theorem dX1_idle_53 : decode cX1_idle 53 = .ok (.pop, 1) := by decide +kernel
theorem dX1_idle_54 : decode cX1_idle 54 = .ok (.aload_n 0, 1) := by decide +kernel
theorem dX1_idle_55 : decode cX1_idle 55 = .ok (.invokevirtual 60, 3) := by decide +kernel
theorem dX1_idle_58 : decode cX1_idle 58 = .ok (.aload_n 0, 1) := by decide +kernel
theorem dX1_idle_59 : decode cX1_idle 59 = .ok (.iload_n 1, 1) := by decide +kernel
theorem dX1_idle_60 : decode cX1_idle 60 = .ok (.iload_n 2, 1) := by decide +kernel
theorem dX1_idle_61 : decode cX1_idle 61 = .ok (.iload_n 3, 1) := by decide +kernel
theorem dX1_idle_62 : decode cX1_idle 62 = .ok (.invokevirtual 80, 3) := by decide +kernel
theorem dX1_idle_65 : decode cX1_idle 65 = .ok (.pop, 1) := by decide +kernel
theorem dX1_idle_66 : decode cX1_idle 66 = .ok (.iconst 1, 1) := by decide +kernel
theorem dX1_idle_67 : decode cX1_idle 67 = .ok (.istore 4, 2) := by decide +kernel
theorem dX1_idle_69 : decode cX1_idle 69 = .ok (.iconst 0, 1) := by decide +kernel
theorem dX1_idle_70 : decode cX1_idle 70 = .ok (.istore 5, 2) := by decide +kernel
theorem dX1_idle_72 : decode cX1_idle 72 = .ok (.iload 5, 2) := by decide +kernel
theorem dX1_idle_74 : decode cX1_idle 74 = .ok (.bipush 64, 2) := by decide +kernel
theorem dX1_idle_76 : decode cX1_idle 76 = .ok (.if_icmp .ge 54, 3) := by decide +kernel
theorem dX1_idle_79 : decode cX1_idle 79 = .ok (.iload 4, 2) := by decide +kernel
theorem dX1_idle_81 : decode cX1_idle 81 = .ok (.ifCond .eq 40, 3) := by decide +kernel
theorem dX1_idle_84 : decode cX1_idle 84 = .ok (.aload_n 0, 1) := by decide +kernel
theorem dX1_idle_85 : decode cX1_idle 85 = .ok (.getfield 19, 3) := by decide +kernel
theorem dX1_idle_88 : decode cX1_idle 88 = .ok (.iload 5, 2) := by decide +kernel
theorem dX1_idle_90 : decode cX1_idle 90 = .ok (.iaload, 1) := by decide +kernel
theorem dX1_idle_91 : decode cX1_idle 91 = .ok (.ifCond .ge 7, 3) := by decide +kernel
theorem dX1_idle_94 : decode cX1_idle 94 = .ok (.iconst 1, 1) := by decide +kernel
theorem dX1_idle_95 : decode cX1_idle 95 = .ok (.goto 4, 3) := by decide +kernel
theorem dX1_idle_98 : decode cX1_idle 98 = .ok (.iconst 0, 1) := by decide +kernel
theorem dX1_idle_99 : decode cX1_idle 99 = .ok (.aload_n 0, 1) := by decide +kernel
theorem dX1_idle_100 : decode cX1_idle 100 = .ok (.getfield 16, 3) := by decide +kernel
theorem dX1_idle_103 : decode cX1_idle 103 = .ok (.iload 5, 2) := by decide +kernel
theorem dX1_idle_105 : decode cX1_idle 105 = .ok (.iaload, 1) := by decide +kernel
theorem dX1_idle_106 : decode cX1_idle 106 = .ok (.ifCond .ge 7, 3) := by decide +kernel
theorem dX1_idle_109 : decode cX1_idle 109 = .ok (.iconst 1, 1) := by decide +kernel
theorem dX1_idle_110 : decode cX1_idle 110 = .ok (.goto 4, 3) := by decide +kernel
theorem dX1_idle_113 : decode cX1_idle 113 = .ok (.iconst 0, 1) := by decide +kernel
theorem dX1_idle_114 : decode cX1_idle 114 = .ok (.if_icmp .ne 7, 3) := by decide +kernel
theorem dX1_idle_117 : decode cX1_idle 117 = .ok (.iconst 1, 1) := by decide +kernel
theorem dX1_idle_118 : decode cX1_idle 118 = .ok (.goto 4, 3) := by decide +kernel
theorem dX1_idle_121 : decode cX1_idle 121 = .ok (.iconst 0, 1) := by decide +kernel
theorem dX1_idle_122 : decode cX1_idle 122 = .ok (.istore 4, 2) := by decide +kernel
theorem dX1_idle_124 : decode cX1_idle 124 = .ok (.iinc 5 1, 3) := by decide +kernel
theorem dX1_idle_127 : decode cX1_idle 127 = .ok (.goto (-55), 3) := by decide +kernel
theorem dX1_idle_130 : decode cX1_idle 130 = .ok (.iload 4, 2) := by decide +kernel
theorem dX1_idle_132 : decode cX1_idle 132 = .ok (.ireturn, 1) := by decide +kernel
theorem q33 : (Jvm.Cond.initialized "ProcessEquivModel") ∈ lw_all := lw_g (lw_at lw_m1 2 rfl) rfl
theorem q204 : (Jvm.Cond.instantiable "ProcessEquivModel" (5 : Nat)) ∈ lw_all := lw_g (lw_at lw_m1 173 rfl) rfl
theorem q206 : (Jvm.Cond.instanceMethod ({ cls := "ProcessEquivModel", name := "<init>", desc := "()V" } : Jvm.MethodName)) ∈ lw_all := lw_g (lw_at lw_m1 175 rfl) rfl
theorem q207 : (Jvm.Cond.code ({ cls := "ProcessEquivModel", name := "<init>", desc := "()V" } : Jvm.MethodName) prog_3_method_1_code (1 : Nat) (Option.none : Option Jvm.ClassFile.FieldType)) ∈ lw_all := lw_g (lw_at lw_m1 176 rfl) rfl
theorem q208 : (Jvm.Cond.methodLink "ProcessEquivModel" (1 : Nat) ({ cls := "java/lang/Object", name := "<init>", desc := "()V" } : Jvm.MethodName)) ∈ lw_all := lw_g (lw_at lw_m1 177 rfl) rfl
theorem q209 : (Jvm.Cond.fieldLink "ProcessEquivModel" (7 : Nat) "ProcessEquivModel" "next" "[I") ∈ lw_all := lw_g (lw_at lw_m1 178 rfl) rfl
theorem q210 : (Jvm.Cond.fieldLink "ProcessEquivModel" (13 : Nat) "ProcessEquivModel" "far" "[I") ∈ lw_all := lw_g (lw_at lw_m1 179 rfl) rfl
theorem q211 : (Jvm.Cond.fieldLink "ProcessEquivModel" (16 : Nat) "ProcessEquivModel" "told" "[I") ∈ lw_all := lw_g (lw_at lw_m1 180 rfl) rfl
theorem q212 : (Jvm.Cond.fieldLink "ProcessEquivModel" (19 : Nat) "ProcessEquivModel" "kept" "[I") ∈ lw_all := lw_g (lw_at lw_m1 181 rfl) rfl
theorem q213 : (Jvm.Cond.fieldLink "ProcessEquivModel" (22 : Nat) "ProcessEquivModel" "after" "[Z") ∈ lw_all := lw_g (lw_at lw_m1 182 rfl) rfl
theorem q214 : (Jvm.Cond.lays "ProcessEquivModel" "ProcessEquivModel" "next" "[I") ∈ lw_all := lw_g (lw_at lw_m1 183 rfl) rfl
theorem q215 : (Jvm.Cond.soleField "ProcessEquivModel" "next") ∈ lw_all := lw_g (lw_at lw_m1 184 rfl) rfl
theorem q216 : (Jvm.Cond.lays "ProcessEquivModel" "ProcessEquivModel" "far" "[I") ∈ lw_all := lw_g (lw_at lw_m1 185 rfl) rfl
theorem q217 : (Jvm.Cond.soleField "ProcessEquivModel" "far") ∈ lw_all := lw_g (lw_at lw_m1 186 rfl) rfl
theorem q218 : (Jvm.Cond.lays "ProcessEquivModel" "ProcessEquivModel" "told" "[I") ∈ lw_all := lw_g (lw_at lw_m1 187 rfl) rfl
theorem q219 : (Jvm.Cond.soleField "ProcessEquivModel" "told") ∈ lw_all := lw_g (lw_at lw_m1 188 rfl) rfl
theorem q220 : (Jvm.Cond.lays "ProcessEquivModel" "ProcessEquivModel" "kept" "[I") ∈ lw_all := lw_g (lw_at lw_m1 189 rfl) rfl
theorem q221 : (Jvm.Cond.soleField "ProcessEquivModel" "kept") ∈ lw_all := lw_g (lw_at lw_m1 190 rfl) rfl
theorem q222 : (Jvm.Cond.lays "ProcessEquivModel" "ProcessEquivModel" "after" "[Z") ∈ lw_all := lw_g (lw_at lw_m1 191 rfl) rfl
theorem q223 : (Jvm.Cond.soleField "ProcessEquivModel" "after") ∈ lw_all := lw_g (lw_at lw_m1 192 rfl) rfl
theorem q224 : (Jvm.Cond.superclass "ProcessEquivModel" "java/lang/Object") ∈ lw_all := lw_g (lw_at lw_m1 193 rfl) rfl
theorem q228 : (Jvm.Cond.instanceMethod ({ cls := "ProcessEquivModel", name := "join", desc := "(III)Z" } : Jvm.MethodName)) ∈ lw_all := lw_g (lw_at lw_m1 197 rfl) rfl
theorem q229 : (Jvm.Cond.selects "ProcessEquivModel" ({ cls := "ProcessEquivModel", name := "join", desc := "(III)Z" } : Jvm.MethodName) ({ cls := "ProcessEquivModel", name := "join", desc := "(III)Z" } : Jvm.MethodName)) ∈ lw_all := lw_g (lw_at lw_m1 198 rfl) rfl
theorem q230 : (Jvm.Cond.code ({ cls := "ProcessEquivModel", name := "join", desc := "(III)Z" } : Jvm.MethodName) prog_3_method_4_code (4 : Nat) (Option.some Jvm.ClassFile.FieldType.boolean)) ∈ lw_all := lw_g (lw_at lw_m1 199 rfl) rfl
theorem q231 : (Jvm.Cond.methodLink "ProcessEquivModel" (26 : Nat) ({ cls := "ProcessEquivModel", name := "state", desc := "(I)Z" } : Jvm.MethodName)) ∈ lw_all := lw_g (lw_at lw_m1 200 rfl) rfl
theorem q232 : (Jvm.Cond.privateMethod ({ cls := "ProcessEquivModel", name := "state", desc := "(I)Z" } : Jvm.MethodName)) ∈ lw_tbl := lw_at lw_m1 201 rfl
theorem q233 : (Jvm.Cond.instanceMethod ({ cls := "ProcessEquivModel", name := "state", desc := "(I)Z" } : Jvm.MethodName)) ∈ lw_all := lw_g (lw_at lw_m1 202 rfl) rfl
theorem q234 : (Jvm.Cond.code ({ cls := "ProcessEquivModel", name := "state", desc := "(I)Z" } : Jvm.MethodName) prog_3_method_2_code (2 : Nat) (Option.some Jvm.ClassFile.FieldType.boolean)) ∈ lw_all := lw_g (lw_at lw_m1 203 rfl) rfl
theorem q236 : (Jvm.Cond.instanceMethod ({ cls := "ProcessEquivModel", name := "cut", desc := "(III)Z" } : Jvm.MethodName)) ∈ lw_all := lw_g (lw_at lw_m1 205 rfl) rfl
theorem q237 : (Jvm.Cond.selects "ProcessEquivModel" ({ cls := "ProcessEquivModel", name := "cut", desc := "(III)Z" } : Jvm.MethodName) ({ cls := "ProcessEquivModel", name := "cut", desc := "(III)Z" } : Jvm.MethodName)) ∈ lw_all := lw_g (lw_at lw_m1 206 rfl) rfl
theorem q238 : (Jvm.Cond.code ({ cls := "ProcessEquivModel", name := "cut", desc := "(III)Z" } : Jvm.MethodName) prog_3_method_5_code (4 : Nat) (Option.some Jvm.ClassFile.FieldType.boolean)) ∈ lw_all := lw_g (lw_at lw_m1 207 rfl) rfl
theorem q239 : (Jvm.Cond.methodLink "ProcessEquivModel" (30 : Nat) ({ cls := "ProcessEquivModel", name := "step", desc := "(III)Z" } : Jvm.MethodName)) ∈ lw_all := lw_g (lw_at lw_m1 208 rfl) rfl
theorem q240 : (Jvm.Cond.privateMethod ({ cls := "ProcessEquivModel", name := "step", desc := "(III)Z" } : Jvm.MethodName)) ∈ lw_tbl := lw_at lw_m1 209 rfl
theorem q241 : (Jvm.Cond.instanceMethod ({ cls := "ProcessEquivModel", name := "step", desc := "(III)Z" } : Jvm.MethodName)) ∈ lw_all := lw_g (lw_at lw_m1 210 rfl) rfl
theorem q242 : (Jvm.Cond.code ({ cls := "ProcessEquivModel", name := "step", desc := "(III)Z" } : Jvm.MethodName) prog_3_method_3_code (4 : Nat) (Option.some Jvm.ClassFile.FieldType.boolean)) ∈ lw_all := lw_g (lw_at lw_m1 211 rfl) rfl
theorem q244 : (Jvm.Cond.instanceMethod ({ cls := "ProcessEquivModel", name := "steps", desc := "()I" } : Jvm.MethodName)) ∈ lw_all := lw_g (lw_at lw_m1 213 rfl) rfl
theorem q245 : (Jvm.Cond.selects "ProcessEquivModel" ({ cls := "ProcessEquivModel", name := "steps", desc := "()I" } : Jvm.MethodName) ({ cls := "ProcessEquivModel", name := "steps", desc := "()I" } : Jvm.MethodName)) ∈ lw_all := lw_g (lw_at lw_m1 214 rfl) rfl
theorem q246 : (Jvm.Cond.code ({ cls := "ProcessEquivModel", name := "steps", desc := "()I" } : Jvm.MethodName) prog_3_method_6_code (3 : Nat) (Option.some Jvm.ClassFile.FieldType.int)) ∈ lw_all := lw_g (lw_at lw_m1 215 rfl) rfl
theorem q248 : (Jvm.Cond.instanceMethod ({ cls := "ProcessEquivModel", name := "after", desc := "(II)I" } : Jvm.MethodName)) ∈ lw_all := lw_g (lw_at lw_m1 217 rfl) rfl
theorem q249 : (Jvm.Cond.selects "ProcessEquivModel" ({ cls := "ProcessEquivModel", name := "after", desc := "(II)I" } : Jvm.MethodName) ({ cls := "ProcessEquivModel", name := "after", desc := "(II)I" } : Jvm.MethodName)) ∈ lw_all := lw_g (lw_at lw_m1 218 rfl) rfl
theorem q250 : (Jvm.Cond.code ({ cls := "ProcessEquivModel", name := "after", desc := "(II)I" } : Jvm.MethodName) prog_3_method_7_code (3 : Nat) (Option.some Jvm.ClassFile.FieldType.int)) ∈ lw_all := lw_g (lw_at lw_m1 219 rfl) rfl
theorem q252 : (Jvm.Cond.instanceMethod ({ cls := "ProcessEquivModel", name := "alike", desc := "(II)Z" } : Jvm.MethodName)) ∈ lw_all := lw_g (lw_at lw_m1 221 rfl) rfl
theorem q253 : (Jvm.Cond.selects "ProcessEquivModel" ({ cls := "ProcessEquivModel", name := "alike", desc := "(II)Z" } : Jvm.MethodName) ({ cls := "ProcessEquivModel", name := "alike", desc := "(II)Z" } : Jvm.MethodName)) ∈ lw_all := lw_g (lw_at lw_m1 222 rfl) rfl
theorem q254 : (Jvm.Cond.code ({ cls := "ProcessEquivModel", name := "alike", desc := "(II)Z" } : Jvm.MethodName) prog_3_method_19_code (3 : Nat) (Option.some Jvm.ClassFile.FieldType.boolean)) ∈ lw_all := lw_g (lw_at lw_m1 223 rfl) rfl
theorem q255 : (Jvm.Cond.methodLink "ProcessEquivModel" (60 : Nat) ({ cls := "ProcessEquivModel", name := "tellSteps", desc := "()V" } : Jvm.MethodName)) ∈ lw_all := lw_g (lw_at lw_m1 224 rfl) rfl
theorem q256 : (Jvm.Cond.privateMethod ({ cls := "ProcessEquivModel", name := "tellSteps", desc := "()V" } : Jvm.MethodName)) ∈ lw_tbl := lw_at lw_m1 225 rfl
theorem q257 : (Jvm.Cond.instanceMethod ({ cls := "ProcessEquivModel", name := "tellSteps", desc := "()V" } : Jvm.MethodName)) ∈ lw_all := lw_g (lw_at lw_m1 226 rfl) rfl
theorem q258 : (Jvm.Cond.code ({ cls := "ProcessEquivModel", name := "tellSteps", desc := "()V" } : Jvm.MethodName) prog_3_method_16_code (1 : Nat) (Option.none : Option Jvm.ClassFile.FieldType)) ∈ lw_all := lw_g (lw_at lw_m1 227 rfl) rfl
theorem q259 : (Jvm.Cond.methodLink "ProcessEquivModel" (51 : Nat) ({ cls := "ProcessEquivModel", name := "useSteps", desc := "()V" } : Jvm.MethodName)) ∈ lw_all := lw_g (lw_at lw_m1 228 rfl) rfl
theorem q260 : (Jvm.Cond.privateMethod ({ cls := "ProcessEquivModel", name := "useSteps", desc := "()V" } : Jvm.MethodName)) ∈ lw_tbl := lw_at lw_m1 229 rfl
theorem q261 : (Jvm.Cond.instanceMethod ({ cls := "ProcessEquivModel", name := "useSteps", desc := "()V" } : Jvm.MethodName)) ∈ lw_all := lw_g (lw_at lw_m1 230 rfl) rfl
theorem q262 : (Jvm.Cond.code ({ cls := "ProcessEquivModel", name := "useSteps", desc := "()V" } : Jvm.MethodName) prog_3_method_8_code (2 : Nat) (Option.none : Option Jvm.ClassFile.FieldType)) ∈ lw_all := lw_g (lw_at lw_m1 231 rfl) rfl
theorem q263 : (Jvm.Cond.methodLink "ProcessEquivModel" (54 : Nat) ({ cls := "ProcessEquivModel", name := "tell", desc := "()V" } : Jvm.MethodName)) ∈ lw_all := lw_g (lw_at lw_m1 232 rfl) rfl
theorem q264 : (Jvm.Cond.privateMethod ({ cls := "ProcessEquivModel", name := "tell", desc := "()V" } : Jvm.MethodName)) ∈ lw_tbl := lw_at lw_m1 233 rfl
theorem q265 : (Jvm.Cond.instanceMethod ({ cls := "ProcessEquivModel", name := "tell", desc := "()V" } : Jvm.MethodName)) ∈ lw_all := lw_g (lw_at lw_m1 234 rfl) rfl
theorem q266 : (Jvm.Cond.code ({ cls := "ProcessEquivModel", name := "tell", desc := "()V" } : Jvm.MethodName) prog_3_method_15_code (5 : Nat) (Option.none : Option Jvm.ClassFile.FieldType)) ∈ lw_all := lw_g (lw_at lw_m1 235 rfl) rfl
theorem q267 : (Jvm.Cond.methodLink "ProcessEquivModel" (48 : Nat) ({ cls := "ProcessEquivModel", name := "differs", desc := "(III)Z" } : Jvm.MethodName)) ∈ lw_all := lw_g (lw_at lw_m1 236 rfl) rfl
theorem q268 : (Jvm.Cond.privateMethod ({ cls := "ProcessEquivModel", name := "differs", desc := "(III)Z" } : Jvm.MethodName)) ∈ lw_tbl := lw_at lw_m1 237 rfl
theorem q269 : (Jvm.Cond.instanceMethod ({ cls := "ProcessEquivModel", name := "differs", desc := "(III)Z" } : Jvm.MethodName)) ∈ lw_all := lw_g (lw_at lw_m1 238 rfl) rfl
theorem q270 : (Jvm.Cond.code ({ cls := "ProcessEquivModel", name := "differs", desc := "(III)Z" } : Jvm.MethodName) prog_3_method_13_code (8 : Nat) (Option.some Jvm.ClassFile.FieldType.boolean)) ∈ lw_all := lw_g (lw_at lw_m1 239 rfl) rfl
theorem q271 : (Jvm.Cond.methodLink "ProcessEquivModel" (45 : Nat) ({ cls := "ProcessEquivModel", name := "lonely", desc := "(III)Z" } : Jvm.MethodName)) ∈ lw_all := lw_g (lw_at lw_m2 0 rfl) rfl
theorem q272 : (Jvm.Cond.privateMethod ({ cls := "ProcessEquivModel", name := "lonely", desc := "(III)Z" } : Jvm.MethodName)) ∈ lw_tbl := lw_at lw_m2 1 rfl
theorem q273 : (Jvm.Cond.instanceMethod ({ cls := "ProcessEquivModel", name := "lonely", desc := "(III)Z" } : Jvm.MethodName)) ∈ lw_all := lw_g (lw_at lw_m2 2 rfl) rfl
theorem q274 : (Jvm.Cond.code ({ cls := "ProcessEquivModel", name := "lonely", desc := "(III)Z" } : Jvm.MethodName) prog_3_method_14_code (7 : Nat) (Option.some Jvm.ClassFile.FieldType.boolean)) ∈ lw_all := lw_g (lw_at lw_m2 3 rfl) rfl
theorem q276 : (Jvm.Cond.instanceMethod ({ cls := "ProcessEquivModel", name := "group", desc := "(I)I" } : Jvm.MethodName)) ∈ lw_all := lw_g (lw_at lw_m2 5 rfl) rfl
theorem q277 : (Jvm.Cond.selects "ProcessEquivModel" ({ cls := "ProcessEquivModel", name := "group", desc := "(I)I" } : Jvm.MethodName) ({ cls := "ProcessEquivModel", name := "group", desc := "(I)I" } : Jvm.MethodName)) ∈ lw_all := lw_g (lw_at lw_m2 6 rfl) rfl
theorem q278 : (Jvm.Cond.code ({ cls := "ProcessEquivModel", name := "group", desc := "(I)I" } : Jvm.MethodName) prog_3_method_20_code (4 : Nat) (Option.some Jvm.ClassFile.FieldType.int)) ∈ lw_all := lw_g (lw_at lw_m2 7 rfl) rfl
theorem q280 : (Jvm.Cond.instanceMethod ({ cls := "ProcessEquivModel", name := "groups", desc := "()I" } : Jvm.MethodName)) ∈ lw_all := lw_g (lw_at lw_m2 9 rfl) rfl
theorem q281 : (Jvm.Cond.selects "ProcessEquivModel" ({ cls := "ProcessEquivModel", name := "groups", desc := "()I" } : Jvm.MethodName) ({ cls := "ProcessEquivModel", name := "groups", desc := "()I" } : Jvm.MethodName)) ∈ lw_all := lw_g (lw_at lw_m2 10 rfl) rfl
theorem q282 : (Jvm.Cond.code ({ cls := "ProcessEquivModel", name := "groups", desc := "()I" } : Jvm.MethodName) prog_3_method_21_code (1 : Nat) (Option.some Jvm.ClassFile.FieldType.int)) ∈ lw_all := lw_g (lw_at lw_m2 11 rfl) rfl
theorem q283 : (Jvm.Cond.methodLink "ProcessEquivModel" (63 : Nat) ({ cls := "ProcessEquivModel", name := "count", desc := "()I" } : Jvm.MethodName)) ∈ lw_all := lw_g (lw_at lw_m2 12 rfl) rfl
theorem q284 : (Jvm.Cond.privateMethod ({ cls := "ProcessEquivModel", name := "count", desc := "()I" } : Jvm.MethodName)) ∈ lw_tbl := lw_at lw_m2 13 rfl
theorem q285 : (Jvm.Cond.instanceMethod ({ cls := "ProcessEquivModel", name := "count", desc := "()I" } : Jvm.MethodName)) ∈ lw_all := lw_g (lw_at lw_m2 14 rfl) rfl
theorem q286 : (Jvm.Cond.code ({ cls := "ProcessEquivModel", name := "count", desc := "()I" } : Jvm.MethodName) prog_3_method_18_code (5 : Nat) (Option.some Jvm.ClassFile.FieldType.int)) ∈ lw_all := lw_g (lw_at lw_m2 15 rfl) rfl
theorem q288 : (Jvm.Cond.instanceMethod ({ cls := "ProcessEquivModel", name := "toldAfter", desc := "(II)I" } : Jvm.MethodName)) ∈ lw_all := lw_g (lw_at lw_m2 17 rfl) rfl
theorem q289 : (Jvm.Cond.selects "ProcessEquivModel" ({ cls := "ProcessEquivModel", name := "toldAfter", desc := "(II)I" } : Jvm.MethodName) ({ cls := "ProcessEquivModel", name := "toldAfter", desc := "(II)I" } : Jvm.MethodName)) ∈ lw_all := lw_g (lw_at lw_m2 18 rfl) rfl
theorem q290 : (Jvm.Cond.code ({ cls := "ProcessEquivModel", name := "toldAfter", desc := "(II)I" } : Jvm.MethodName) prog_3_method_22_code (3 : Nat) (Option.some Jvm.ClassFile.FieldType.int)) ∈ lw_all := lw_g (lw_at lw_m2 19 rfl) rfl
theorem q292 : (Jvm.Cond.instanceMethod ({ cls := "ProcessEquivModel", name := "rounds", desc := "()I" } : Jvm.MethodName)) ∈ lw_all := lw_g (lw_at lw_m2 21 rfl) rfl
theorem q293 : (Jvm.Cond.selects "ProcessEquivModel" ({ cls := "ProcessEquivModel", name := "rounds", desc := "()I" } : Jvm.MethodName) ({ cls := "ProcessEquivModel", name := "rounds", desc := "()I" } : Jvm.MethodName)) ∈ lw_all := lw_g (lw_at lw_m2 22 rfl) rfl
theorem q294 : (Jvm.Cond.code ({ cls := "ProcessEquivModel", name := "rounds", desc := "()I" } : Jvm.MethodName) prog_3_method_23_code (3 : Nat) (Option.some Jvm.ClassFile.FieldType.int)) ∈ lw_all := lw_g (lw_at lw_m2 23 rfl) rfl
theorem q296 : (Jvm.Cond.instanceMethod ({ cls := "ProcessEquivModel", name := "looselyAlike", desc := "(II)Z" } : Jvm.MethodName)) ∈ lw_all := lw_g (lw_at lw_m2 25 rfl) rfl
theorem q297 : (Jvm.Cond.selects "ProcessEquivModel" ({ cls := "ProcessEquivModel", name := "looselyAlike", desc := "(II)Z" } : Jvm.MethodName) ({ cls := "ProcessEquivModel", name := "looselyAlike", desc := "(II)Z" } : Jvm.MethodName)) ∈ lw_all := lw_g (lw_at lw_m2 26 rfl) rfl
theorem q298 : (Jvm.Cond.code ({ cls := "ProcessEquivModel", name := "looselyAlike", desc := "(II)Z" } : Jvm.MethodName) prog_3_method_24_code (3 : Nat) (Option.some Jvm.ClassFile.FieldType.boolean)) ∈ lw_all := lw_g (lw_at lw_m2 27 rfl) rfl
theorem q299 : (Jvm.Cond.methodLink "ProcessEquivModel" (67 : Nat) ({ cls := "ProcessEquivModel", name := "tellLongSteps", desc := "()V" } : Jvm.MethodName)) ∈ lw_all := lw_g (lw_at lw_m2 28 rfl) rfl
theorem q300 : (Jvm.Cond.privateMethod ({ cls := "ProcessEquivModel", name := "tellLongSteps", desc := "()V" } : Jvm.MethodName)) ∈ lw_tbl := lw_at lw_m2 29 rfl
theorem q301 : (Jvm.Cond.instanceMethod ({ cls := "ProcessEquivModel", name := "tellLongSteps", desc := "()V" } : Jvm.MethodName)) ∈ lw_all := lw_g (lw_at lw_m2 30 rfl) rfl
theorem q302 : (Jvm.Cond.code ({ cls := "ProcessEquivModel", name := "tellLongSteps", desc := "()V" } : Jvm.MethodName) prog_3_method_17_code (1 : Nat) (Option.none : Option Jvm.ClassFile.FieldType)) ∈ lw_all := lw_g (lw_at lw_m2 31 rfl) rfl
theorem q303 : (Jvm.Cond.methodLink "ProcessEquivModel" (57 : Nat) ({ cls := "ProcessEquivModel", name := "useLongSteps", desc := "()V" } : Jvm.MethodName)) ∈ lw_all := lw_g (lw_at lw_m2 32 rfl) rfl
theorem q304 : (Jvm.Cond.privateMethod ({ cls := "ProcessEquivModel", name := "useLongSteps", desc := "()V" } : Jvm.MethodName)) ∈ lw_tbl := lw_at lw_m2 33 rfl
theorem q305 : (Jvm.Cond.instanceMethod ({ cls := "ProcessEquivModel", name := "useLongSteps", desc := "()V" } : Jvm.MethodName)) ∈ lw_all := lw_g (lw_at lw_m2 34 rfl) rfl
theorem q306 : (Jvm.Cond.code ({ cls := "ProcessEquivModel", name := "useLongSteps", desc := "()V" } : Jvm.MethodName) prog_3_method_11_code (2 : Nat) (Option.none : Option Jvm.ClassFile.FieldType)) ∈ lw_all := lw_g (lw_at lw_m2 35 rfl) rfl
theorem q307 : (Jvm.Cond.methodLink "ProcessEquivModel" (38 : Nat) ({ cls := "ProcessEquivModel", name := "quietly", desc := "(I)I" } : Jvm.MethodName)) ∈ lw_all := lw_g (lw_at lw_m2 36 rfl) rfl
theorem q308 : (Jvm.Cond.privateMethod ({ cls := "ProcessEquivModel", name := "quietly", desc := "(I)I" } : Jvm.MethodName)) ∈ lw_tbl := lw_at lw_m2 37 rfl
theorem q309 : (Jvm.Cond.instanceMethod ({ cls := "ProcessEquivModel", name := "quietly", desc := "(I)I" } : Jvm.MethodName)) ∈ lw_all := lw_g (lw_at lw_m2 38 rfl) rfl
theorem q310 : (Jvm.Cond.code ({ cls := "ProcessEquivModel", name := "quietly", desc := "(I)I" } : Jvm.MethodName) prog_3_method_9_code (4 : Nat) (Option.some Jvm.ClassFile.FieldType.int)) ∈ lw_all := lw_g (lw_at lw_m2 39 rfl) rfl
theorem q311 : (Jvm.Cond.methodLink "ProcessEquivModel" (34 : Nat) ({ cls := "ProcessEquivModel", name := "onward", desc := "(II)I" } : Jvm.MethodName)) ∈ lw_all := lw_g (lw_at lw_m2 40 rfl) rfl
theorem q312 : (Jvm.Cond.privateMethod ({ cls := "ProcessEquivModel", name := "onward", desc := "(II)I" } : Jvm.MethodName)) ∈ lw_tbl := lw_at lw_m2 41 rfl
theorem q313 : (Jvm.Cond.instanceMethod ({ cls := "ProcessEquivModel", name := "onward", desc := "(II)I" } : Jvm.MethodName)) ∈ lw_all := lw_g (lw_at lw_m2 42 rfl) rfl
theorem q314 : (Jvm.Cond.code ({ cls := "ProcessEquivModel", name := "onward", desc := "(II)I" } : Jvm.MethodName) prog_3_method_10_code (5 : Nat) (Option.some Jvm.ClassFile.FieldType.int)) ∈ lw_all := lw_g (lw_at lw_m2 43 rfl) rfl
theorem q315 : (Jvm.Cond.methodLink "ProcessEquivModel" (42 : Nat) ({ cls := "ProcessEquivModel", name := "labelled", desc := "(II)I" } : Jvm.MethodName)) ∈ lw_all := lw_g (lw_at lw_m2 44 rfl) rfl
theorem q316 : (Jvm.Cond.privateMethod ({ cls := "ProcessEquivModel", name := "labelled", desc := "(II)I" } : Jvm.MethodName)) ∈ lw_tbl := lw_at lw_m2 45 rfl
theorem q317 : (Jvm.Cond.instanceMethod ({ cls := "ProcessEquivModel", name := "labelled", desc := "(II)I" } : Jvm.MethodName)) ∈ lw_all := lw_g (lw_at lw_m2 46 rfl) rfl
theorem q318 : (Jvm.Cond.code ({ cls := "ProcessEquivModel", name := "labelled", desc := "(II)I" } : Jvm.MethodName) prog_3_method_12_code (7 : Nat) (Option.some Jvm.ClassFile.FieldType.int)) ∈ lw_all := lw_g (lw_at lw_m2 47 rfl) rfl
theorem q320 : (Jvm.Cond.instanceMethod ({ cls := "ProcessEquivModel", name := "looseGroups", desc := "()I" } : Jvm.MethodName)) ∈ lw_all := lw_g (lw_at lw_m2 49 rfl) rfl
theorem q321 : (Jvm.Cond.selects "ProcessEquivModel" ({ cls := "ProcessEquivModel", name := "looseGroups", desc := "()I" } : Jvm.MethodName) ({ cls := "ProcessEquivModel", name := "looseGroups", desc := "()I" } : Jvm.MethodName)) ∈ lw_all := lw_g (lw_at lw_m2 50 rfl) rfl
theorem q322 : (Jvm.Cond.code ({ cls := "ProcessEquivModel", name := "looseGroups", desc := "()I" } : Jvm.MethodName) prog_3_method_25_code (1 : Nat) (Option.some Jvm.ClassFile.FieldType.int)) ∈ lw_all := lw_g (lw_at lw_m2 51 rfl) rfl
theorem q324 : (Jvm.Cond.instanceMethod ({ cls := "ProcessEquivModel", name := "follows", desc := "(II)Z" } : Jvm.MethodName)) ∈ lw_all := lw_g (lw_at lw_m2 53 rfl) rfl
theorem q325 : (Jvm.Cond.selects "ProcessEquivModel" ({ cls := "ProcessEquivModel", name := "follows", desc := "(II)Z" } : Jvm.MethodName) ({ cls := "ProcessEquivModel", name := "follows", desc := "(II)Z" } : Jvm.MethodName)) ∈ lw_all := lw_g (lw_at lw_m2 54 rfl) rfl
theorem q326 : (Jvm.Cond.code ({ cls := "ProcessEquivModel", name := "follows", desc := "(II)Z" } : Jvm.MethodName) prog_3_method_28_code (3 : Nat) (Option.some Jvm.ClassFile.FieldType.boolean)) ∈ lw_all := lw_g (lw_at lw_m2 55 rfl) rfl
theorem q327 : (Jvm.Cond.methodLink "ProcessEquivModel" (74 : Nat) ({ cls := "ProcessEquivModel", name := "follow", desc := "()V" } : Jvm.MethodName)) ∈ lw_all := lw_g (lw_at lw_m2 56 rfl) rfl
theorem q328 : (Jvm.Cond.privateMethod ({ cls := "ProcessEquivModel", name := "follow", desc := "()V" } : Jvm.MethodName)) ∈ lw_tbl := lw_at lw_m2 57 rfl
theorem q329 : (Jvm.Cond.instanceMethod ({ cls := "ProcessEquivModel", name := "follow", desc := "()V" } : Jvm.MethodName)) ∈ lw_all := lw_g (lw_at lw_m2 58 rfl) rfl
theorem q330 : (Jvm.Cond.code ({ cls := "ProcessEquivModel", name := "follow", desc := "()V" } : Jvm.MethodName) prog_3_method_27_code (5 : Nat) (Option.none : Option Jvm.ClassFile.FieldType)) ∈ lw_all := lw_g (lw_at lw_m2 59 rfl) rfl
theorem q331 : (Jvm.Cond.methodLink "ProcessEquivModel" (70 : Nat) ({ cls := "ProcessEquivModel", name := "answers", desc := "(II)Z" } : Jvm.MethodName)) ∈ lw_all := lw_g (lw_at lw_m2 60 rfl) rfl
theorem q332 : (Jvm.Cond.privateMethod ({ cls := "ProcessEquivModel", name := "answers", desc := "(II)Z" } : Jvm.MethodName)) ∈ lw_tbl := lw_at lw_m2 61 rfl
theorem q333 : (Jvm.Cond.instanceMethod ({ cls := "ProcessEquivModel", name := "answers", desc := "(II)Z" } : Jvm.MethodName)) ∈ lw_all := lw_g (lw_at lw_m2 62 rfl) rfl
theorem q334 : (Jvm.Cond.code ({ cls := "ProcessEquivModel", name := "answers", desc := "(II)Z" } : Jvm.MethodName) prog_3_method_26_code (9 : Nat) (Option.some Jvm.ClassFile.FieldType.boolean)) ∈ lw_all := lw_g (lw_at lw_m2 63 rfl) rfl
theorem q336 : (Jvm.Cond.instanceMethod ({ cls := "ProcessEquivModel", name := "followers", desc := "(I)I" } : Jvm.MethodName)) ∈ lw_all := lw_g (lw_at lw_m2 65 rfl) rfl
theorem q337 : (Jvm.Cond.selects "ProcessEquivModel" ({ cls := "ProcessEquivModel", name := "followers", desc := "(I)I" } : Jvm.MethodName) ({ cls := "ProcessEquivModel", name := "followers", desc := "(I)I" } : Jvm.MethodName)) ∈ lw_all := lw_g (lw_at lw_m2 66 rfl) rfl
theorem q338 : (Jvm.Cond.code ({ cls := "ProcessEquivModel", name := "followers", desc := "(I)I" } : Jvm.MethodName) prog_3_method_29_code (4 : Nat) (Option.some Jvm.ClassFile.FieldType.int)) ∈ lw_all := lw_g (lw_at lw_m2 67 rfl) rfl
theorem q340 : (Jvm.Cond.instanceMethod ({ cls := "ProcessEquivModel", name := "silently", desc := "(I)I" } : Jvm.MethodName)) ∈ lw_all := lw_g (lw_at lw_m2 69 rfl) rfl
theorem q341 : (Jvm.Cond.selects "ProcessEquivModel" ({ cls := "ProcessEquivModel", name := "silently", desc := "(I)I" } : Jvm.MethodName) ({ cls := "ProcessEquivModel", name := "silently", desc := "(I)I" } : Jvm.MethodName)) ∈ lw_all := lw_g (lw_at lw_m2 70 rfl) rfl
theorem q342 : (Jvm.Cond.code ({ cls := "ProcessEquivModel", name := "silently", desc := "(I)I" } : Jvm.MethodName) prog_3_method_30_code (2 : Nat) (Option.some Jvm.ClassFile.FieldType.int)) ∈ lw_all := lw_g (lw_at lw_m2 71 rfl) rfl
theorem q344 : (Jvm.Cond.instanceMethod ({ cls := "ProcessEquivModel", name := "idle", desc := "(III)Z" } : Jvm.MethodName)) ∈ lw_all := lw_g (lw_at lw_m2 73 rfl) rfl
theorem q345 : (Jvm.Cond.selects "ProcessEquivModel" ({ cls := "ProcessEquivModel", name := "idle", desc := "(III)Z" } : Jvm.MethodName) ({ cls := "ProcessEquivModel", name := "idle", desc := "(III)Z" } : Jvm.MethodName)) ∈ lw_all := lw_g (lw_at lw_m2 74 rfl) rfl
theorem q346 : (Jvm.Cond.code ({ cls := "ProcessEquivModel", name := "idle", desc := "(III)Z" } : Jvm.MethodName) prog_3_method_31_code (6 : Nat) (Option.some Jvm.ClassFile.FieldType.boolean)) ∈ lw_all := lw_g (lw_at lw_m2 75 rfl) rfl
theorem q347 : (Jvm.Cond.methodLink "ProcessEquivModel" (77 : Nat) ({ cls := "ProcessEquivModel", name := "cut", desc := "(III)Z" } : Jvm.MethodName)) ∈ lw_all := lw_g (lw_at lw_m2 76 rfl) rfl
theorem q348 : (Jvm.Cond.methodLink "ProcessEquivModel" (80 : Nat) ({ cls := "ProcessEquivModel", name := "join", desc := "(III)Z" } : Jvm.MethodName)) ∈ lw_all := lw_g (lw_at lw_m2 77 rfl) rfl
theorem in_X1 : ∀ w ∈ wsX10, w ∈ lw_all := lw_in wsX10 [214, 216, 218, 220, 222] (by decide +kernel) (by decide +kernel)
end
section
/-! the law's own entry -/
set_option maxRecDepth 100000
abbrev cL_law : ByteArray := code
theorem dL_law_0 : decode cL_law 0 = .ok (.new 7, 3) := by decide +kernel
theorem dL_law_3 : decode cL_law 3 = .ok (.dup, 1) := by decide +kernel
theorem dL_law_4 : decode cL_law 4 = .ok (.invokespecial 9, 3) := by decide +kernel
theorem dL_law_7 : decode cL_law 7 = .ok (.astore_n 1, 1) := by decide +kernel
theorem dL_law_8 : decode cL_law 8 = .ok (.new 10, 3) := by decide +kernel
theorem dL_law_11 : decode cL_law 11 = .ok (.dup, 1) := by decide +kernel
theorem dL_law_12 : decode cL_law 12 = .ok (.invokespecial 12, 3) := by decide +kernel
theorem dL_law_15 : decode cL_law 15 = .ok (.astore_n 2, 1) := by decide +kernel
theorem dL_law_16 : decode cL_law 16 = .ok (.iconst 0, 1) := by decide +kernel
theorem dL_law_17 : decode cL_law 17 = .ok (.istore_n 3, 1) := by decide +kernel
theorem dL_law_18 : decode cL_law 18 = .ok (.iload_n 3, 1) := by decide +kernel
theorem dL_law_19 : decode cL_law 19 = .ok (.aload_n 0, 1) := by decide +kernel
theorem dL_law_20 : decode cL_law 20 = .ok (.arraylength, 1) := by decide +kernel
theorem dL_law_21 : decode cL_law 21 = .ok (.iconst 4, 1) := by decide +kernel
theorem dL_law_22 : decode cL_law 22 = .ok (.isub, 1) := by decide +kernel
theorem dL_law_23 : decode cL_law 23 = .ok (.if_icmp .gt 506, 3) := by decide +kernel
theorem dL_law_26 : decode cL_law 26 = .ok (.aload_n 0, 1) := by decide +kernel
theorem dL_law_27 : decode cL_law 27 = .ok (.iload_n 3, 1) := by decide +kernel
theorem dL_law_28 : decode cL_law 28 = .ok (.iaload, 1) := by decide +kernel
theorem dL_law_29 : decode cL_law 29 = .ok (.bipush 15, 2) := by decide +kernel
theorem dL_law_31 : decode cL_law 31 = .ok (.iand, 1) := by decide +kernel
theorem dL_law_32 : decode cL_law 32 = .ok (.tableswitch 491 0 14 #[76, 119, 162, 175, 208, 241, 264, 277, 310, 323, 356, 369, 402, 425, 448], 76) := by decide +kernel
theorem dL_law_108 : decode cL_law 108 = .ok (.aload_n 1, 1) := by decide +kernel
theorem dL_law_109 : decode cL_law 109 = .ok (.aload_n 0, 1) := by decide +kernel
theorem dL_law_110 : decode cL_law 110 = .ok (.iload_n 3, 1) := by decide +kernel
theorem dL_law_111 : decode cL_law 111 = .ok (.iconst 1, 1) := by decide +kernel
theorem dL_law_112 : decode cL_law 112 = .ok (.iadd, 1) := by decide +kernel
theorem dL_law_113 : decode cL_law 113 = .ok (.iaload, 1) := by decide +kernel
theorem dL_law_114 : decode cL_law 114 = .ok (.aload_n 0, 1) := by decide +kernel
theorem dL_law_115 : decode cL_law 115 = .ok (.iload_n 3, 1) := by decide +kernel
theorem dL_law_116 : decode cL_law 116 = .ok (.iconst 2, 1) := by decide +kernel
theorem dL_law_117 : decode cL_law 117 = .ok (.iadd, 1) := by decide +kernel
theorem dL_law_118 : decode cL_law 118 = .ok (.iaload, 1) := by decide +kernel
theorem dL_law_119 : decode cL_law 119 = .ok (.aload_n 0, 1) := by decide +kernel
theorem dL_law_120 : decode cL_law 120 = .ok (.iload_n 3, 1) := by decide +kernel
theorem dL_law_121 : decode cL_law 121 = .ok (.iconst 3, 1) := by decide +kernel
theorem dL_law_122 : decode cL_law 122 = .ok (.iadd, 1) := by decide +kernel
theorem dL_law_123 : decode cL_law 123 = .ok (.iaload, 1) := by decide +kernel
theorem dL_law_124 : decode cL_law 124 = .ok (.invokevirtual 13, 3) := by decide +kernel
theorem dL_law_127 : decode cL_law 127 = .ok (.aload_n 2, 1) := by decide +kernel
theorem dL_law_128 : decode cL_law 128 = .ok (.aload_n 0, 1) := by decide +kernel
theorem dL_law_129 : decode cL_law 129 = .ok (.iload_n 3, 1) := by decide +kernel
theorem dL_law_130 : decode cL_law 130 = .ok (.iconst 1, 1) := by decide +kernel
theorem dL_law_131 : decode cL_law 131 = .ok (.iadd, 1) := by decide +kernel
theorem dL_law_132 : decode cL_law 132 = .ok (.iaload, 1) := by decide +kernel
theorem dL_law_133 : decode cL_law 133 = .ok (.aload_n 0, 1) := by decide +kernel
theorem dL_law_134 : decode cL_law 134 = .ok (.iload_n 3, 1) := by decide +kernel
theorem dL_law_135 : decode cL_law 135 = .ok (.iconst 2, 1) := by decide +kernel
theorem dL_law_136 : decode cL_law 136 = .ok (.iadd, 1) := by decide +kernel
theorem dL_law_137 : decode cL_law 137 = .ok (.iaload, 1) := by decide +kernel
theorem dL_law_138 : decode cL_law 138 = .ok (.aload_n 0, 1) := by decide +kernel
theorem dL_law_139 : decode cL_law 139 = .ok (.iload_n 3, 1) := by decide +kernel
theorem dL_law_140 : decode cL_law 140 = .ok (.iconst 3, 1) := by decide +kernel
theorem dL_law_141 : decode cL_law 141 = .ok (.iadd, 1) := by decide +kernel
theorem dL_law_142 : decode cL_law 142 = .ok (.iaload, 1) := by decide +kernel
theorem dL_law_143 : decode cL_law 143 = .ok (.invokevirtual 17, 3) := by decide +kernel
theorem dL_law_146 : decode cL_law 146 = .ok (.if_icmp .eq 377, 3) := by decide +kernel
theorem dL_law_149 : decode cL_law 149 = .ok (.iconst 0, 1) := by decide +kernel
theorem dL_law_150 : decode cL_law 150 = .ok (.ireturn, 1) := by decide +kernel
theorem dL_law_151 : decode cL_law 151 = .ok (.aload_n 1, 1) := by decide +kernel
theorem dL_law_152 : decode cL_law 152 = .ok (.aload_n 0, 1) := by decide +kernel
theorem dL_law_153 : decode cL_law 153 = .ok (.iload_n 3, 1) := by decide +kernel
theorem dL_law_154 : decode cL_law 154 = .ok (.iconst 1, 1) := by decide +kernel
theorem dL_law_155 : decode cL_law 155 = .ok (.iadd, 1) := by decide +kernel
theorem dL_law_156 : decode cL_law 156 = .ok (.iaload, 1) := by decide +kernel
theorem dL_law_157 : decode cL_law 157 = .ok (.aload_n 0, 1) := by decide +kernel
theorem dL_law_158 : decode cL_law 158 = .ok (.iload_n 3, 1) := by decide +kernel
theorem dL_law_159 : decode cL_law 159 = .ok (.iconst 2, 1) := by decide +kernel
theorem dL_law_160 : decode cL_law 160 = .ok (.iadd, 1) := by decide +kernel
theorem dL_law_161 : decode cL_law 161 = .ok (.iaload, 1) := by decide +kernel
theorem dL_law_162 : decode cL_law 162 = .ok (.aload_n 0, 1) := by decide +kernel
theorem dL_law_163 : decode cL_law 163 = .ok (.iload_n 3, 1) := by decide +kernel
theorem dL_law_164 : decode cL_law 164 = .ok (.iconst 3, 1) := by decide +kernel
theorem dL_law_165 : decode cL_law 165 = .ok (.iadd, 1) := by decide +kernel
theorem dL_law_166 : decode cL_law 166 = .ok (.iaload, 1) := by decide +kernel
theorem dL_law_167 : decode cL_law 167 = .ok (.invokevirtual 18, 3) := by decide +kernel
theorem dL_law_170 : decode cL_law 170 = .ok (.aload_n 2, 1) := by decide +kernel
theorem dL_law_171 : decode cL_law 171 = .ok (.aload_n 0, 1) := by decide +kernel
theorem dL_law_172 : decode cL_law 172 = .ok (.iload_n 3, 1) := by decide +kernel
theorem dL_law_173 : decode cL_law 173 = .ok (.iconst 1, 1) := by decide +kernel
theorem dL_law_174 : decode cL_law 174 = .ok (.iadd, 1) := by decide +kernel
theorem dL_law_175 : decode cL_law 175 = .ok (.iaload, 1) := by decide +kernel
theorem dL_law_176 : decode cL_law 176 = .ok (.aload_n 0, 1) := by decide +kernel
theorem dL_law_177 : decode cL_law 177 = .ok (.iload_n 3, 1) := by decide +kernel
theorem dL_law_178 : decode cL_law 178 = .ok (.iconst 2, 1) := by decide +kernel
theorem dL_law_179 : decode cL_law 179 = .ok (.iadd, 1) := by decide +kernel
theorem dL_law_180 : decode cL_law 180 = .ok (.iaload, 1) := by decide +kernel
theorem dL_law_181 : decode cL_law 181 = .ok (.aload_n 0, 1) := by decide +kernel
theorem dL_law_182 : decode cL_law 182 = .ok (.iload_n 3, 1) := by decide +kernel
theorem dL_law_183 : decode cL_law 183 = .ok (.iconst 3, 1) := by decide +kernel
theorem dL_law_184 : decode cL_law 184 = .ok (.iadd, 1) := by decide +kernel
theorem dL_law_185 : decode cL_law 185 = .ok (.iaload, 1) := by decide +kernel
theorem dL_law_186 : decode cL_law 186 = .ok (.invokevirtual 21, 3) := by decide +kernel
theorem dL_law_189 : decode cL_law 189 = .ok (.if_icmp .eq 334, 3) := by decide +kernel
theorem dL_law_192 : decode cL_law 192 = .ok (.iconst 0, 1) := by decide +kernel
theorem dL_law_193 : decode cL_law 193 = .ok (.ireturn, 1) := by decide +kernel
theorem dL_law_194 : decode cL_law 194 = .ok (.aload_n 1, 1) := by decide +kernel
theorem dL_law_195 : decode cL_law 195 = .ok (.invokevirtual 22, 3) := by decide +kernel
theorem dL_law_198 : decode cL_law 198 = .ok (.aload_n 2, 1) := by decide +kernel
theorem dL_law_199 : decode cL_law 199 = .ok (.invokevirtual 26, 3) := by decide +kernel
theorem dL_law_202 : decode cL_law 202 = .ok (.if_icmp .eq 321, 3) := by decide +kernel
theorem dL_law_205 : decode cL_law 205 = .ok (.iconst 0, 1) := by decide +kernel
theorem dL_law_206 : decode cL_law 206 = .ok (.ireturn, 1) := by decide +kernel
theorem dL_law_207 : decode cL_law 207 = .ok (.aload_n 1, 1) := by decide +kernel
theorem dL_law_208 : decode cL_law 208 = .ok (.aload_n 0, 1) := by decide +kernel
theorem dL_law_209 : decode cL_law 209 = .ok (.iload_n 3, 1) := by decide +kernel
theorem dL_law_210 : decode cL_law 210 = .ok (.iconst 1, 1) := by decide +kernel
theorem dL_law_211 : decode cL_law 211 = .ok (.iadd, 1) := by decide +kernel
theorem dL_law_212 : decode cL_law 212 = .ok (.iaload, 1) := by decide +kernel
theorem dL_law_213 : decode cL_law 213 = .ok (.aload_n 0, 1) := by decide +kernel
theorem dL_law_214 : decode cL_law 214 = .ok (.iload_n 3, 1) := by decide +kernel
theorem dL_law_215 : decode cL_law 215 = .ok (.iconst 2, 1) := by decide +kernel
theorem dL_law_216 : decode cL_law 216 = .ok (.iadd, 1) := by decide +kernel
theorem dL_law_217 : decode cL_law 217 = .ok (.iaload, 1) := by decide +kernel
theorem dL_law_218 : decode cL_law 218 = .ok (.invokevirtual 27, 3) := by decide +kernel
theorem dL_law_221 : decode cL_law 221 = .ok (.aload_n 2, 1) := by decide +kernel
theorem dL_law_222 : decode cL_law 222 = .ok (.aload_n 0, 1) := by decide +kernel
theorem dL_law_223 : decode cL_law 223 = .ok (.iload_n 3, 1) := by decide +kernel
theorem dL_law_224 : decode cL_law 224 = .ok (.iconst 1, 1) := by decide +kernel
theorem dL_law_225 : decode cL_law 225 = .ok (.iadd, 1) := by decide +kernel
theorem dL_law_226 : decode cL_law 226 = .ok (.iaload, 1) := by decide +kernel
theorem dL_law_227 : decode cL_law 227 = .ok (.aload_n 0, 1) := by decide +kernel
theorem dL_law_228 : decode cL_law 228 = .ok (.iload_n 3, 1) := by decide +kernel
theorem dL_law_229 : decode cL_law 229 = .ok (.iconst 2, 1) := by decide +kernel
theorem dL_law_230 : decode cL_law 230 = .ok (.iadd, 1) := by decide +kernel
theorem dL_law_231 : decode cL_law 231 = .ok (.iaload, 1) := by decide +kernel
theorem dL_law_232 : decode cL_law 232 = .ok (.invokevirtual 31, 3) := by decide +kernel
theorem dL_law_235 : decode cL_law 235 = .ok (.if_icmp .eq 288, 3) := by decide +kernel
theorem dL_law_238 : decode cL_law 238 = .ok (.iconst 0, 1) := by decide +kernel
theorem dL_law_239 : decode cL_law 239 = .ok (.ireturn, 1) := by decide +kernel
theorem dL_law_240 : decode cL_law 240 = .ok (.aload_n 1, 1) := by decide +kernel
theorem dL_law_241 : decode cL_law 241 = .ok (.aload_n 0, 1) := by decide +kernel
theorem dL_law_242 : decode cL_law 242 = .ok (.iload_n 3, 1) := by decide +kernel
theorem dL_law_243 : decode cL_law 243 = .ok (.iconst 1, 1) := by decide +kernel
theorem dL_law_244 : decode cL_law 244 = .ok (.iadd, 1) := by decide +kernel
theorem dL_law_245 : decode cL_law 245 = .ok (.iaload, 1) := by decide +kernel
theorem dL_law_246 : decode cL_law 246 = .ok (.aload_n 0, 1) := by decide +kernel
theorem dL_law_247 : decode cL_law 247 = .ok (.iload_n 3, 1) := by decide +kernel
theorem dL_law_248 : decode cL_law 248 = .ok (.iconst 2, 1) := by decide +kernel
theorem dL_law_249 : decode cL_law 249 = .ok (.iadd, 1) := by decide +kernel
theorem dL_law_250 : decode cL_law 250 = .ok (.iaload, 1) := by decide +kernel
theorem dL_law_251 : decode cL_law 251 = .ok (.invokevirtual 32, 3) := by decide +kernel
theorem dL_law_254 : decode cL_law 254 = .ok (.aload_n 2, 1) := by decide +kernel
theorem dL_law_255 : decode cL_law 255 = .ok (.aload_n 0, 1) := by decide +kernel
theorem dL_law_256 : decode cL_law 256 = .ok (.iload_n 3, 1) := by decide +kernel
theorem dL_law_257 : decode cL_law 257 = .ok (.iconst 1, 1) := by decide +kernel
theorem dL_law_258 : decode cL_law 258 = .ok (.iadd, 1) := by decide +kernel
theorem dL_law_259 : decode cL_law 259 = .ok (.iaload, 1) := by decide +kernel
theorem dL_law_260 : decode cL_law 260 = .ok (.aload_n 0, 1) := by decide +kernel
theorem dL_law_261 : decode cL_law 261 = .ok (.iload_n 3, 1) := by decide +kernel
theorem dL_law_262 : decode cL_law 262 = .ok (.iconst 2, 1) := by decide +kernel
theorem dL_law_263 : decode cL_law 263 = .ok (.iadd, 1) := by decide +kernel
theorem dL_law_264 : decode cL_law 264 = .ok (.iaload, 1) := by decide +kernel
theorem dL_law_265 : decode cL_law 265 = .ok (.invokevirtual 36, 3) := by decide +kernel
theorem dL_law_268 : decode cL_law 268 = .ok (.if_icmp .eq 255, 3) := by decide +kernel
theorem dL_law_271 : decode cL_law 271 = .ok (.iconst 0, 1) := by decide +kernel
theorem dL_law_272 : decode cL_law 272 = .ok (.ireturn, 1) := by decide +kernel
theorem dL_law_273 : decode cL_law 273 = .ok (.aload_n 1, 1) := by decide +kernel
theorem dL_law_274 : decode cL_law 274 = .ok (.aload_n 0, 1) := by decide +kernel
theorem dL_law_275 : decode cL_law 275 = .ok (.iload_n 3, 1) := by decide +kernel
theorem dL_law_276 : decode cL_law 276 = .ok (.iconst 1, 1) := by decide +kernel
theorem dL_law_277 : decode cL_law 277 = .ok (.iadd, 1) := by decide +kernel
theorem dL_law_278 : decode cL_law 278 = .ok (.iaload, 1) := by decide +kernel
theorem dL_law_279 : decode cL_law 279 = .ok (.invokevirtual 37, 3) := by decide +kernel
theorem dL_law_282 : decode cL_law 282 = .ok (.aload_n 2, 1) := by decide +kernel
theorem dL_law_283 : decode cL_law 283 = .ok (.aload_n 0, 1) := by decide +kernel
theorem dL_law_284 : decode cL_law 284 = .ok (.iload_n 3, 1) := by decide +kernel
theorem dL_law_285 : decode cL_law 285 = .ok (.iconst 1, 1) := by decide +kernel
theorem dL_law_286 : decode cL_law 286 = .ok (.iadd, 1) := by decide +kernel
theorem dL_law_287 : decode cL_law 287 = .ok (.iaload, 1) := by decide +kernel
theorem dL_law_288 : decode cL_law 288 = .ok (.invokevirtual 41, 3) := by decide +kernel
theorem dL_law_291 : decode cL_law 291 = .ok (.if_icmp .eq 232, 3) := by decide +kernel
theorem dL_law_294 : decode cL_law 294 = .ok (.iconst 0, 1) := by decide +kernel
theorem dL_law_295 : decode cL_law 295 = .ok (.ireturn, 1) := by decide +kernel
theorem dL_law_296 : decode cL_law 296 = .ok (.aload_n 1, 1) := by decide +kernel
theorem dL_law_297 : decode cL_law 297 = .ok (.invokevirtual 42, 3) := by decide +kernel
theorem dL_law_300 : decode cL_law 300 = .ok (.aload_n 2, 1) := by decide +kernel
theorem dL_law_301 : decode cL_law 301 = .ok (.invokevirtual 45, 3) := by decide +kernel
theorem dL_law_304 : decode cL_law 304 = .ok (.if_icmp .eq 219, 3) := by decide +kernel
theorem dL_law_307 : decode cL_law 307 = .ok (.iconst 0, 1) := by decide +kernel
theorem dL_law_308 : decode cL_law 308 = .ok (.ireturn, 1) := by decide +kernel
theorem dL_law_309 : decode cL_law 309 = .ok (.aload_n 1, 1) := by decide +kernel
theorem dL_law_310 : decode cL_law 310 = .ok (.aload_n 0, 1) := by decide +kernel
theorem dL_law_311 : decode cL_law 311 = .ok (.iload_n 3, 1) := by decide +kernel
theorem dL_law_312 : decode cL_law 312 = .ok (.iconst 1, 1) := by decide +kernel
theorem dL_law_313 : decode cL_law 313 = .ok (.iadd, 1) := by decide +kernel
theorem dL_law_314 : decode cL_law 314 = .ok (.iaload, 1) := by decide +kernel
theorem dL_law_315 : decode cL_law 315 = .ok (.aload_n 0, 1) := by decide +kernel
theorem dL_law_316 : decode cL_law 316 = .ok (.iload_n 3, 1) := by decide +kernel
theorem dL_law_317 : decode cL_law 317 = .ok (.iconst 2, 1) := by decide +kernel
theorem dL_law_318 : decode cL_law 318 = .ok (.iadd, 1) := by decide +kernel
theorem dL_law_319 : decode cL_law 319 = .ok (.iaload, 1) := by decide +kernel
theorem dL_law_320 : decode cL_law 320 = .ok (.invokevirtual 46, 3) := by decide +kernel
theorem dL_law_323 : decode cL_law 323 = .ok (.aload_n 2, 1) := by decide +kernel
theorem dL_law_324 : decode cL_law 324 = .ok (.aload_n 0, 1) := by decide +kernel
theorem dL_law_325 : decode cL_law 325 = .ok (.iload_n 3, 1) := by decide +kernel
theorem dL_law_326 : decode cL_law 326 = .ok (.iconst 1, 1) := by decide +kernel
theorem dL_law_327 : decode cL_law 327 = .ok (.iadd, 1) := by decide +kernel
theorem dL_law_328 : decode cL_law 328 = .ok (.iaload, 1) := by decide +kernel
theorem dL_law_329 : decode cL_law 329 = .ok (.aload_n 0, 1) := by decide +kernel
theorem dL_law_330 : decode cL_law 330 = .ok (.iload_n 3, 1) := by decide +kernel
theorem dL_law_331 : decode cL_law 331 = .ok (.iconst 2, 1) := by decide +kernel
theorem dL_law_332 : decode cL_law 332 = .ok (.iadd, 1) := by decide +kernel
theorem dL_law_333 : decode cL_law 333 = .ok (.iaload, 1) := by decide +kernel
theorem dL_law_334 : decode cL_law 334 = .ok (.invokevirtual 49, 3) := by decide +kernel
theorem dL_law_337 : decode cL_law 337 = .ok (.if_icmp .eq 186, 3) := by decide +kernel
theorem dL_law_340 : decode cL_law 340 = .ok (.iconst 0, 1) := by decide +kernel
theorem dL_law_341 : decode cL_law 341 = .ok (.ireturn, 1) := by decide +kernel
theorem dL_law_342 : decode cL_law 342 = .ok (.aload_n 1, 1) := by decide +kernel
theorem dL_law_343 : decode cL_law 343 = .ok (.invokevirtual 50, 3) := by decide +kernel
theorem dL_law_346 : decode cL_law 346 = .ok (.aload_n 2, 1) := by decide +kernel
theorem dL_law_347 : decode cL_law 347 = .ok (.invokevirtual 53, 3) := by decide +kernel
theorem dL_law_350 : decode cL_law 350 = .ok (.if_icmp .eq 173, 3) := by decide +kernel
theorem dL_law_353 : decode cL_law 353 = .ok (.iconst 0, 1) := by decide +kernel
theorem dL_law_354 : decode cL_law 354 = .ok (.ireturn, 1) := by decide +kernel
theorem dL_law_355 : decode cL_law 355 = .ok (.aload_n 1, 1) := by decide +kernel
theorem dL_law_356 : decode cL_law 356 = .ok (.aload_n 0, 1) := by decide +kernel
theorem dL_law_357 : decode cL_law 357 = .ok (.iload_n 3, 1) := by decide +kernel
theorem dL_law_358 : decode cL_law 358 = .ok (.iconst 1, 1) := by decide +kernel
theorem dL_law_359 : decode cL_law 359 = .ok (.iadd, 1) := by decide +kernel
theorem dL_law_360 : decode cL_law 360 = .ok (.iaload, 1) := by decide +kernel
theorem dL_law_361 : decode cL_law 361 = .ok (.aload_n 0, 1) := by decide +kernel
theorem dL_law_362 : decode cL_law 362 = .ok (.iload_n 3, 1) := by decide +kernel
theorem dL_law_363 : decode cL_law 363 = .ok (.iconst 2, 1) := by decide +kernel
theorem dL_law_364 : decode cL_law 364 = .ok (.iadd, 1) := by decide +kernel
theorem dL_law_365 : decode cL_law 365 = .ok (.iaload, 1) := by decide +kernel
theorem dL_law_366 : decode cL_law 366 = .ok (.invokevirtual 54, 3) := by decide +kernel
theorem dL_law_369 : decode cL_law 369 = .ok (.aload_n 2, 1) := by decide +kernel
theorem dL_law_370 : decode cL_law 370 = .ok (.aload_n 0, 1) := by decide +kernel
theorem dL_law_371 : decode cL_law 371 = .ok (.iload_n 3, 1) := by decide +kernel
theorem dL_law_372 : decode cL_law 372 = .ok (.iconst 1, 1) := by decide +kernel
theorem dL_law_373 : decode cL_law 373 = .ok (.iadd, 1) := by decide +kernel
theorem dL_law_374 : decode cL_law 374 = .ok (.iaload, 1) := by decide +kernel
theorem dL_law_375 : decode cL_law 375 = .ok (.aload_n 0, 1) := by decide +kernel
theorem dL_law_376 : decode cL_law 376 = .ok (.iload_n 3, 1) := by decide +kernel
theorem dL_law_377 : decode cL_law 377 = .ok (.iconst 2, 1) := by decide +kernel
theorem dL_law_378 : decode cL_law 378 = .ok (.iadd, 1) := by decide +kernel
theorem dL_law_379 : decode cL_law 379 = .ok (.iaload, 1) := by decide +kernel
theorem dL_law_380 : decode cL_law 380 = .ok (.invokevirtual 57, 3) := by decide +kernel
theorem dL_law_383 : decode cL_law 383 = .ok (.if_icmp .eq 140, 3) := by decide +kernel
theorem dL_law_386 : decode cL_law 386 = .ok (.iconst 0, 1) := by decide +kernel
theorem dL_law_387 : decode cL_law 387 = .ok (.ireturn, 1) := by decide +kernel
theorem dL_law_388 : decode cL_law 388 = .ok (.aload_n 1, 1) := by decide +kernel
theorem dL_law_389 : decode cL_law 389 = .ok (.invokevirtual 58, 3) := by decide +kernel
theorem dL_law_392 : decode cL_law 392 = .ok (.aload_n 2, 1) := by decide +kernel
theorem dL_law_393 : decode cL_law 393 = .ok (.invokevirtual 61, 3) := by decide +kernel
theorem dL_law_396 : decode cL_law 396 = .ok (.if_icmp .eq 127, 3) := by decide +kernel
theorem dL_law_399 : decode cL_law 399 = .ok (.iconst 0, 1) := by decide +kernel
theorem dL_law_400 : decode cL_law 400 = .ok (.ireturn, 1) := by decide +kernel
theorem dL_law_401 : decode cL_law 401 = .ok (.aload_n 1, 1) := by decide +kernel
theorem dL_law_402 : decode cL_law 402 = .ok (.aload_n 0, 1) := by decide +kernel
theorem dL_law_403 : decode cL_law 403 = .ok (.iload_n 3, 1) := by decide +kernel
theorem dL_law_404 : decode cL_law 404 = .ok (.iconst 1, 1) := by decide +kernel
theorem dL_law_405 : decode cL_law 405 = .ok (.iadd, 1) := by decide +kernel
theorem dL_law_406 : decode cL_law 406 = .ok (.iaload, 1) := by decide +kernel
theorem dL_law_407 : decode cL_law 407 = .ok (.aload_n 0, 1) := by decide +kernel
theorem dL_law_408 : decode cL_law 408 = .ok (.iload_n 3, 1) := by decide +kernel
theorem dL_law_409 : decode cL_law 409 = .ok (.iconst 2, 1) := by decide +kernel
theorem dL_law_410 : decode cL_law 410 = .ok (.iadd, 1) := by decide +kernel
theorem dL_law_411 : decode cL_law 411 = .ok (.iaload, 1) := by decide +kernel
theorem dL_law_412 : decode cL_law 412 = .ok (.invokevirtual 62, 3) := by decide +kernel
theorem dL_law_415 : decode cL_law 415 = .ok (.aload_n 2, 1) := by decide +kernel
theorem dL_law_416 : decode cL_law 416 = .ok (.aload_n 0, 1) := by decide +kernel
theorem dL_law_417 : decode cL_law 417 = .ok (.iload_n 3, 1) := by decide +kernel
theorem dL_law_418 : decode cL_law 418 = .ok (.iconst 1, 1) := by decide +kernel
theorem dL_law_419 : decode cL_law 419 = .ok (.iadd, 1) := by decide +kernel
theorem dL_law_420 : decode cL_law 420 = .ok (.iaload, 1) := by decide +kernel
theorem dL_law_421 : decode cL_law 421 = .ok (.aload_n 0, 1) := by decide +kernel
theorem dL_law_422 : decode cL_law 422 = .ok (.iload_n 3, 1) := by decide +kernel
theorem dL_law_423 : decode cL_law 423 = .ok (.iconst 2, 1) := by decide +kernel
theorem dL_law_424 : decode cL_law 424 = .ok (.iadd, 1) := by decide +kernel
theorem dL_law_425 : decode cL_law 425 = .ok (.iaload, 1) := by decide +kernel
theorem dL_law_426 : decode cL_law 426 = .ok (.invokevirtual 65, 3) := by decide +kernel
theorem dL_law_429 : decode cL_law 429 = .ok (.if_icmp .eq 94, 3) := by decide +kernel
theorem dL_law_432 : decode cL_law 432 = .ok (.iconst 0, 1) := by decide +kernel
theorem dL_law_433 : decode cL_law 433 = .ok (.ireturn, 1) := by decide +kernel
theorem dL_law_434 : decode cL_law 434 = .ok (.aload_n 1, 1) := by decide +kernel
theorem dL_law_435 : decode cL_law 435 = .ok (.aload_n 0, 1) := by decide +kernel
theorem dL_law_436 : decode cL_law 436 = .ok (.iload_n 3, 1) := by decide +kernel
theorem dL_law_437 : decode cL_law 437 = .ok (.iconst 1, 1) := by decide +kernel
theorem dL_law_438 : decode cL_law 438 = .ok (.iadd, 1) := by decide +kernel
theorem dL_law_439 : decode cL_law 439 = .ok (.iaload, 1) := by decide +kernel
theorem dL_law_440 : decode cL_law 440 = .ok (.invokevirtual 66, 3) := by decide +kernel
theorem dL_law_443 : decode cL_law 443 = .ok (.aload_n 2, 1) := by decide +kernel
theorem dL_law_444 : decode cL_law 444 = .ok (.aload_n 0, 1) := by decide +kernel
theorem dL_law_445 : decode cL_law 445 = .ok (.iload_n 3, 1) := by decide +kernel
theorem dL_law_446 : decode cL_law 446 = .ok (.iconst 1, 1) := by decide +kernel
theorem dL_law_447 : decode cL_law 447 = .ok (.iadd, 1) := by decide +kernel
theorem dL_law_448 : decode cL_law 448 = .ok (.iaload, 1) := by decide +kernel
theorem dL_law_449 : decode cL_law 449 = .ok (.invokevirtual 69, 3) := by decide +kernel
theorem dL_law_452 : decode cL_law 452 = .ok (.if_icmp .eq 71, 3) := by decide +kernel
theorem dL_law_455 : decode cL_law 455 = .ok (.iconst 0, 1) := by decide +kernel
theorem dL_law_456 : decode cL_law 456 = .ok (.ireturn, 1) := by decide +kernel
theorem dL_law_457 : decode cL_law 457 = .ok (.aload_n 1, 1) := by decide +kernel
theorem dL_law_458 : decode cL_law 458 = .ok (.aload_n 0, 1) := by decide +kernel
theorem dL_law_459 : decode cL_law 459 = .ok (.iload_n 3, 1) := by decide +kernel
theorem dL_law_460 : decode cL_law 460 = .ok (.iconst 1, 1) := by decide +kernel
theorem dL_law_461 : decode cL_law 461 = .ok (.iadd, 1) := by decide +kernel
theorem dL_law_462 : decode cL_law 462 = .ok (.iaload, 1) := by decide +kernel
theorem dL_law_463 : decode cL_law 463 = .ok (.invokevirtual 70, 3) := by decide +kernel
theorem dL_law_466 : decode cL_law 466 = .ok (.aload_n 2, 1) := by decide +kernel
theorem dL_law_467 : decode cL_law 467 = .ok (.aload_n 0, 1) := by decide +kernel
theorem dL_law_468 : decode cL_law 468 = .ok (.iload_n 3, 1) := by decide +kernel
theorem dL_law_469 : decode cL_law 469 = .ok (.iconst 1, 1) := by decide +kernel
theorem dL_law_470 : decode cL_law 470 = .ok (.iadd, 1) := by decide +kernel
theorem dL_law_471 : decode cL_law 471 = .ok (.iaload, 1) := by decide +kernel
theorem dL_law_472 : decode cL_law 472 = .ok (.invokevirtual 73, 3) := by decide +kernel
theorem dL_law_475 : decode cL_law 475 = .ok (.if_icmp .eq 48, 3) := by decide +kernel
theorem dL_law_478 : decode cL_law 478 = .ok (.iconst 0, 1) := by decide +kernel
theorem dL_law_479 : decode cL_law 479 = .ok (.ireturn, 1) := by decide +kernel
theorem dL_law_480 : decode cL_law 480 = .ok (.aload_n 1, 1) := by decide +kernel
theorem dL_law_481 : decode cL_law 481 = .ok (.aload_n 0, 1) := by decide +kernel
theorem dL_law_482 : decode cL_law 482 = .ok (.iload_n 3, 1) := by decide +kernel
theorem dL_law_483 : decode cL_law 483 = .ok (.iconst 1, 1) := by decide +kernel
theorem dL_law_484 : decode cL_law 484 = .ok (.iadd, 1) := by decide +kernel
theorem dL_law_485 : decode cL_law 485 = .ok (.iaload, 1) := by decide +kernel
theorem dL_law_486 : decode cL_law 486 = .ok (.aload_n 0, 1) := by decide +kernel
theorem dL_law_487 : decode cL_law 487 = .ok (.iload_n 3, 1) := by decide +kernel
theorem dL_law_488 : decode cL_law 488 = .ok (.iconst 2, 1) := by decide +kernel
theorem dL_law_489 : decode cL_law 489 = .ok (.iadd, 1) := by decide +kernel
theorem dL_law_490 : decode cL_law 490 = .ok (.iaload, 1) := by decide +kernel
theorem dL_law_491 : decode cL_law 491 = .ok (.aload_n 0, 1) := by decide +kernel
theorem dL_law_492 : decode cL_law 492 = .ok (.iload_n 3, 1) := by decide +kernel
theorem dL_law_493 : decode cL_law 493 = .ok (.iconst 3, 1) := by decide +kernel
theorem dL_law_494 : decode cL_law 494 = .ok (.iadd, 1) := by decide +kernel
theorem dL_law_495 : decode cL_law 495 = .ok (.iaload, 1) := by decide +kernel
theorem dL_law_496 : decode cL_law 496 = .ok (.invokevirtual 74, 3) := by decide +kernel
theorem dL_law_499 : decode cL_law 499 = .ok (.aload_n 2, 1) := by decide +kernel
theorem dL_law_500 : decode cL_law 500 = .ok (.aload_n 0, 1) := by decide +kernel
theorem dL_law_501 : decode cL_law 501 = .ok (.iload_n 3, 1) := by decide +kernel
theorem dL_law_502 : decode cL_law 502 = .ok (.iconst 1, 1) := by decide +kernel
theorem dL_law_503 : decode cL_law 503 = .ok (.iadd, 1) := by decide +kernel
theorem dL_law_504 : decode cL_law 504 = .ok (.iaload, 1) := by decide +kernel
theorem dL_law_505 : decode cL_law 505 = .ok (.aload_n 0, 1) := by decide +kernel
theorem dL_law_506 : decode cL_law 506 = .ok (.iload_n 3, 1) := by decide +kernel
theorem dL_law_507 : decode cL_law 507 = .ok (.iconst 2, 1) := by decide +kernel
theorem dL_law_508 : decode cL_law 508 = .ok (.iadd, 1) := by decide +kernel
theorem dL_law_509 : decode cL_law 509 = .ok (.iaload, 1) := by decide +kernel
theorem dL_law_510 : decode cL_law 510 = .ok (.aload_n 0, 1) := by decide +kernel
theorem dL_law_511 : decode cL_law 511 = .ok (.iload_n 3, 1) := by decide +kernel
theorem dL_law_512 : decode cL_law 512 = .ok (.iconst 3, 1) := by decide +kernel
theorem dL_law_513 : decode cL_law 513 = .ok (.iadd, 1) := by decide +kernel
theorem dL_law_514 : decode cL_law 514 = .ok (.iaload, 1) := by decide +kernel
theorem dL_law_515 : decode cL_law 515 = .ok (.invokevirtual 77, 3) := by decide +kernel
theorem dL_law_518 : decode cL_law 518 = .ok (.if_icmp .eq 5, 3) := by decide +kernel
theorem dL_law_521 : decode cL_law 521 = .ok (.iconst 0, 1) := by decide +kernel
theorem dL_law_522 : decode cL_law 522 = .ok (.ireturn, 1) := by decide +kernel
theorem dL_law_523 : decode cL_law 523 = .ok (.iinc 3 4, 3) := by decide +kernel
theorem dL_law_526 : decode cL_law 526 = .ok (.goto (-508), 3) := by decide +kernel
theorem dL_law_529 : decode cL_law 529 = .ok (.iconst 1, 1) := by decide +kernel
theorem dL_law_530 : decode cL_law 530 = .ok (.ireturn, 1) := by decide +kernel
theorem q31 : (Jvm.Cond.initialized "ProcessEquivLaw") ∈ lw_all := lw_g (lw_at lw_m1 0 rfl) rfl
set_option maxRecDepth 100000
theorem q34 : (Jvm.Cond.classLink "ProcessEquivLaw" (7 : Nat) "ProcessEquiv") ∈ lw_all := lw_g (lw_at lw_m1 3 rfl) rfl
theorem q36 : (Jvm.Cond.methodLink "ProcessEquivLaw" (9 : Nat) ({ cls := "ProcessEquiv", name := "<init>", desc := "()V" } : Jvm.MethodName)) ∈ lw_all := lw_g (lw_at lw_m1 5 rfl) rfl
theorem q66 : (Jvm.Cond.methodLink "ProcessEquivLaw" (13 : Nat) ({ cls := "ProcessEquiv", name := "join", desc := "(III)Z" } : Jvm.MethodName)) ∈ lw_all := lw_g (lw_at lw_m1 35 rfl) rfl
theorem q87 : (Jvm.Cond.methodLink "ProcessEquivLaw" (18 : Nat) ({ cls := "ProcessEquiv", name := "cut", desc := "(III)Z" } : Jvm.MethodName)) ∈ lw_all := lw_g (lw_at lw_m1 56 rfl) rfl
theorem q91 : (Jvm.Cond.methodLink "ProcessEquivLaw" (22 : Nat) ({ cls := "ProcessEquiv", name := "steps", desc := "()I" } : Jvm.MethodName)) ∈ lw_all := lw_g (lw_at lw_m1 60 rfl) rfl
theorem q98 : (Jvm.Cond.methodLink "ProcessEquivLaw" (27 : Nat) ({ cls := "ProcessEquiv", name := "after", desc := "(II)I" } : Jvm.MethodName)) ∈ lw_all := lw_g (lw_at lw_m1 67 rfl) rfl
theorem q102 : (Jvm.Cond.methodLink "ProcessEquivLaw" (32 : Nat) ({ cls := "ProcessEquiv", name := "alike", desc := "(II)Z" } : Jvm.MethodName)) ∈ lw_all := lw_g (lw_at lw_m1 71 rfl) rfl
theorem q130 : (Jvm.Cond.methodLink "ProcessEquivLaw" (37 : Nat) ({ cls := "ProcessEquiv", name := "group", desc := "(I)I" } : Jvm.MethodName)) ∈ lw_all := lw_g (lw_at lw_m1 99 rfl) rfl
theorem q134 : (Jvm.Cond.methodLink "ProcessEquivLaw" (42 : Nat) ({ cls := "ProcessEquiv", name := "groups", desc := "()I" } : Jvm.MethodName)) ∈ lw_all := lw_g (lw_at lw_m1 103 rfl) rfl
theorem q142 : (Jvm.Cond.methodLink "ProcessEquivLaw" (46 : Nat) ({ cls := "ProcessEquiv", name := "toldAfter", desc := "(II)I" } : Jvm.MethodName)) ∈ lw_all := lw_g (lw_at lw_m1 111 rfl) rfl
theorem q146 : (Jvm.Cond.methodLink "ProcessEquivLaw" (50 : Nat) ({ cls := "ProcessEquiv", name := "rounds", desc := "()I" } : Jvm.MethodName)) ∈ lw_all := lw_g (lw_at lw_m1 115 rfl) rfl
theorem q150 : (Jvm.Cond.methodLink "ProcessEquivLaw" (54 : Nat) ({ cls := "ProcessEquiv", name := "looselyAlike", desc := "(II)Z" } : Jvm.MethodName)) ∈ lw_all := lw_g (lw_at lw_m1 119 rfl) rfl
theorem q166 : (Jvm.Cond.methodLink "ProcessEquivLaw" (58 : Nat) ({ cls := "ProcessEquiv", name := "looseGroups", desc := "()I" } : Jvm.MethodName)) ∈ lw_all := lw_g (lw_at lw_m1 135 rfl) rfl
theorem q170 : (Jvm.Cond.methodLink "ProcessEquivLaw" (62 : Nat) ({ cls := "ProcessEquiv", name := "follows", desc := "(II)Z" } : Jvm.MethodName)) ∈ lw_all := lw_g (lw_at lw_m1 139 rfl) rfl
theorem q186 : (Jvm.Cond.methodLink "ProcessEquivLaw" (66 : Nat) ({ cls := "ProcessEquiv", name := "followers", desc := "(I)I" } : Jvm.MethodName)) ∈ lw_all := lw_g (lw_at lw_m1 155 rfl) rfl
theorem q190 : (Jvm.Cond.methodLink "ProcessEquivLaw" (70 : Nat) ({ cls := "ProcessEquiv", name := "silently", desc := "(I)I" } : Jvm.MethodName)) ∈ lw_all := lw_g (lw_at lw_m1 159 rfl) rfl
theorem q194 : (Jvm.Cond.methodLink "ProcessEquivLaw" (74 : Nat) ({ cls := "ProcessEquiv", name := "idle", desc := "(III)Z" } : Jvm.MethodName)) ∈ lw_all := lw_g (lw_at lw_m1 163 rfl) rfl
theorem q203 : (Jvm.Cond.classLink "ProcessEquivLaw" (10 : Nat) "ProcessEquivModel") ∈ lw_all := lw_g (lw_at lw_m1 172 rfl) rfl
theorem q205 : (Jvm.Cond.methodLink "ProcessEquivLaw" (12 : Nat) ({ cls := "ProcessEquivModel", name := "<init>", desc := "()V" } : Jvm.MethodName)) ∈ lw_all := lw_g (lw_at lw_m1 174 rfl) rfl
theorem q227 : (Jvm.Cond.methodLink "ProcessEquivLaw" (17 : Nat) ({ cls := "ProcessEquivModel", name := "join", desc := "(III)Z" } : Jvm.MethodName)) ∈ lw_all := lw_g (lw_at lw_m1 196 rfl) rfl
theorem q235 : (Jvm.Cond.methodLink "ProcessEquivLaw" (21 : Nat) ({ cls := "ProcessEquivModel", name := "cut", desc := "(III)Z" } : Jvm.MethodName)) ∈ lw_all := lw_g (lw_at lw_m1 204 rfl) rfl
theorem q243 : (Jvm.Cond.methodLink "ProcessEquivLaw" (26 : Nat) ({ cls := "ProcessEquivModel", name := "steps", desc := "()I" } : Jvm.MethodName)) ∈ lw_all := lw_g (lw_at lw_m1 212 rfl) rfl
theorem q247 : (Jvm.Cond.methodLink "ProcessEquivLaw" (31 : Nat) ({ cls := "ProcessEquivModel", name := "after", desc := "(II)I" } : Jvm.MethodName)) ∈ lw_all := lw_g (lw_at lw_m1 216 rfl) rfl
theorem q251 : (Jvm.Cond.methodLink "ProcessEquivLaw" (36 : Nat) ({ cls := "ProcessEquivModel", name := "alike", desc := "(II)Z" } : Jvm.MethodName)) ∈ lw_all := lw_g (lw_at lw_m1 220 rfl) rfl
theorem q275 : (Jvm.Cond.methodLink "ProcessEquivLaw" (41 : Nat) ({ cls := "ProcessEquivModel", name := "group", desc := "(I)I" } : Jvm.MethodName)) ∈ lw_all := lw_g (lw_at lw_m2 4 rfl) rfl
theorem q279 : (Jvm.Cond.methodLink "ProcessEquivLaw" (45 : Nat) ({ cls := "ProcessEquivModel", name := "groups", desc := "()I" } : Jvm.MethodName)) ∈ lw_all := lw_g (lw_at lw_m2 8 rfl) rfl
theorem q287 : (Jvm.Cond.methodLink "ProcessEquivLaw" (49 : Nat) ({ cls := "ProcessEquivModel", name := "toldAfter", desc := "(II)I" } : Jvm.MethodName)) ∈ lw_all := lw_g (lw_at lw_m2 16 rfl) rfl
theorem q291 : (Jvm.Cond.methodLink "ProcessEquivLaw" (53 : Nat) ({ cls := "ProcessEquivModel", name := "rounds", desc := "()I" } : Jvm.MethodName)) ∈ lw_all := lw_g (lw_at lw_m2 20 rfl) rfl
theorem q295 : (Jvm.Cond.methodLink "ProcessEquivLaw" (57 : Nat) ({ cls := "ProcessEquivModel", name := "looselyAlike", desc := "(II)Z" } : Jvm.MethodName)) ∈ lw_all := lw_g (lw_at lw_m2 24 rfl) rfl
theorem q319 : (Jvm.Cond.methodLink "ProcessEquivLaw" (61 : Nat) ({ cls := "ProcessEquivModel", name := "looseGroups", desc := "()I" } : Jvm.MethodName)) ∈ lw_all := lw_g (lw_at lw_m2 48 rfl) rfl
theorem q323 : (Jvm.Cond.methodLink "ProcessEquivLaw" (65 : Nat) ({ cls := "ProcessEquivModel", name := "follows", desc := "(II)Z" } : Jvm.MethodName)) ∈ lw_all := lw_g (lw_at lw_m2 52 rfl) rfl
theorem q335 : (Jvm.Cond.methodLink "ProcessEquivLaw" (69 : Nat) ({ cls := "ProcessEquivModel", name := "followers", desc := "(I)I" } : Jvm.MethodName)) ∈ lw_all := lw_g (lw_at lw_m2 64 rfl) rfl
theorem q339 : (Jvm.Cond.methodLink "ProcessEquivLaw" (73 : Nat) ({ cls := "ProcessEquivModel", name := "silently", desc := "(I)I" } : Jvm.MethodName)) ∈ lw_all := lw_g (lw_at lw_m2 68 rfl) rfl
theorem q343 : (Jvm.Cond.methodLink "ProcessEquivLaw" (77 : Nat) ({ cls := "ProcessEquivModel", name := "idle", desc := "(III)Z" } : Jvm.MethodName)) ∈ lw_all := lw_g (lw_at lw_m2 72 rfl) rfl
theorem q64 : (Jvm.Cond.arrayClass Jvm.ClassFile.FieldType.short) ∈ lw_all := lw_g (lw_at lw_m1 33 rfl) rfl
set_option maxRecDepth 100000
theorem q65 : (Jvm.Cond.arrayClass Jvm.ClassFile.FieldType.byte) ∈ lw_all := lw_g (lw_at lw_m1 34 rfl) rfl
theorem q225 : (Jvm.Cond.arrayClass Jvm.ClassFile.FieldType.int) ∈ lw_all := lw_g (lw_at lw_m1 194 rfl) rfl
theorem q226 : (Jvm.Cond.arrayClass Jvm.ClassFile.FieldType.boolean) ∈ lw_all := lw_g (lw_at lw_m1 195 rfl) rfl
/-! java/lang/Object -/
set_option maxRecDepth 100000
def RJ0 : String := "java/lang/Object"
abbrev cJ0_init : ByteArray := object_method_1_code
def yJ0_init : MethodName := ⟨RJ0, "<init>", "()V"⟩
theorem dJ0_init_0 : decode cJ0_init 0 = .ok (.return_, 1) := by decide +kernel
theorem q40 : (Jvm.Cond.instanceMethod ({ cls := "java/lang/Object", name := "<init>", desc := "()V" } : Jvm.MethodName)) ∈ lw_all := lw_g (lw_at lw_m1 9 rfl) rfl
theorem q41 : (Jvm.Cond.code ({ cls := "java/lang/Object", name := "<init>", desc := "()V" } : Jvm.MethodName) object_method_1_code (1 : Nat) (Option.none : Option Jvm.ClassFile.FieldType)) ∈ lw_all := lw_g (lw_at lw_m1 10 rfl) rfl
end
section
/-! BASE: rows of my own over the kit's rows: numbers as nI, reads and writes of arrays, loops, calls, a method's start and end -/
set_option maxRecDepth 100000
def bt (x : Int32) (i : Nat) : Bool := x.toBitVec.getLsbD i
theorem b_ext {x y : Int32} (h : ∀ i, i < 32 → bt x i = bt y i) : x = y := Int32.toBitVec_inj.mp (BitVec.eq_of_getLsbD_eq (fun i hi => h i hi))
theorem b_and (x y : Int32) (i : Nat) : bt (x &&& y) i = (bt x i && bt y i) := by unfold bt; rw [Int32.toBitVec_and, BitVec.getLsbD_and]
theorem s_l : ∀ n, n < 32 → ((nI n &&& 31).toBitVec.smod 32).toNat = n := by decide +kernel
theorem b_sshr (n : Nat) (hn : n < 32) (x : Int32) {i : Nat} (hi : i < 32) : bt (x >>> (nI n &&& 31)) i = if n + i < 32 then bt x (n + i) else bt x 31 := by
  unfold bt
  rw [Int32.toBitVec_shiftRight]
  show (x.toBitVec.sshiftRight ((nI n &&& 31).toBitVec.smod 32).toNat).getLsbD i = _
  rw [s_l n hn, BitVec.getLsbD_sshiftRight, BitVec.msb_eq_getLsbD_last]
  simp [hi]
theorem nx_and (a b : Nat) : nI a &&& nI b = nI (a &&& b) := by
  apply Int32.toBitVec_inj.1
  show BitVec.ofNat 32 a &&& BitVec.ofNat 32 b = BitVec.ofNat 32 (a &&& b)
  apply BitVec.eq_of_getLsbD_eq
  intro i hi
  simp [hi]
theorem nx_xor (a b : Nat) : nI a ^^^ nI b = nI (a ^^^ b) := by
  apply Int32.toBitVec_inj.1
  show BitVec.ofNat 32 a ^^^ BitVec.ofNat 32 b = BitVec.ofNat 32 (a ^^^ b)
  apply BitVec.eq_of_getLsbD_eq
  intro i hi
  simp [hi]
theorem nx_or (a b : Nat) : nI a ||| nI b = nI (a ||| b) := by
  apply Int32.toBitVec_inj.1
  show BitVec.ofNat 32 a ||| BitVec.ofNat 32 b = BitVec.ofNat 32 (a ||| b)
  apply BitVec.eq_of_getLsbD_eq
  intro i hi
  simp [hi]
theorem bt_nI (x : Nat) {i : Nat} (h : i < 32) : bt (nI x) i = x.testBit i := by
  show (BitVec.ofNat 32 x).getLsbD i = _
  rw [BitVec.getLsbD_ofNat, decide_eq_true h, Bool.true_and]
theorem pe_tb0 (b : Bool) : (b.toNat).testBit 0 = b := by cases b <;> decide
theorem pe_tbs (b : Bool) (j : Nat) : (b.toNat).testBit (j + 1) = false := by
  rw [Nat.testBit_succ]
  cases b <;> simp
/-- one bit of a number, as the code reads it -/
theorem pe_bit (x : Nat) {b : Nat} (hb : b < 32) : (nI x >>> (nI b &&& 31)) &&& nI 1 = nI (x.testBit b).toNat := by
  apply b_ext
  intro i hi
  rw [b_and, b_sshr b hb _ hi, bt_nI 1 hi, bt_nI _ hi]
  cases i with
  | zero =>
    rw [if_pos (by omega), bt_nI x (by omega), pe_tb0]
    simp
  | succ j =>
    rw [pe_tbs, show (1 : Nat).testBit (j + 1) = false from pe_tbs true j, Bool.and_false]
theorem pe_sh1 : ∀ b, b < 31 → nI 1 <<< (nI b &&& 31) = nI (2 ^ b) := by decide +kernel
theorem pe_b0 (b : Bool) : nI b.toNat = 0 ↔ b = false := by cases b <;> decide
theorem pe_b1 (b : Bool) : nI b.toNat = nI 1 ↔ b = true := by cases b <;> decide
theorem pe_bt0 {b : Bool} (h : ¬ nI b.toNat = 0) : b = true := by
  cases b with
  | false => exact absurd ((pe_b0 false).mpr rfl) h
  | true => rfl
theorem pe_bf1 {b : Bool} (h : ¬ nI b.toNat = nI 1) : b = false := by
  cases b with
  | false => rfl
  | true => exact absurd rfl h
theorem pe_s16 {x : Nat} (h : x < 32768) : (nI x).toInt16.toInt32 = nI x := by
  have h1 : ((nI x).toInt16).toInt = (x : Int) := by
    rw [Int32.toInt_toInt16, nI_toInt (by omega)]
    rw [Int.bmod_eq_of_le] <;> omega
  apply Int32.toInt_inj.mp
  rw [Int16.toInt_toInt32, h1, nI_toInt (by omega)]
theorem pe_s8 {x : Nat} (h : x < 128) : (nI x).toInt8.toInt32 = nI x := by
  have h1 : ((nI x).toInt8).toInt = (x : Int) := by
    rw [Int32.toInt_toInt8, nI_toInt (by omega)]
    rw [Int.bmod_eq_of_le] <;> omega
  apply Int32.toInt_inj.mp
  rw [Int8.toInt_toInt32, h1, nI_toInt (by omega)]
theorem pe_n16 {x : Nat} (h : x < 32768) : vp_nar .short (nI x) = nI x := by rw [vp_nar_short, pe_s16 h]
theorem pe_n8 {x : Nat} (h : x < 128) : vp_nar .byte (nI x) = nI x := by rw [vp_nar_byte, pe_s8 h]
theorem pe_n8m : vp_nar .byte (-1) = -1 := by decide +kernel
theorem pe_nz (b : Bool) : vp_nar .boolean (nI b.toNat) = nI b.toNat := by cases b <;> decide +kernel
theorem pe_nzr (b : Bool) : narrow .boolean (.int (nI b.toNat)) = .int (nI b.toNat) := by cases b <;> rfl
/-- an update of a table of numbers -/
theorem pe_up (f : Nat → Nat) (k x : Nat) : upd (fun j => nI (f j)) k (nI x) = fun j => nI (va_up f k x j) := by
  funext j
  unfold upd va_up
  split <;> rfl
theorem pe_upB (f : Nat → Bool) (k : Nat) (x : Bool) : upd (fun j => nI (f j).toNat) k (nI x.toNat) = fun j => nI (va_up f k x j).toNat := by
  funext j
  unfold upd va_up
  split <;> rfl
/-- a table filled below i -/
def pe_fl {α : Type} (f : Nat → α) (i : Nat) (g : Nat → α) : Nat → α := fun j => if j < i then f j else g j
theorem pe_fl_up {α : Type} (f : Nat → α) (i : Nat) (g : Nat → α) : va_up (pe_fl f i g) i (f i) = pe_fl f (i + 1) g := by
  funext j
  unfold va_up pe_fl
  by_cases h : j = i
  · subst h; simp
  · rw [if_neg h]
    by_cases h2 : j < i
    · rw [if_pos h2, if_pos (by omega)]
    · rw [if_neg h2, if_neg (by omega)]
theorem pe_fl_0 {α : Type} (f g : Nat → α) : pe_fl f 0 g = g := by
  funext j; unfold pe_fl; rw [if_neg (by omega)]
theorem pe_fl_lt {α : Type} (f g : Nat → α) {i j : Nat} (h : j < i) : pe_fl f i g j = f j := by unfold pe_fl; rw [if_pos h]
theorem pe_fl_ge {α : Type} (f g : Nat → α) {i j : Nat} (h : i ≤ j) : pe_fl f i g j = g j := by unfold pe_fl; rw [if_neg (by omega)]
theorem pe_updup (f : Nat → Int32) (k : Nat) (x : Int32) : upd f k x = va_up f k x := rfl
section PE
variable {p : Program} {l : Launch} {e : Env} {R : Room} {s : State} {m : MethodId} {args : Array Value} {below : List Frame} {meth : Method} {c : Code} {H : Heap} {locs : List Loc} {cells slots : Nat} {Q : State → Prop}
variable {cc : ByteArray} {pc : Nat} {ls : Array Slot} {rest : List Value}
theorem pe_top {x y : Int32} (h : x = y) (k : W p l e R s m args below meth c H locs cells slots Q (F0 m pc ls (.int y :: rest))) : W p l e R s m args below meth c H locs cells slots Q (F0 m pc ls (.int x :: rest)) := by
  rw [h]; exact k
theorem pe_topl {x y : Int64} (h : x = y) (k : W p l e R s m args below meth c H locs cells slots Q (F0 m pc ls (.long y :: rest))) : W p l e R s m args below meth c H locs cells slots Q (F0 m pc ls (.long x :: rest)) := by
  rw [h]; exact k
theorem pe_iadd (hx : p.tables.exec = Jvm.exec) (hb : c.code = cc) {a b : Nat} (hdg : decode cc pc = .ok (.iadd, 1)) (k : W p l e R s m args below meth c H locs cells slots Q (F0 m (pc + 1) ls (.int (nI (a + b)) :: rest))) : W p l e R s m args below meth c H locs cells slots Q (F0 m pc ls (.int (nI b) :: .int (nI a) :: rest)) :=
  lv_iadd hx hb hdg (by rw [nI_add]; exact k)
theorem pe_imul (hx : p.tables.exec = Jvm.exec) (hb : c.code = cc) {a b : Nat} (hdg : decode cc pc = .ok (.imul, 1)) (k : W p l e R s m args below meth c H locs cells slots Q (F0 m (pc + 1) ls (.int (nI (a * b)) :: rest))) : W p l e R s m args below meth c H locs cells slots Q (F0 m pc ls (.int (nI b) :: .int (nI a) :: rest)) :=
  lv_imul hx hb hdg (by rw [pk_mul]; exact k)
theorem pe_iand (hx : p.tables.exec = Jvm.exec) (hb : c.code = cc) {a b : Nat} (hdg : decode cc pc = .ok (.iand, 1)) (k : W p l e R s m args below meth c H locs cells slots Q (F0 m (pc + 1) ls (.int (nI (a &&& b)) :: rest))) : W p l e R s m args below meth c H locs cells slots Q (F0 m pc ls (.int (nI b) :: .int (nI a) :: rest)) :=
  lv_iand hx hb hdg (by rw [nx_and]; exact k)
theorem pe_ior (hx : p.tables.exec = Jvm.exec) (hb : c.code = cc) {a b : Nat} (hdg : decode cc pc = .ok (.ior, 1)) (k : W p l e R s m args below meth c H locs cells slots Q (F0 m (pc + 1) ls (.int (nI (a ||| b)) :: rest))) : W p l e R s m args below meth c H locs cells slots Q (F0 m pc ls (.int (nI b) :: .int (nI a) :: rest)) :=
  lv_ior hx hb hdg (by rw [nx_or]; exact k)
theorem pe_ixor (hx : p.tables.exec = Jvm.exec) (hb : c.code = cc) {a b : Nat} (hdg : decode cc pc = .ok (.ixor, 1)) (k : W p l e R s m args below meth c H locs cells slots Q (F0 m (pc + 1) ls (.int (nI (a ^^^ b)) :: rest))) : W p l e R s m args below meth c H locs cells slots Q (F0 m pc ls (.int (nI b) :: .int (nI a) :: rest)) :=
  lv_ixor hx hb hdg (by rw [nx_xor]; exact k)
theorem pe_iorB (hx : p.tables.exec = Jvm.exec) (hb : c.code = cc) {a b : Bool} (hdg : decode cc pc = .ok (.ior, 1)) (k : W p l e R s m args below meth c H locs cells slots Q (F0 m (pc + 1) ls (.int (nI (a || b).toNat) :: rest))) : W p l e R s m args below meth c H locs cells slots Q (F0 m pc ls (.int (nI b.toNat) :: .int (nI a.toNat) :: rest)) :=
  lv_ior hx hb hdg (pe_top (by cases a <;> cases b <;> decide) k)
theorem pe_idiv (hx : p.tables.exec = Jvm.exec) (hb : c.code = cc) {a d : Nat} (ha : a < 2 ^ 31) (h0 : 0 < d) (hd : d < 2 ^ 31) (hdg : decode cc pc = .ok (.idiv, 1)) (k : W p l e R s m args below meth c H locs cells slots Q (F0 m (pc + 1) ls (.int (nI (a / d)) :: rest))) : W p l e R s m args below meth c H locs cells slots Q (F0 m pc ls (.int (nI d) :: .int (nI a) :: rest)) :=
  lv_idiv hx hb hdg (nI_ne0 h0 hd) (by rw [pk_div ha h0 hd]; exact k)
theorem pe_irem (hx : p.tables.exec = Jvm.exec) (hb : c.code = cc) {a d : Nat} (ha : a < 2 ^ 31) (h0 : 0 < d) (hd : d < 2 ^ 31) (hdg : decode cc pc = .ok (.irem, 1)) (k : W p l e R s m args below meth c H locs cells slots Q (F0 m (pc + 1) ls (.int (nI (a % d)) :: rest))) : W p l e R s m args below meth c H locs cells slots Q (F0 m pc ls (.int (nI d) :: .int (nI a) :: rest)) :=
  lv_irem hx hb hdg (nI_ne0 h0 hd) (by rw [pk_rem ha h0 hd]; exact k)
theorem pe_shl (hx : p.tables.exec = Jvm.exec) (hb : c.code = cc) {b : Nat} (h : b < 31) (hdg : decode cc pc = .ok (.ishl, 1)) (k : W p l e R s m args below meth c H locs cells slots Q (F0 m (pc + 1) ls (.int (nI (2 ^ b)) :: rest))) : W p l e R s m args below meth c H locs cells slots Q (F0 m pc ls (.int (nI b) :: .int (nI 1) :: rest)) :=
  lv_ishl hx hb hdg (pe_top (pe_sh1 b h) k)
/-- iand behind ishr: one bit -/
theorem pe_iandbit (hx : p.tables.exec = Jvm.exec) (hb : c.code = cc) {x b : Nat} (h : b < 32) (hdg : decode cc pc = .ok (.iand, 1)) (k : W p l e R s m args below meth c H locs cells slots Q (F0 m (pc + 1) ls (.int (nI (x.testBit b).toNat) :: rest))) : W p l e R s m args below meth c H locs cells slots Q (F0 m pc ls (.int (nI 1) :: .int (nI x >>> (nI b &&& 31)) :: rest)) :=
  lv_iand hx hb hdg (pe_top (pe_bit x h) k)
theorem pe_i2s (hx : p.tables.exec = Jvm.exec) (hb : c.code = cc) {x : Nat} (h : x < 32768) (hdg : decode cc pc = .ok (.i2s, 1)) (k : W p l e R s m args below meth c H locs cells slots Q (F0 m (pc + 1) ls (.int (nI x) :: rest))) : W p l e R s m args below meth c H locs cells slots Q (F0 m pc ls (.int (nI x) :: rest)) :=
  lv_i2s hx hb hdg (pe_s16 h) k
theorem pe_i2b (hx : p.tables.exec = Jvm.exec) (hb : c.code = cc) {x : Nat} (h : x < 128) (hdg : decode cc pc = .ok (.i2b, 1)) (k : W p l e R s m args below meth c H locs cells slots Q (F0 m (pc + 1) ls (.int (nI x) :: rest))) : W p l e R s m args below meth c H locs cells slots Q (F0 m pc ls (.int (nI x) :: rest)) :=
  lv_i2b hx hb hdg (pe_s8 h) k
theorem pe_icmp_ge (hx : p.tables.exec = Jvm.exec) (hb : c.code = cc) {a b : Nat} {off : Int} (tgt : Nat) (hdg : decode cc pc = .ok (.if_icmp .ge off, 3)) (ht : (pc : Int) + off = (tgt : Int)) (ha : a < 2 ^ 31) (hb2 : b < 2 ^ 31) (kt : b ≤ a → W p l e R s m args below meth c H locs cells slots Q (F0 m tgt ls rest)) (kf : a < b → W p l e R s m args below meth c H locs cells slots Q (F0 m (pc + 3) ls rest)) : W p l e R s m args below meth c H locs cells slots Q (F0 m pc ls (.int (nI b) :: .int (nI a) :: rest)) :=
  lv_icmp_ge hx hb hdg ht (fun h => kt ((nI_leI hb2 ha).mp h)) (fun h => kf (Nat.lt_of_not_le fun q => h ((nI_leI hb2 ha).mpr q)))
theorem pe_icmp_gt (hx : p.tables.exec = Jvm.exec) (hb : c.code = cc) {a b : Nat} {off : Int} (tgt : Nat) (hdg : decode cc pc = .ok (.if_icmp .gt off, 3)) (ht : (pc : Int) + off = (tgt : Int)) (ha : a < 2 ^ 31) (hb2 : b < 2 ^ 31) (kt : b < a → W p l e R s m args below meth c H locs cells slots Q (F0 m tgt ls rest)) (kf : a ≤ b → W p l e R s m args below meth c H locs cells slots Q (F0 m (pc + 3) ls rest)) : W p l e R s m args below meth c H locs cells slots Q (F0 m pc ls (.int (nI b) :: .int (nI a) :: rest)) :=
  lv_icmp_gt hx hb hdg ht (fun h => kt ((nI_ltI hb2 ha).mp h)) (fun h => kf (Nat.le_of_not_lt fun q => h ((nI_ltI hb2 ha).mpr q)))
theorem pe_icmp_eq (hx : p.tables.exec = Jvm.exec) (hb : c.code = cc) {a b : Nat} {off : Int} (tgt : Nat) (hdg : decode cc pc = .ok (.if_icmp .eq off, 3)) (ht : (pc : Int) + off = (tgt : Int)) (ha : a < 2 ^ 31) (hb2 : b < 2 ^ 31) (kt : a = b → W p l e R s m args below meth c H locs cells slots Q (F0 m tgt ls rest)) (kf : ¬ a = b → W p l e R s m args below meth c H locs cells slots Q (F0 m (pc + 3) ls rest)) : W p l e R s m args below meth c H locs cells slots Q (F0 m pc ls (.int (nI b) :: .int (nI a) :: rest)) :=
  lv_icmp_eq hx hb hdg ht (fun h => kt ((nI_eq ha hb2).mp h)) (fun h => kf (fun q => h ((nI_eq ha hb2).mpr q)))
theorem pe_icmp_ne (hx : p.tables.exec = Jvm.exec) (hb : c.code = cc) {a b : Nat} {off : Int} (tgt : Nat) (hdg : decode cc pc = .ok (.if_icmp .ne off, 3)) (ht : (pc : Int) + off = (tgt : Int)) (ha : a < 2 ^ 31) (hb2 : b < 2 ^ 31) (kt : ¬ a = b → W p l e R s m args below meth c H locs cells slots Q (F0 m tgt ls rest)) (kf : a = b → W p l e R s m args below meth c H locs cells slots Q (F0 m (pc + 3) ls rest)) : W p l e R s m args below meth c H locs cells slots Q (F0 m pc ls (.int (nI b) :: .int (nI a) :: rest)) :=
  lv_icmp_ne hx hb hdg ht (fun h => kt (fun q => h ((nI_eq ha hb2).mpr q))) (fun h => kf ((nI_eq ha hb2).mp h))
/-- a bit compared with 1 -/
theorem pe_icmp_neB (hx : p.tables.exec = Jvm.exec) (hb : c.code = cc) {a : Bool} {off : Int} (tgt : Nat) (hdg : decode cc pc = .ok (.if_icmp .ne off, 3)) (ht : (pc : Int) + off = (tgt : Int)) (kt : a = false → W p l e R s m args below meth c H locs cells slots Q (F0 m tgt ls rest)) (kf : a = true → W p l e R s m args below meth c H locs cells slots Q (F0 m (pc + 3) ls rest)) : W p l e R s m args below meth c H locs cells slots Q (F0 m pc ls (.int (nI 1) :: .int (nI a.toNat) :: rest)) :=
  lv_icmp_ne hx hb hdg ht (fun h => kt (pe_bf1 h)) (fun h => kf ((pe_b1 a).mp h))
theorem pe_ifeqB (hx : p.tables.exec = Jvm.exec) (hb : c.code = cc) {a : Bool} {off : Int} (tgt : Nat) (hdg : decode cc pc = .ok (.ifCond .eq off, 3)) (ht : (pc : Int) + off = (tgt : Int)) (kt : a = false → W p l e R s m args below meth c H locs cells slots Q (F0 m tgt ls rest)) (kf : a = true → W p l e R s m args below meth c H locs cells slots Q (F0 m (pc + 3) ls rest)) : W p l e R s m args below meth c H locs cells slots Q (F0 m pc ls (.int (nI a.toNat) :: rest)) :=
  lv_if_eq hx hb hdg ht (fun h => kt ((pe_b0 a).mp h)) (fun h => kf (pe_bt0 h))
theorem pe_ifneB (hx : p.tables.exec = Jvm.exec) (hb : c.code = cc) {a : Bool} {off : Int} (tgt : Nat) (hdg : decode cc pc = .ok (.ifCond .ne off, 3)) (ht : (pc : Int) + off = (tgt : Int)) (kt : a = true → W p l e R s m args below meth c H locs cells slots Q (F0 m tgt ls rest)) (kf : a = false → W p l e R s m args below meth c H locs cells slots Q (F0 m (pc + 3) ls rest)) : W p l e R s m args below meth c H locs cells slots Q (F0 m pc ls (.int (nI a.toNat) :: rest)) :=
  lv_if_ne hx hb hdg ht (fun h => kt (pe_bt0 h)) (fun h => kf ((pe_b0 a).mp h))
theorem pe_ifeqN (hx : p.tables.exec = Jvm.exec) (hb : c.code = cc) {a : Nat} {off : Int} (tgt : Nat) (hdg : decode cc pc = .ok (.ifCond .eq off, 3)) (ht : (pc : Int) + off = (tgt : Int)) (ha : a < 2 ^ 31) (kt : a = 0 → W p l e R s m args below meth c H locs cells slots Q (F0 m tgt ls rest)) (kf : ¬ a = 0 → W p l e R s m args below meth c H locs cells slots Q (F0 m (pc + 3) ls rest)) : W p l e R s m args below meth c H locs cells slots Q (F0 m pc ls (.int (nI a) :: rest)) :=
  lv_if_eq hx hb hdg ht (fun h => kt (Classical.byContradiction fun q => nI_ne0 (Nat.pos_of_ne_zero q) ha h)) (fun h => kf (fun q => h (by rw [q]; exact nI_0)))
/-- a way that comes together again: the goal behind it, once -/
theorem pe_join (J : Nat) (v : Value) (st : List Value) (h : W p l e R s m args below meth c H locs cells slots Q (F0 m J ls (v :: st)) → W p l e R s m args below meth c H locs cells slots Q (F0 m pc ls rest)) (k : W p l e R s m args below meth c H locs cells slots Q (F0 m J ls (v :: st))) : W p l e R s m args below meth c H locs cells slots Q (F0 m pc ls rest) := h k
theorem pe_loop (N hd : Nat) (Inv : Nat → Heap → List Loc → Array Slot → Prop)
    (step : ∀ i, i ≤ N → (i < N → ∀ H locs ls, Inv (i + 1) H locs ls → W p l e R s m args below meth c H locs cells slots Q (F0 m hd ls [])) → ∀ H locs ls, Inv i H locs ls → W p l e R s m args below meth c H locs cells slots Q (F0 m hd ls [])) :
    ∀ i, i ≤ N → ∀ H locs ls, Inv i H locs ls → W p l e R s m args below meth c H locs cells slots Q (F0 m hd ls []) := by
  have key : ∀ n i, i ≤ N → N - i ≤ n → ∀ H locs ls, Inv i H locs ls → W p l e R s m args below meth c H locs cells slots Q (F0 m hd ls []) := by
    intro n
    induction n with
    | zero => intro i hi hn; exact step i hi (fun h => absurd h (by omega))
    | succ n ih => intro i hi hn; exact step i hi (fun h => ih (i + 1) (by omega) (by omega))
  exact fun i hi => key (N - i) i hi (Nat.le_refl _)
theorem pe_loopR (N hd : Nat) (Inv : Nat → Array Slot → Prop)
    (step : ∀ i, i ≤ N → (i < N → ∀ ls, Inv (i + 1) ls → W p l e R s m args below meth c H locs cells slots Q (F0 m hd ls [])) → ∀ ls, Inv i ls → W p l e R s m args below meth c H locs cells slots Q (F0 m hd ls [])) :
    ∀ i, i ≤ N → ∀ ls, Inv i ls → W p l e R s m args below meth c H locs cells slots Q (F0 m hd ls []) := by
  have key : ∀ n i, i ≤ N → N - i ≤ n → ∀ ls, Inv i ls → W p l e R s m args below meth c H locs cells slots Q (F0 m hd ls []) := by
    intro n
    induction n with
    | zero => intro i hi hn; exact step i hi (fun h => absurd h (by omega))
    | succ n ih => intro i hi hn; exact step i hi (fun h => ih (i + 1) (by omega) (by omega))
  exact fun i hi => key (N - i) i hi (Nat.le_refl _)
/-- a loop whose index is a number in a local: the index goes up by one -/
theorem pe_inc (hx : p.tables.exec = Jvm.exec) (hb : c.code = cc) {i nL k a : Nat} {lv lv' : List (Nat × Value)} (hdg : decode cc pc = .ok (.iinc i 1, 3)) (h : lv_has ls nL lv) (hk : lv[k]? = some (i, .int (nI a))) (hn : i < nL) (hl : (i, Value.int (nI (a + 1))) :: lv.filter (fun q => !(q.1 == i) && !(q.1 + 1 == i && q.2.category == 2)) = lv')
    (kk : ∀ ls, lv_has ls nL lv' → W p l e R s m args below meth c H locs cells slots Q (F0 m (pc + 3) ls rest)) : W p l e R s m args below meth c H locs cells slots Q (F0 m pc ls rest) :=
  lv_iinc hx hb hdg h hk (nI_1 a) hn hl kk
-- reads: the index is a number below the length
section RD
variable {D : va_G} {cl : List vw_C} {tys : List (ClassId × FieldType)} {ws : va_W} {a : Nat} {cA : ClassId} {n : Nat} {f : Nat → Int32}
theorem pe_sald (hx : p.tables.exec = Jvm.exec) (hb : c.code = cc) (hK : va_K D cl tys s) (hP : va_P D cl ws H) (q0 t0 : Nat) (ha : ws[q0]? = some (a, .inl (cA, n, .inl f))) (ht : tys[t0]? = some (cA, .short)) (hdg : decode cc pc = .ok (.saload, 1)) {i : Nat} (k : Nat) (he : i = k) (hk : k < n) (hn : n < 2 ^ 31) {v : Int32} (hv : f k = v)
    (kk : W p l e R s m args below meth c H locs cells slots Q (F0 m (pc + 1) ls (.int v :: rest))) : W p l e R s m args below meth c H locs cells slots Q (F0 m pc ls (.int (nI i) :: .ref a :: rest)) := by
  subst he
  refine va_sald hx hb hK hP q0 t0 ha ht (vp_in_nI hk hn) hdg ?_
  rw [nI_clamp (by omega), hv]
  exact kk
theorem pe_bald (hx : p.tables.exec = Jvm.exec) (hb : c.code = cc) (hK : va_K D cl tys s) (hP : va_P D cl ws H) (q0 t0 : Nat) (ha : ws[q0]? = some (a, .inl (cA, n, .inl f))) (ht : tys[t0]? = some (cA, .byte)) (hdg : decode cc pc = .ok (.baload, 1)) {i : Nat} (k : Nat) (he : i = k) (hk : k < n) (hn : n < 2 ^ 31) {v : Int32} (hv : f k = v)
    (kk : W p l e R s m args below meth c H locs cells slots Q (F0 m (pc + 1) ls (.int v :: rest))) : W p l e R s m args below meth c H locs cells slots Q (F0 m pc ls (.int (nI i) :: .ref a :: rest)) := by
  subst he
  refine va_bald hx hb hK hP q0 t0 ha ht (vp_in_nI hk hn) hdg ?_
  rw [nI_clamp (by omega), hv]
  exact kk
theorem pe_zald (hx : p.tables.exec = Jvm.exec) (hb : c.code = cc) (hK : va_K D cl tys s) (hP : va_P D cl ws H) (q0 t0 : Nat) (ha : ws[q0]? = some (a, .inl (cA, n, .inl f))) (ht : tys[t0]? = some (cA, .boolean)) (hdg : decode cc pc = .ok (.baload, 1)) {i : Nat} (k : Nat) (he : i = k) (hk : k < n) (hn : n < 2 ^ 31) {v : Int32} (hv : f k = v)
    (kk : W p l e R s m args below meth c H locs cells slots Q (F0 m (pc + 1) ls (.int v :: rest))) : W p l e R s m args below meth c H locs cells slots Q (F0 m pc ls (.int (nI i) :: .ref a :: rest)) := by
  subst he
  refine va_zald hx hb hK hP q0 t0 ha ht (vp_in_nI hk hn) hdg ?_
  rw [nI_clamp (by omega), hv]
  exact kk
theorem pe_iald (hx : p.tables.exec = Jvm.exec) (hb : c.code = cc) (hK : va_K D cl tys s) (hP : va_P D cl ws H) (q0 t0 : Nat) (ha : ws[q0]? = some (a, .inl (cA, n, .inl f))) (ht : tys[t0]? = some (cA, .int)) (hdg : decode cc pc = .ok (.iaload, 1)) {i : Nat} (k : Nat) (he : i = k) (hk : k < n) (hn : n < 2 ^ 31) {v : Int32} (hv : f k = v)
    (kk : W p l e R s m args below meth c H locs cells slots Q (F0 m (pc + 1) ls (.int v :: rest))) : W p l e R s m args below meth c H locs cells slots Q (F0 m pc ls (.int (nI i) :: .ref a :: rest)) := by
  subst he
  refine va_iald hx hb hK hP q0 t0 ha ht (vp_in_nI hk hn) hdg ?_
  rw [nI_clamp (by omega), hv]
  exact kk
-- writes: f' is what the table is behind the write
variable {A : Nat → Prop} {H0 : Heap}
theorem pe_sast (hx : p.tables.exec = Jvm.exec) (hb : c.code = cc) (hK : va_K D cl tys s) (hP : va_P D cl ws H) (hD : va_D A ws) (hS : va_S A H0 H locs) (q0 t0 : Nat) (ha : ws[q0]? = some (a, .inl (cA, n, .inl f))) (ht : tys[t0]? = some (cA, .short)) (hdg : decode cc pc = .ok (.sastore, 1)) {i : Nat} (k : Nat) (he : i = k) (hk : k < n) (hn : n < 2 ^ 31) {x y : Int32} (hy : vp_nar .short x = y) {f' : Nat → Int32} (hf : upd f k y = f')
    (kk : ∀ (H1 : Heap) (locs1 : List Loc), va_P D cl (ws.set q0 (a, .inl (cA, n, .inl f'))) H1 → va_S A H0 H1 locs1 → W p l e R s m args below meth c H1 locs1 cells slots Q (F0 m (pc + 1) ls rest)) : W p l e R s m args below meth c H locs cells slots Q (F0 m pc ls (.int x :: .int (nI i) :: .ref a :: rest)) := by
  subst he; subst hy; subst hf
  refine va_sast hx hb hK hP hD hS q0 t0 ha ht (vp_in_nI hk hn) hdg (fun H1 locs1 h1 _ h3 => ?_)
  rw [nI_clamp (by omega)] at h1
  exact kk H1 locs1 h1 h3
theorem pe_bast (hx : p.tables.exec = Jvm.exec) (hb : c.code = cc) (hK : va_K D cl tys s) (hP : va_P D cl ws H) (hD : va_D A ws) (hS : va_S A H0 H locs) (q0 t0 : Nat) (ha : ws[q0]? = some (a, .inl (cA, n, .inl f))) (ht : tys[t0]? = some (cA, .byte)) (hdg : decode cc pc = .ok (.bastore, 1)) {i : Nat} (k : Nat) (he : i = k) (hk : k < n) (hn : n < 2 ^ 31) {x y : Int32} (hy : vp_nar .byte x = y) {f' : Nat → Int32} (hf : upd f k y = f')
    (kk : ∀ (H1 : Heap) (locs1 : List Loc), va_P D cl (ws.set q0 (a, .inl (cA, n, .inl f'))) H1 → va_S A H0 H1 locs1 → W p l e R s m args below meth c H1 locs1 cells slots Q (F0 m (pc + 1) ls rest)) : W p l e R s m args below meth c H locs cells slots Q (F0 m pc ls (.int x :: .int (nI i) :: .ref a :: rest)) := by
  subst he; subst hy; subst hf
  refine va_bast hx hb hK hP hD hS q0 t0 ha ht (vp_in_nI hk hn) hdg (fun H1 locs1 h1 _ h3 => ?_)
  rw [nI_clamp (by omega)] at h1
  exact kk H1 locs1 h1 h3
theorem pe_zast (hx : p.tables.exec = Jvm.exec) (hb : c.code = cc) (hK : va_K D cl tys s) (hP : va_P D cl ws H) (hD : va_D A ws) (hS : va_S A H0 H locs) (q0 t0 : Nat) (ha : ws[q0]? = some (a, .inl (cA, n, .inl f))) (ht : tys[t0]? = some (cA, .boolean)) (hdg : decode cc pc = .ok (.bastore, 1)) {i : Nat} (k : Nat) (he : i = k) (hk : k < n) (hn : n < 2 ^ 31) {x y : Int32} (hy : vp_nar .boolean x = y) {f' : Nat → Int32} (hf : upd f k y = f')
    (kk : ∀ (H1 : Heap) (locs1 : List Loc), va_P D cl (ws.set q0 (a, .inl (cA, n, .inl f'))) H1 → va_S A H0 H1 locs1 → W p l e R s m args below meth c H1 locs1 cells slots Q (F0 m (pc + 1) ls rest)) : W p l e R s m args below meth c H locs cells slots Q (F0 m pc ls (.int x :: .int (nI i) :: .ref a :: rest)) := by
  subst he; subst hy; subst hf
  refine va_zast hx hb hK hP hD hS q0 t0 ha ht (vp_in_nI hk hn) hdg (fun H1 locs1 h1 _ h3 => ?_)
  rw [nI_clamp (by omega)] at h1
  exact kk H1 locs1 h1 h3
theorem pe_iast (hx : p.tables.exec = Jvm.exec) (hb : c.code = cc) (hK : va_K D cl tys s) (hP : va_P D cl ws H) (hD : va_D A ws) (hS : va_S A H0 H locs) (q0 t0 : Nat) (ha : ws[q0]? = some (a, .inl (cA, n, .inl f))) (ht : tys[t0]? = some (cA, .int)) (hdg : decode cc pc = .ok (.iastore, 1)) {i : Nat} (k : Nat) (he : i = k) (hk : k < n) (hn : n < 2 ^ 31) {x : Int32} {f' : Nat → Int32} (hf : upd f k x = f')
    (kk : ∀ (H1 : Heap) (locs1 : List Loc), va_P D cl (ws.set q0 (a, .inl (cA, n, .inl f'))) H1 → va_S A H0 H1 locs1 → W p l e R s m args below meth c H1 locs1 cells slots Q (F0 m (pc + 1) ls rest)) : W p l e R s m args below meth c H locs cells slots Q (F0 m pc ls (.int x :: .int (nI i) :: .ref a :: rest)) := by
  subst he; subst hf
  refine va_iast hx hb hK hP hD hS q0 t0 ha ht (vp_in_nI hk hn) hdg (fun H1 locs1 h1 _ h3 => ?_)
  rw [nI_clamp (by omega)] at h1
  exact kk H1 locs1 h1 h3
end RD
end PE
/-- what a table holds matters below its length alone -/
theorem pe_cell {cA : ClassId} {n : Nat} {f g : Nat → Int32} (h : ∀ j, j < n → f j = g j) : vp_cell cA (n, .inl f) = vp_cell cA (n, .inl g) := by
  rw [vp_cell_i, vp_cell_i]
  unfold arrV
  congr 1
  congr 1
  funext j
  show Value.int (f j.val) = Value.int (g j.val)
  rw [h j.val j.isLt]
theorem pe_cong {D : va_G} {cl : List vw_C} {ws : va_W} {H : Heap} {a n : Nat} {cA : ClassId} {f : Nat → Int32} (hP : va_P D cl ws H) (q0 : Nat) (ha : ws[q0]? = some (a, .inl (cA, n, .inl f))) (g : Nat → Int32) (h : ∀ j, j < n → f j = g j) : va_P D cl (ws.set q0 (a, .inl (cA, n, .inl g))) H := by
  intro k q hk
  by_cases e : k = q0
  · subst e
    have hl : k < ws.length := (List.getElem?_eq_some_iff.mp ha).1
    rw [List.getElem?_set_self hl] at hk
    cases hk
    have h1 := hP k _ ha
    show H[a]? = some (vp_cell cA (n, .inl g))
    rw [← pe_cell h]
    exact h1
  · rw [List.getElem?_set_ne (Ne.symm e)] at hk
    exact hP k q hk
/-- a method's world at its start -/
def pB (G : va_G) (cl : List vw_C) (ws : va_W) (tys : List (ClassId × FieldType)) (U : State) : Prop := va_P G cl ws U.heap ∧ va_K G cl tys U
/-- a method that writes in A alone: its answer and the heap behind it -/
def pQ (A : Nat → Prop) (post : Option Value → Heap → Prop) : Array Value → State → Outcome → State → Prop := fun _ st oc t => ∃ v, oc = .returned v ∧ post v t.heap ∧ va_F A st t
theorem pe_start {l : Launch} {y : MethodName} {code : ByteArray} {maxL : Nat} {ret : Option FieldType} {rm : Room} {av : List Value} {B : State → Prop} {Qc : Array Value → State → Outcome → State → Prop} {mc ms : Nat} {free : Addr → Prop}
    (hy : plainName y.cls = true) (hle : (lg_sl av).length ≤ maxL)
    (body : ∀ (p : Program) (e : Env) (s : State) (m : MethodId) (below : List Frame) (meth : Method) (c : Code), p.tables.exec = Jvm.exec → c.code = code → meth.sig.returnType = ret → c.maxLocals = maxL → s.vm.findClass y.cls = some m.cls → (∀ w ∈ lw_all, w.before av.toArray s = true) → meth.locks = false → B s → ∀ ls, lv_has ls maxL (lv_args 0 av) → W p l e rm s m av.toArray below meth c s.heap [] 0 0 (MQ below Qc av.toArray s mc ms free) (F0 m 0 ls [])) :
    Met l y (ws_ y code maxL ret) rm (va_Pc av B) Qc mc ms free := by
  refine Met.ofW (cc := code) (maxL := maxL) (ret := ret) hy rfl ?_
  intro p e s m args below meth c s₁ Bd hml hv
  obtain ⟨rfl, hB⟩ := hv
  have hts := atoms_spec (ws := ws_ y code maxL ret) Bd.pre
  have hts : ∀ w ∈ lw_all, w.before _ s = true := fun w h => hts w (List.mem_cons_of_mem _ h)
  rw [lg_entry_eq]
  exact body p e s m below meth c Bd.exec Bd.bytes Bd.returns hml (findClass_of_methodNamed Bd.named) hts Bd.notSynchronized hB _ (lv_entry av hle)
section PC
variable {p : Program} {l : Launch} {e : Env} {R : Room} {s : State} {m : MethodId} {args : Array Value} {below : List Frame} {meth : Method} {c : Code} {H : Heap} {locs : List Loc} {cells slots : Nat} {Q : State → Prop}
variable {cc : ByteArray} {pc : Nat} {ls : Array Slot} {rest st : List Value}
-- ends of a method that only reads
theorem pe_iretR {v : Int32} {post : Int32 → Prop} (hx : p.tables.exec = Jvm.exec) (hb : c.code = cc) (hr : meth.sig.returnType = some .int) (hlocks : meth.locks = false) (hdg : decode cc pc = .ok (.ireturn, 1)) (hp : post v) : W p l e R s m args below meth c s.heap [] 0 0 (MQ below (vp_Si post) args s 0 0 (fun _ => False)) (F0 m pc ls [.int v]) :=
  W.iret hx hb hr (fun t ht _ => ⟨v, rfl, hp, ht⟩) (fun _ h => by cases h) hdg hlocks
theorem pe_zretR {b : Bool} {post : Int32 → Prop} (hx : p.tables.exec = Jvm.exec) (hb : c.code = cc) (hr : meth.sig.returnType = some .boolean) (hlocks : meth.locks = false) (hdg : decode cc pc = .ok (.ireturn, 1)) (hp : post (nI b.toNat)) : W p l e R s m args below meth c s.heap [] 0 0 (MQ below (vp_Si post) args s 0 0 (fun _ => False)) (F0 m pc ls [.int (nI b.toNat)]) :=
  W.zret hx hb hr (pe_nzr b) (fun t ht _ => ⟨_, rfl, hp, ht⟩) (fun _ h => by cases h) hdg hlocks
theorem pe_lretR {v : Int64} {post : Int64 → Prop} (hx : p.tables.exec = Jvm.exec) (hb : c.code = cc) (hr : meth.sig.returnType = some .long) (hlocks : meth.locks = false) (hdg : decode cc pc = .ok (.lreturn, 1)) (hp : post v) : W p l e R s m args below meth c s.heap [] 0 0 (MQ below (vp_Sl post) args s 0 0 (fun _ => False)) (F0 m pc ls [.long v]) :=
  W.lret hx hb hr (fun t ht _ => ⟨v, rfl, hp, ht⟩) (fun _ h => by cases h) hdg hlocks
-- ends of a method that writes
theorem pe_iret {v : Int32} {A : Nat → Prop} {post : Option Value → Heap → Prop} (hx : p.tables.exec = Jvm.exec) (hb : c.code = cc) (hr : meth.sig.returnType = some .int) (hlocks : meth.locks = false) (hS : va_S A s.heap H locs) (hdg : decode cc pc = .ok (.ireturn, 1)) (hp : post (some (.int v)) H) : W p l e R s m args below meth c H locs cells slots (MQ below (pQ A post) args s cells slots A) (F0 m pc ls [.int v]) :=
  W.iret hx hb hr (fun t ht _ => ⟨_, rfl, by rw [ht]; exact hp, hS.F ht⟩) hS.2.2 hdg hlocks
theorem pe_zret {b : Bool} {A : Nat → Prop} {post : Option Value → Heap → Prop} (hx : p.tables.exec = Jvm.exec) (hb : c.code = cc) (hr : meth.sig.returnType = some .boolean) (hlocks : meth.locks = false) (hS : va_S A s.heap H locs) (hdg : decode cc pc = .ok (.ireturn, 1)) (hp : post (some (.int (nI b.toNat))) H) : W p l e R s m args below meth c H locs cells slots (MQ below (pQ A post) args s cells slots A) (F0 m pc ls [.int (nI b.toNat)]) :=
  W.zret hx hb hr (pe_nzr b) (fun t ht _ => ⟨_, rfl, by rw [ht]; exact hp, hS.F ht⟩) hS.2.2 hdg hlocks
theorem pe_vret {A : Nat → Prop} {post : Option Value → Heap → Prop} (hx : p.tables.exec = Jvm.exec) (hb : c.code = cc) (hr : meth.sig.returnType = none) (hlocks : meth.locks = false) (hS : va_S A s.heap H locs) (hdg : decode cc pc = .ok (.return_, 1)) (hp : post none H) : W p l e R s m args below meth c H locs cells slots (MQ below (pQ A post) args s cells slots A) (F0 m pc ls []) :=
  W.vret hx hb hr (fun t ht _ => ⟨_, rfl, by rw [ht]; exact hp, hS.F ht⟩) hS.2.2 hdg hlocks
-- calls
variable {nL n idx maxL : Nat} {own : String} {y : MethodName} {bytes : ByteArray} {ret : Option FieldType} {rm : Room} {As : List Value}
/-- a static method that only reads -/
theorem pe_cS {post : Int32 → Prop} (S : CallFix p m c cc nL s args lw_all own) (hM : Met l y (ws_ y bytes maxL ret) rm (va_Pc As (fun _ => True)) (vp_Si post) 0 0 (fun _ => False))
    (h1 : Cond.methodLink own idx y ∈ lw_all) (h2 : Cond.static y ∈ lw_all) (h3 : Cond.initialized y.cls ∈ lw_all) (h4 : Cond.code y bytes maxL ret ∈ lw_all) (hd : y.cls ≠ "java/lang/invoke/MethodHandle" ∧ y.cls ≠ "java/lang/invoke/VarHandle" ∧ (parseMethodDescriptor y.desc).map (fun d => d.parameters.length) = some n) (hn : As.length = n) (hrm : rm.cells = 0 ∧ rm.slots = 0) (hR : rm.frames + 1 ≤ R.frames ∧ 8 + (maxL + 11) + rm.locals ≤ R.locals) (hf : cells + 0 ≤ R.cells ∧ slots + 0 ≤ R.slots)
    (hsize : ls.size = nL) (hst : st = As.reverse ++ rest) (hW : (rest.map fun v => v.category).sum ≤ 8) (hdg : decode cc pc = .ok (.invokestatic idx, 3))
    (kk : ∀ r : Int32, post r → W p l e R s m args below meth c H locs cells slots Q (F0 m (pc + 3) ls (.int r :: rest))) : W p l e R s m args below meth c H locs cells slots Q (F0 m pc ls st) :=
  vp_callSi (va_Run.run (va_runS (As := As) (rest := rest) S hM (va_cwS n S.2.2.2.2 (lw_S h1 h2 h3 h4) rfl hrm.1 hrm.2 hd hR) ⟨fun _ _ _ _ q => ⟨q.1, trivial⟩, fun _ _ _ => ⟨rfl, trivial⟩⟩ rfl hn hsize hst (lv_room hW) hdg hf)) kk
variable {G : va_G} {cl : List vw_C} {ws : va_W} {tys : List (ClassId × FieldType)} {b ci : Nat} {q : vw_C} {fs : List Value}
theorem pB.blind {av : List Value} (a : Array Value) (U : State) (g : JFrame) (mk : MethodId) (h : va_Pc av (pB G cl ws tys) a U) : va_Pc av (pB G cl ws tys) a (U.calling g mk a) := ⟨h.1, h.2.1, va_K.moved (u := U) (U := U.calling g mk a) (Vm.Alike.refl U.vm) h.2.2⟩
theorem pe_preV {C : String} (hK : va_K G cl tys s) (hP : va_P G cl ws H) (hc : cl[ci]? = some q) (he : ws[0]? = some (b, .inr (ci, fs))) (hC : q.1 = C) : PreV s H C b (va_Pc (.ref b :: As) (pB G cl ws tys)) As :=
  ⟨fun a U g mk h => pB.blind a U g mk h, by rw [← hC]; exact va_recv hK hP hc he, fun U hU hW => ⟨rfl, by rw [hU]; exact hP, va_K.moved hW.alike hK⟩⟩
/-- an object's method that only reads its world -/
theorem pe_cV {post : Int32 → Prop} (S : CallFix p m c cc nL s args lw_all own) (hK : va_K G cl tys s) (hP : va_P G cl ws H) (hM : Met l y (ws_ y bytes maxL ret) rm (va_Pc (.ref b :: As) (pB G cl ws tys)) (vp_Si post) 0 0 (fun _ => False))
    (hc : cl[ci]? = some q) (he : ws[0]? = some (b, .inr (ci, fs))) (hC : q.1 = y.cls)
    (h1 : Cond.methodLink own idx y ∈ lw_all) (h2 : Cond.instanceMethod y ∈ lw_all) (h3 : Cond.selects y.cls y y ∈ lw_all) (h4 : Cond.initialized y.cls ∈ lw_all) (h5 : Cond.code y bytes maxL ret ∈ lw_all) (hd : y.cls = y.cls ∧ y.cls ≠ "java/lang/invoke/MethodHandle" ∧ y.cls ≠ "java/lang/invoke/VarHandle" ∧ (parseMethodDescriptor y.desc).map (fun d => d.parameters.length) = some n) (hn : As.length = n) (hrm : rm.cells = 0 ∧ rm.slots = 0) (hR : rm.frames + 1 ≤ R.frames ∧ 8 + (maxL + 11) + rm.locals ≤ R.locals) (hf : cells + 0 ≤ R.cells ∧ slots + 0 ≤ R.slots)
    (hsize : ls.size = nL) (hst : st = As.reverse ++ .ref b :: rest) (hW : (rest.map fun v => v.category).sum ≤ 8) (hdg : decode cc pc = .ok (.invokevirtual idx, 3))
    (kk : ∀ r : Int32, post r → W p l e R s m args below meth c H locs cells slots Q (F0 m (pc + 3) ls (.int r :: rest))) : W p l e R s m args below meth c H locs cells slots Q (F0 m pc ls st) :=
  vp_callSi (va_Run.run (va_runV (As := As) (rest := rest) S hM (cwV n S.2.2.2.2 (lw_V h1 h2 h3 h4 h5) rfl hrm.1 hrm.2 hd hR) (pe_preV hK hP hc he hC) rfl hn hsize hst (lv_room hW) hdg hf)) kk
theorem pe_cVl {post : Int64 → Prop} (S : CallFix p m c cc nL s args lw_all own) (hK : va_K G cl tys s) (hP : va_P G cl ws H) (hM : Met l y (ws_ y bytes maxL ret) rm (va_Pc (.ref b :: As) (pB G cl ws tys)) (vp_Sl post) 0 0 (fun _ => False))
    (hc : cl[ci]? = some q) (he : ws[0]? = some (b, .inr (ci, fs))) (hC : q.1 = y.cls)
    (h1 : Cond.methodLink own idx y ∈ lw_all) (h2 : Cond.instanceMethod y ∈ lw_all) (h3 : Cond.selects y.cls y y ∈ lw_all) (h4 : Cond.initialized y.cls ∈ lw_all) (h5 : Cond.code y bytes maxL ret ∈ lw_all) (hd : y.cls = y.cls ∧ y.cls ≠ "java/lang/invoke/MethodHandle" ∧ y.cls ≠ "java/lang/invoke/VarHandle" ∧ (parseMethodDescriptor y.desc).map (fun d => d.parameters.length) = some n) (hn : As.length = n) (hrm : rm.cells = 0 ∧ rm.slots = 0) (hR : rm.frames + 1 ≤ R.frames ∧ 8 + (maxL + 11) + rm.locals ≤ R.locals) (hf : cells + 0 ≤ R.cells ∧ slots + 0 ≤ R.slots)
    (hsize : ls.size = nL) (hst : st = As.reverse ++ .ref b :: rest) (hW : (rest.map fun v => v.category).sum ≤ 8) (hdg : decode cc pc = .ok (.invokevirtual idx, 3))
    (kk : ∀ r : Int64, post r → W p l e R s m args below meth c H locs cells slots Q (F0 m (pc + 3) ls (.long r :: rest))) : W p l e R s m args below meth c H locs cells slots Q (F0 m pc ls st) :=
  vp_callSl (va_Run.run (va_runV (As := As) (rest := rest) S hM (cwV n S.2.2.2.2 (lw_V h1 h2 h3 h4 h5) rfl hrm.1 hrm.2 hd hR) (pe_preV hK hP hc he hC) rfl hn hsize hst (lv_room hW) hdg hf)) kk
/-- behind a call that writes in A -/
theorem pe_call {A A0 : Nat → Prop} {H0 : Heap} {post : Option Value → Heap → Prop} {a : Array Value} (hr : va_Run p l e R s m args below meth c H locs cells slots 0 0 (F0 m pc ls st) rest (pQ A post a) A) (hS : va_S A0 H0 H locs) (hA : ∀ q, A q → A0 q)
    (kk : ∀ (v : Option Value) (H1 : Heap) (locs1 : List Loc), post v H1 → (∀ q : Nat, q < H.size → ¬ A q → H1[q]? = H[q]?) → va_S A0 H0 H1 locs1 → W p l e R s m args below meth c H1 locs1 cells slots Q (F0 m (pc + 3) ls (v.toList ++ rest))) : W p l e R s m args below meth c H locs cells slots Q (F0 m pc ls st) := by
  intro T hT X
  obtain ⟨v, st₀, t, T', L, h0, X', hL, e1, e2, ⟨v', hv, hp, hz, hk⟩, stp⟩ := hr T hT X
  cases hv
  rw [h0] at hz hk
  obtain ⟨t2, a1, b1⟩ := kk v T'.heap (locs ++ L) (by rw [e1]; exact hp) (fun q h1 h2 => by rw [e1]; exact hk q h1 h2)
    ⟨Nat.le_trans hS.1 (by rw [e1]; exact hz), fun q h1 h2 => by rw [e1, hk q (Nat.lt_of_lt_of_le h1 hS.1) (fun z => h2 (hA q z))]; exact hS.2.1 q h1 h2, fun q hq => by
      rcases List.mem_append.mp hq with h | h
      · exact hS.2.2 q h
      · exact hA _ (hL q h)⟩ T' rfl X'
  exact ⟨t2, stp t2 a1, b1⟩
/-- an object's method that writes in A -/
theorem pe_cW {A A0 : Nat → Prop} {H0 : Heap} {post : Option Value → Heap → Prop} (S : CallFix p m c cc nL s args lw_all own) (hK : va_K G cl tys s) (hP : va_P G cl ws H) (hM : Met l y (ws_ y bytes maxL ret) rm (va_Pc (.ref b :: As) (pB G cl ws tys)) (pQ A post) 0 0 A)
    (hc : cl[ci]? = some q) (he : ws[0]? = some (b, .inr (ci, fs))) (hC : q.1 = y.cls)
    (h1 : Cond.methodLink own idx y ∈ lw_all) (h2 : Cond.instanceMethod y ∈ lw_all) (h3 : Cond.selects y.cls y y ∈ lw_all) (h4 : Cond.initialized y.cls ∈ lw_all) (h5 : Cond.code y bytes maxL ret ∈ lw_all) (hd : y.cls = y.cls ∧ y.cls ≠ "java/lang/invoke/MethodHandle" ∧ y.cls ≠ "java/lang/invoke/VarHandle" ∧ (parseMethodDescriptor y.desc).map (fun d => d.parameters.length) = some n) (hn : As.length = n) (hrm : rm.cells = 0 ∧ rm.slots = 0) (hR : rm.frames + 1 ≤ R.frames ∧ 8 + (maxL + 11) + rm.locals ≤ R.locals) (hf : cells + 0 ≤ R.cells ∧ slots + 0 ≤ R.slots)
    (hsize : ls.size = nL) (hst : st = As.reverse ++ .ref b :: rest) (hW : (rest.map fun v => v.category).sum ≤ 8) (hdg : decode cc pc = .ok (.invokevirtual idx, 3)) (hS : va_S A0 H0 H locs) (hA : ∀ q, A q → A0 q)
    (kk : ∀ (v : Option Value) (H1 : Heap) (locs1 : List Loc), post v H1 → (∀ q : Nat, q < H.size → ¬ A q → H1[q]? = H[q]?) → va_S A0 H0 H1 locs1 → W p l e R s m args below meth c H1 locs1 cells slots Q (F0 m (pc + 3) ls (v.toList ++ rest))) : W p l e R s m args below meth c H locs cells slots Q (F0 m pc ls st) :=
  pe_call (va_runV (As := As) (rest := rest) S hM (cwV n S.2.2.2.2 (lw_V h1 h2 h3 h4 h5) rfl hrm.1 hrm.2 hd hR) (pe_preV hK hP hc he hC) rfl hn hsize hst (lv_room hW) hdg hf) hS hA kk
end PC
end
section
/-! WORLDS of the two objects, and the pure functions that the methods compute -/
set_option maxRecDepth 100000
abbrev vwCl : List vw_C := [(RX0, TX0, 7), (RX1, TX1, 5)]
/-- the class's object and its six arrays -/
abbrev xW (ad : Nat → Nat) (cS cB : ClassId) (nx lx gg ww : Nat → Nat) (tt : Nat → Int32) (lr : Int32) (ff : Nat → Nat) : va_W := [(ad 0, .inr (0, [.ref (ad 1), .ref (ad 2), .ref (ad 3), .ref (ad 4), .ref (ad 5), .int lr, .ref (ad 6)])), (ad 1, .inl (cS, 24, .inl (fun j => nI (nx j)))), (ad 2, .inl (cS, 24, .inl (fun j => nI (lx j)))), (ad 3, .inl (cB, 8, .inl (fun j => nI (gg j)))), (ad 4, .inl (cB, 8, .inl (fun j => nI (ww j)))), (ad 5, .inl (cB, 64, .inl tt)), (ad 6, .inl (cS, 8, .inl (fun j => nI (ff j))))]
abbrev xT (cS cB : ClassId) : List (ClassId × FieldType) := [(cS, .short), (cB, .byte)]
/-- the reference's object and its five arrays -/
abbrev yW (ad : Nat → Nat) (cI cZ : ClassId) (nx fr : Nat → Nat) (td kp : Nat → Int32) (af : Nat → Bool) : va_W := [(ad 0, .inr (1, [.ref (ad 1), .ref (ad 2), .ref (ad 3), .ref (ad 4), .ref (ad 5)])), (ad 1, .inl (cI, 24, .inl (fun j => nI (nx j)))), (ad 2, .inl (cI, 24, .inl (fun j => nI (fr j)))), (ad 3, .inl (cI, 64, .inl td)), (ad 4, .inl (cI, 64, .inl kp)), (ad 5, .inl (cZ, 64, .inl (fun j => nI (af j).toNat)))]
abbrev yT (cI cZ : ClassId) : List (ClassId × FieldType) := [(cI, .int), (cZ, .boolean)]
def xD (A : Nat → Prop) (ad : Nat → Nat) : Prop := (∀ i j, i < 7 → j < 7 → ad i = ad j → i = j) ∧ ∀ i, i < 7 → A (ad i)
def yD (A : Nat → Prop) (ad : Nat → Nat) : Prop := (∀ i j, i < 6 → j < 6 → ad i = ad j → i = j) ∧ ∀ i, i < 6 → A (ad i)
theorem xW_at {ad : Nat → Nat} {cS cB : ClassId} {nx lx gg ww : Nat → Nat} {tt : Nat → Int32} {lr : Int32} {ff : Nat → Nat} (i : Nat) (p : Nat × va_E) (h : (xW ad cS cB nx lx gg ww tt lr ff)[i]? = some p) : i < 7 ∧ p.1 = ad i := by
  match i, h with
  | 0, h => cases h; exact ⟨by omega, rfl⟩
  | 1, h => cases h; exact ⟨by omega, rfl⟩
  | 2, h => cases h; exact ⟨by omega, rfl⟩
  | 3, h => cases h; exact ⟨by omega, rfl⟩
  | 4, h => cases h; exact ⟨by omega, rfl⟩
  | 5, h => cases h; exact ⟨by omega, rfl⟩
  | 6, h => cases h; exact ⟨by omega, rfl⟩
  | k + 7, h => simp at h
theorem yW_at {ad : Nat → Nat} {cI cZ : ClassId} {nx fr : Nat → Nat} {td kp : Nat → Int32} {af : Nat → Bool} (i : Nat) (p : Nat × va_E) (h : (yW ad cI cZ nx fr td kp af)[i]? = some p) : i < 6 ∧ p.1 = ad i := by
  match i, h with
  | 0, h => cases h; exact ⟨by omega, rfl⟩
  | 1, h => cases h; exact ⟨by omega, rfl⟩
  | 2, h => cases h; exact ⟨by omega, rfl⟩
  | 3, h => cases h; exact ⟨by omega, rfl⟩
  | 4, h => cases h; exact ⟨by omega, rfl⟩
  | 5, h => cases h; exact ⟨by omega, rfl⟩
  | k + 6, h => simp at h
theorem xD.D {A : Nat → Prop} {ad : Nat → Nat} (h : xD A ad) (cS cB : ClassId) (nx lx gg ww : Nat → Nat) (tt : Nat → Int32) (lr : Int32) (ff : Nat → Nat) : va_D A (xW ad cS cB nx lx gg ww tt lr ff) := by
  refine ⟨fun i j p q hp hq e => ?_, fun k q hq => ?_⟩
  · obtain ⟨h1, h2⟩ := xW_at i p hp
    obtain ⟨h3, h4⟩ := xW_at j q hq
    exact h.1 i j h1 h3 (by rw [← h2, ← h4]; exact e)
  · obtain ⟨h1, h2⟩ := xW_at k q hq
    rw [h2]; exact h.2 k h1
theorem yD.D {A : Nat → Prop} {ad : Nat → Nat} (h : yD A ad) (cI cZ : ClassId) (nx fr : Nat → Nat) (td kp : Nat → Int32) (af : Nat → Bool) : va_D A (yW ad cI cZ nx fr td kp af) := by
  refine ⟨fun i j p q hp hq e => ?_, fun k q hq => ?_⟩
  · obtain ⟨h1, h2⟩ := yW_at i p hp
    obtain ⟨h3, h4⟩ := yW_at j q hq
    exact h.1 i j h1 h3 (by rw [← h2, ← h4]; exact e)
  · obtain ⟨h1, h2⟩ := yW_at k q hq
    rw [h2]; exact h.2 k h1
-- folds
def orF (x0 : Nat) (f : Nat → Nat) : Nat → Nat
  | 0 => x0
  | n + 1 => orF x0 f n ||| f n
def smF (f : Nat → Nat) : Nat → Nat
  | 0 => 0
  | n + 1 => smF f n + f n
def anF (f : Nat → Bool) : Nat → Bool
  | 0 => false
  | n + 1 => anF f n || f n
def alF (f : Nat → Bool) : Nat → Bool
  | 0 => true
  | n + 1 => alF f n && f n
/-- the first index from i on, at most n further, with P -/
def fsF (P : Nat → Bool) : Nat → Nat → Nat
  | 0, i => i
  | n + 1, i => if P i then i else fsF P n (i + 1)
theorem orF_tb (x0 : Nat) (f : Nat → Nat) (n k : Nat) : (orF x0 f n).testBit k = true ↔ x0.testBit k = true ∨ ∃ b, b < n ∧ (f b).testBit k = true := by
  induction n with
  | zero => simp [orF]
  | succ n ih =>
    rw [orF, Nat.testBit_or, Bool.or_eq_true, ih]
    constructor
    · rintro ((h | ⟨b, h1, h2⟩) | h)
      · exact Or.inl h
      · exact Or.inr ⟨b, by omega, h2⟩
      · exact Or.inr ⟨n, by omega, h⟩
    · rintro (h | ⟨b, h1, h2⟩)
      · exact Or.inl (Or.inl h)
      · by_cases e : b = n
        · subst e; exact Or.inr h2
        · exact Or.inl (Or.inr ⟨b, by omega, h2⟩)
theorem orF_lt {x0 : Nat} {f : Nat → Nat} {n : Nat} (h0 : x0 < 256) (h : ∀ b, b < n → f b < 256) : orF x0 f n < 256 := by
  induction n with
  | zero => exact h0
  | succ n ih => exact Nat.or_lt_two_pow (n := 8) (ih (fun b hb => h b (by omega))) (h n (by omega))
theorem orF_congr {x0 : Nat} {f g : Nat → Nat} {n : Nat} (h : ∀ b, b < n → f b = g b) : orF x0 f n = orF x0 g n := by
  induction n with
  | zero => rfl
  | succ n ih => rw [orF, orF, ih (fun b hb => h b (by omega)), h n (by omega)]
theorem smF_congr {f g : Nat → Nat} {n : Nat} (h : ∀ b, b < n → f b = g b) : smF f n = smF g n := by
  induction n with
  | zero => rfl
  | succ n ih => rw [smF, smF, ih (fun b hb => h b (by omega)), h n (by omega)]
theorem smF_le {f : Nat → Nat} {n c : Nat} (h : ∀ b, b < n → f b ≤ c) : smF f n ≤ n * c := by
  induction n with
  | zero => simp [smF]
  | succ n ih =>
    rw [smF, Nat.succ_mul]
    exact Nat.add_le_add (ih (fun b hb => h b (by omega))) (h n (by omega))
theorem anF_iff (f : Nat → Bool) (n : Nat) : anF f n = true ↔ ∃ b, b < n ∧ f b = true := by
  induction n with
  | zero => simp [anF]
  | succ n ih =>
    rw [anF, Bool.or_eq_true, ih]
    constructor
    · rintro (⟨b, h1, h2⟩ | h)
      · exact ⟨b, by omega, h2⟩
      · exact ⟨n, by omega, h⟩
    · rintro ⟨b, h1, h2⟩
      by_cases e : b = n
      · subst e; exact Or.inr h2
      · exact Or.inl ⟨b, by omega, h2⟩
theorem alF_iff (f : Nat → Bool) (n : Nat) : alF f n = true ↔ ∀ b, b < n → f b = true := by
  induction n with
  | zero => simp [alF]
  | succ n ih =>
    rw [alF, Bool.and_eq_true, ih]
    constructor
    · rintro ⟨h1, h2⟩ b hb
      by_cases e : b = n
      · subst e; exact h2
      · exact h1 b (by omega)
    · exact fun h => ⟨fun b hb => h b (by omega), h n (by omega)⟩
theorem anF_congr {f g : Nat → Bool} {n : Nat} (h : ∀ b, b < n → f b = g b) : anF f n = anF g n := by
  induction n with
  | zero => rfl
  | succ n ih => rw [anF, anF, ih (fun b hb => h b (by omega)), h n (by omega)]
theorem alF_congr {f g : Nat → Bool} {n : Nat} (h : ∀ b, b < n → f b = g b) : alF f n = alF g n := by
  induction n with
  | zero => rfl
  | succ n ih => rw [alF, alF, ih (fun b hb => h b (by omega)), h n (by omega)]
theorem fsF_spec (P : Nat → Bool) : ∀ n i, i ≤ fsF P n i ∧ fsF P n i ≤ i + n ∧ (∀ j, i ≤ j → j < fsF P n i → P j = false) ∧ (fsF P n i < i + n → P (fsF P n i) = true) := by
  intro n
  induction n with
  | zero => intro i; simp only [fsF]; exact ⟨by omega, by omega, fun j h1 h2 => absurd h2 (by omega), fun h => absurd h (by omega)⟩
  | succ n ih =>
    intro i
    simp only [fsF]
    by_cases h : P i = true
    · rw [if_pos h]; exact ⟨by omega, by omega, fun j h1 h2 => absurd h2 (by omega), fun _ => h⟩
    · rw [if_neg h]
      obtain ⟨a, b, c, d⟩ := ih (i + 1)
      refine ⟨by omega, by omega, fun j h1 h2 => ?_, fun h2 => d (by omega)⟩
      by_cases e : j = i
      · subst e; exact Bool.eq_false_iff.mpr h
      · exact c j (by omega) h2
-- answers of the small methods
def zSt (x : Int32) : Bool := decide (0 ≤ x) && decide (x < 8)
def zStep (a b l : Int32) : Bool := zSt a && zSt b && (decide (0 ≤ l) && decide (l < 3))
theorem z_nI {x : Int32} {n : Nat} (hn : n < 2 ^ 31) (h0 : 0 ≤ x) (h : x < nI n) : ∃ j, j < n ∧ x = nI j := by
  rcases pk_ix x hn with h1 | h1 | h1
  · exact absurd h0 (by rw [Int32.le_iff_toInt_le]; rw [Int32.lt_iff_toInt_lt] at h1; omega)
  · exact absurd h (by rw [Int32.lt_iff_toInt_lt]; rw [Int32.le_iff_toInt_le] at h1; omega)
  · exact h1
theorem zSt_of {x : Int32} (h : zSt x = true) : ∃ j, j < 8 ∧ x = nI j := by
  unfold zSt at h
  rw [Bool.and_eq_true, decide_eq_true_eq, decide_eq_true_eq] at h
  exact z_nI (by omega) h.1 h.2
theorem zSt_nI : ∀ j, j < 8 → zSt (nI j) = true := by decide +kernel
theorem zL_nI : ∀ j, j < 3 → (decide (0 ≤ nI j) && decide (nI j < 3)) = true := by decide +kernel
theorem zStep_of {a b l : Int32} (h : zStep a b l = true) : ∃ i j k, i < 8 ∧ j < 8 ∧ k < 3 ∧ a = nI i ∧ b = nI j ∧ l = nI k := by
  unfold zStep at h
  rw [Bool.and_eq_true, Bool.and_eq_true, Bool.and_eq_true, decide_eq_true_eq, decide_eq_true_eq] at h
  obtain ⟨⟨h1, h2⟩, h3, h4⟩ := h
  obtain ⟨i, a1, a2⟩ := zSt_of h1
  obtain ⟨j, b1, b2⟩ := zSt_of h2
  obtain ⟨k, c1, c2⟩ := z_nI (n := 3) (by omega) h3 h4
  exact ⟨i, j, k, a1, b1, c1, a2, b2, c2⟩
theorem zStep_nI {i j k : Nat} (hi : i < 8) (hj : j < 8) (hk : k < 3) : zStep (nI i) (nI j) (nI k) = true := by
  unfold zStep
  rw [zSt_nI i hi, zSt_nI j hj, zL_nI k hk]; rfl
abbrev tn (x : Int32) : Nat := x.toNatClampNeg
/-- join and cut, on the table of steps -/
def zJoin (nx : Nat → Nat) (a b l : Int32) : Nat → Nat := if zStep a b l then va_up nx (8 * tn l + tn a) (nx (8 * tn l + tn a) ||| 2 ^ tn b) else nx
def zHas (nx : Nat → Nat) (a b l : Int32) : Bool := zStep a b l && (nx (8 * tn l + tn a)).testBit (tn b)
def zCut (nx : Nat → Nat) (a b l : Int32) : Nat → Nat := if zHas nx a b l then va_up nx (8 * tn l + tn a) (nx (8 * tn l + tn a) ^^^ 2 ^ tn b) else nx
-- silent steps, in place (the class) and at once (the reference)
def zIn (nx : Nat → Nat) (x : Nat) : Nat → Nat
  | 0 => x
  | b + 1 => zIn nx x b ||| (if (zIn nx x b).testBit b then nx b else 0)
def zS (nx : Nat → Nat) (a : Nat) : Nat → Nat
  | 0 => 2 ^ a
  | r + 1 => zIn nx (zS nx a r) 8
def zOn (nx : Nat → Nat) (x l : Nat) : Nat := orF x (fun a => if x.testBit a then nx (8 * l + a) else 0) 8
def zQ (nx : Nat → Nat) (a : Nat) : Nat → Nat
  | 0 => 2 ^ a
  | r + 1 => zOn nx (zQ nx a r) 0
def zMid (lx nx : Nat → Nat) (a l : Nat) : Nat := orF 0 (fun b => if (lx a).testBit b then nx (8 * l + b) else 0) 8
def zLong (lx nx : Nat → Nat) (a l : Nat) : Nat := orF 0 (fun c => if (zMid lx nx a l).testBit c then lx c else 0) 8
-- groups
def zGa (tg g : Nat → Nat) (a l : Nat) : Nat := orF 0 (fun b => if (tg (8 * l + a)).testBit b then 2 ^ g b else 0) 8
def zSt3 (tg g : Nat → Nat) (a b : Nat) : Bool := alF (fun l => decide (zGa tg g a l = zGa tg g b l)) 3
def zPf (tg g w : Nat → Nat) (a : Nat) : Nat := fsF (fun b => decide (g b = g a) && decide (w b = b) && zSt3 tg g a b) a 0
def zNo (g w : Nat → Nat) (a : Nat) : Bool := anF (fun b => decide (g a = g b) && !decide (w a = w b)) 8
def zBf (nx : Nat → Nat) (l x : Nat) : Nat := orF 0 (fun b => if (nx (8 * l + b) &&& x) = 0 then 0 else 2 ^ b) 8
def zAlI (nx ff : Nat → Nat) (a l x : Nat) : Nat → Nat
  | 0 => x
  | c + 1 => if (nx (8 * l + a)).testBit c then zAlI nx ff a l x c &&& zBf nx l (ff c) else zAlI nx ff a l x c
def zAl (nx ff : Nat → Nat) (a : Nat) : Nat → Nat
  | 0 => 255
  | l + 1 => zAlI nx ff a l (zAl nx ff a l) 8
def zWr (g : Nat → Nat) : Nat → Nat
  | 0 => 0
  | n + 1 => zWr g n * 8 + g n
-- the reference's looks at pairs
def zApt (td : Nat → Int32) (rd : Int32) (j : Nat) : Bool := decide (0 ≤ td j) && decide (td j < rd)
def zLon (td : Nat → Int32) (rd : Int32) (c x : Nat) : Bool := alF (fun d => !x.testBit d || zApt td rd (8 * c + d)) 8
def zDf (fr : Nat → Nat) (td : Nat → Int32) (rd : Int32) (a b : Nat) : Bool := anF (fun c => (fr (8 * (c / 8) + a)).testBit (c % 8) && zLon td rd (c % 8) (fr (8 * (c / 8) + b))) 24
def zAnsF (nx : Nat → Nat) (af : Nat → Bool) (b c : Nat) : Bool := anF (fun d => (nx (8 * (c / 8) + b)).testBit d && af (8 * d + c % 8)) 8
def zAns (nx : Nat → Nat) (af : Nat → Bool) (b a : Nat) : Bool := alF (fun c => !(nx (8 * (c / 8) + a)).testBit (c % 8) || zAnsF nx af b c) 24
end
section
/-! small facts that the walks ask for -/
theorem z_st_lt {x : Int32} (h : x < 0) : zSt x = false := by
  unfold zSt; rw [decide_eq_false (by rw [Int32.le_iff_toInt_le]; rw [Int32.lt_iff_toInt_lt] at h; omega)]; rfl
theorem z_st_ge {x : Int32} (h : nI 8 ≤ x) : zSt x = false := by
  unfold zSt; rw [show decide (x < 8) = false from decide_eq_false (by rw [Int32.lt_iff_toInt_lt]; have h : (8 : Int32) ≤ x := h; rw [Int32.le_iff_toInt_le] at h; omega), Bool.and_false]
theorem z_st_in {x : Int32} (h : ¬ x < 0) (h2 : ¬ nI 8 ≤ x) : zSt x = true := by
  unfold zSt
  have h2 : ¬ (8 : Int32) ≤ x := h2
  rw [Int32.lt_iff_toInt_lt] at h
  rw [Int32.le_iff_toInt_le] at h2
  rw [decide_eq_true (by rw [Int32.le_iff_toInt_le]; omega), decide_eq_true (by rw [Int32.lt_iff_toInt_lt]; omega)]; rfl
theorem z_l_lt {x : Int32} (h : x < 0) : (decide (0 ≤ x) && decide (x < 3)) = false := by
  rw [decide_eq_false (by rw [Int32.le_iff_toInt_le]; rw [Int32.lt_iff_toInt_lt] at h; omega)]; rfl
theorem z_l_ge {x : Int32} (h : nI 3 ≤ x) : (decide (0 ≤ x) && decide (x < 3)) = false := by
  rw [show decide (x < 3) = false from decide_eq_false (by rw [Int32.lt_iff_toInt_lt]; have h : (3 : Int32) ≤ x := h; rw [Int32.le_iff_toInt_le] at h; omega), Bool.and_false]
theorem z_l_in {x : Int32} (h : ¬ x < 0) (h2 : ¬ nI 3 ≤ x) : (decide (0 ≤ x) && decide (x < 3)) = true := by
  have h2 : ¬ (3 : Int32) ≤ x := h2
  rw [Int32.lt_iff_toInt_lt] at h
  rw [Int32.le_iff_toInt_le] at h2
  rw [decide_eq_true (by rw [Int32.le_iff_toInt_le]; omega), decide_eq_true (by rw [Int32.lt_iff_toInt_lt]; omega)]; rfl
theorem z_step_l {a b l : Int32} (h : (decide (0 ≤ l) && decide (l < 3)) = false) : zStep a b l = false := by unfold zStep; rw [h, Bool.and_false]
theorem z_step_in {a b l : Int32} (h1 : zSt a = true) (h2 : zSt b = true) (h : (decide (0 ≤ l) && decide (l < 3)) = true) : zStep a b l = true := by unfold zStep; rw [h1, h2, h]; rfl
theorem z_step_a {a b l : Int32} (h : zSt a = false) : zStep a b l = false := by unfold zStep; rw [h]; rfl
theorem z_step_b {a b l : Int32} (h : zSt b = false) : zStep a b l = false := by unfold zStep; rw [h, Bool.and_false]; rfl
theorem z_p2 {b : Nat} (h : b < 8) : 2 ^ b < 256 := Nat.pow_lt_pow_of_lt (by omega) h
theorem z_xor {x b : Nat} (h : x < 256) (hb : b < 8) : x ^^^ 2 ^ b < 256 := Nat.xor_lt_two_pow (n := 8) h (z_p2 hb)
theorem z_or {x b : Nat} (h : x < 256) (hb : b < 8) : x ||| 2 ^ b < 256 := Nat.or_lt_two_pow (n := 8) h (z_p2 hb)
theorem z_and {x y : Nat} (h : x < 256) : x &&& y < 256 := Nat.lt_of_le_of_lt Nat.and_le_left h
theorem z_lt31 {x : Nat} (h : x < 256) : x < 2 ^ 31 := by omega
theorem z_lt15 {x : Nat} (h : x < 256) : x < 32768 := by omega
theorem zIn_lt {nx : Nat → Nat} {x n : Nat} (hn : n ≤ 8) (h0 : x < 256) (hnx : ∀ j, j < 24 → nx j < 256) : zIn nx x n < 256 := by
  induction n with
  | zero => exact h0
  | succ n ih =>
    refine Nat.or_lt_two_pow (n := 8) (ih (by omega)) ?_
    split
    · exact hnx n (by omega)
    · omega
theorem zS_lt {nx : Nat → Nat} {a : Nat} (n : Nat) (ha : a < 8) (hnx : ∀ j, j < 24 → nx j < 256) : zS nx a n < 256 := by
  induction n with
  | zero => exact z_p2 ha
  | succ n ih => exact zIn_lt (by omega) ih hnx
theorem zLong_lt {lx nx : Nat → Nat} {a l : Nat} (hlx : ∀ j, j < 8 → lx j < 256) : zLong lx nx a l < 256 := by
  refine orF_lt (by omega) (fun b hb => ?_)
  split
  · exact hlx b hb
  · omega
theorem zGa_lt {tg g : Nat → Nat} {a l : Nat} (hg : ∀ j, j < 8 → g j < 8) : zGa tg g a l < 256 := by
  refine orF_lt (by omega) (fun b hb => ?_)
  split
  · exact z_p2 (hg b hb)
  · omega
theorem zBf_lt {nx : Nat → Nat} {l x : Nat} : zBf nx l x < 256 := by
  refine orF_lt (by omega) (fun b hb => ?_)
  split
  · omega
  · exact z_p2 hb
theorem zAlI_lt {nx ff : Nat → Nat} {a l x n : Nat} (h : x < 256) : zAlI nx ff a l x n < 256 := by
  induction n with
  | zero => exact h
  | succ n ih =>
    simp only [zAlI]
    split
    · exact z_and ih
    · exact ih
theorem zAl_lt {nx ff : Nat → Nat} {a n : Nat} : zAl nx ff a n < 256 := by
  induction n with
  | zero => simp only [zAl]; omega
  | succ n ih => exact zAlI_lt ih
def zAft (nx : Nat → Nat) (a q : Int32) : Nat := if zStep a (nI 0) q then nx (8 * tn q + tn a) else 0
def zSt3T (tg g : Nat → Nat) (a b i : Nat) : Bool := alF (fun l => decide (zGa tg g a l = zGa tg g b l)) i
theorem zSt3_f {tg g : Nat → Nat} {a b i : Nat} (hi : i < 3) (h : ¬ zGa tg g a i = zGa tg g b i) : zSt3 tg g a b = false := by
  apply Bool.eq_false_iff.mpr
  intro q
  exact h (of_decide_eq_true ((alF_iff _ _).mp q i hi))
theorem zSt3_n {tg g : Nat → Nat} {a b i : Nat} (h : zSt3T tg g a b i = true) (h2 : zGa tg g a i = zGa tg g b i) : zSt3T tg g a b (i + 1) = true := by
  show (alF (fun l => decide (zGa tg g a l = zGa tg g b l)) i && decide (zGa tg g a i = zGa tg g b i)) = true
  rw [show alF (fun l => decide (zGa tg g a l = zGa tg g b l)) i = true from h, decide_eq_true h2]; rfl
def zPc (tg g w : Nat → Nat) (a b : Nat) : Bool := decide (g b = g a) && decide (w b = b) && zSt3 tg g a b
theorem zPf_0 (tg g w : Nat → Nat) (a : Nat) : zPf tg g w a = fsF (zPc tg g w a) (a - 0) 0 := rfl
theorem zPf_y {P : Nat → Bool} {n a b : Nat} (h : n = fsF P (a - b) b) (hb : b < a) (hp : P b = true) : nI b = nI n := by
  rw [h, show a - b = (a - b - 1) + 1 by omega, fsF, if_pos hp]
theorem zPf_n {P : Nat → Bool} {n a b : Nat} (h : n = fsF P (a - b) b) (hb : b < a) (hp : P b = false) : n = fsF P (a - (b + 1)) (b + 1) := by
  rw [h, show a - b = (a - (b + 1)) + 1 by omega, fsF, if_neg (by rw [hp]; decide)]
theorem zPf_e {P : Nat → Bool} {n a b : Nat} (h : n = fsF P (a - b) b) (hb : a ≤ b) (hb2 : b ≤ a) : nI a = nI n := by
  rw [h, show a - b = 0 by omega, fsF, show b = a by omega]
/-- what note leaves of the rounds behind a row's first i places -/
def zNt (g w : Nat → Nat) (rd : Nat) (a i : Nat) (tt : Nat → Int32) : Nat → Int32 := fun j => if j / 8 = a ∧ j % 8 < i ∧ g a = g (j % 8) ∧ ¬ w a = w (j % 8) then nI rd else tt j
theorem zNt_0 (g w : Nat → Nat) (rd a : Nat) (tt : Nat → Int32) : zNt g w rd a 0 tt = tt := by
  funext j; unfold zNt; rw [if_neg (by omega)]
theorem zNt_y {g w : Nat → Nat} {rd a i : Nat} {tt : Nat → Int32} (hi : i < 8) (h1 : g a = g i) (h2 : ¬ w a = w i) : va_up (zNt g w rd a i tt) (8 * a + i) (nI rd) = zNt g w rd a (i + 1) tt := by
  funext j
  unfold va_up zNt
  by_cases e : j = 8 * a + i
  · subst e
    have e1 : (8 * a + i) / 8 = a := by omega
    have e2 : (8 * a + i) % 8 = i := by omega
    rw [if_pos rfl, e1, e2, if_pos ⟨rfl, by omega, h1, h2⟩]
  · rw [if_neg e]
    by_cases h : j / 8 = a ∧ j % 8 < i ∧ g a = g (j % 8) ∧ ¬ w a = w (j % 8)
    · rw [if_pos h, if_pos ⟨h.1, by omega, h.2.2⟩]
    · rw [if_neg h, if_neg]
      rintro ⟨a1, a2, a3⟩
      exact h ⟨a1, by omega, a3⟩
theorem zNt_n {g w : Nat → Nat} {rd a i : Nat} {tt : Nat → Int32} (h1 : ¬ (g a = g i ∧ ¬ w a = w i)) : zNt g w rd a i tt = zNt g w rd a (i + 1) tt := by
  funext j
  unfold zNt
  by_cases h : j / 8 = a ∧ j % 8 < i ∧ g a = g (j % 8) ∧ ¬ w a = w (j % 8)
  · rw [if_pos h, if_pos ⟨h.1, by omega, h.2.2⟩]
  · rw [if_neg h, if_neg]
    rintro ⟨a1, a2, a3⟩
    by_cases e : j % 8 = i
    · rw [e] at a3; exact h1 a3
    · exact h ⟨a1, by omega, a3⟩
theorem zWr_lt {g : Nat → Nat} {n : Nat} (hg : ∀ j, j < 8 → g j < 8) (hn : n ≤ 8) : zWr g n < 8 ^ n := by
  induction n with
  | zero => simp [zWr]
  | succ n ih =>
    have h1 := ih (by omega)
    have h2 := hg n (by omega)
    rw [zWr, Nat.pow_succ]
    omega
end
section
/-! THE CLASS: methods that need no theory (printed by gen/x0.py) -/
set_option maxRecDepth 100000
theorem hd_X0_isState : yX0_isState.cls ≠ "java/lang/invoke/MethodHandle" ∧ yX0_isState.cls ≠ "java/lang/invoke/VarHandle" ∧ (parseMethodDescriptor yX0_isState.desc).map (fun d => d.parameters.length) = some 1 := by decide +kernel
set_option maxHeartbeats 4000000 in
theorem m_X0_isState (l : Launch) (x : Int32) : Met l yX0_isState (ws_ yX0_isState cX0_isState 1 (some .boolean)) ({ frames := 0, cells := 0, slots := 0, locals := 0 }) (va_Pc [.int x] (fun _ => True)) (vp_Si (fun r => r = nI (zSt x).toNat)) 0 0 (fun _ => False) := by
  refine pe_start (by decide) (Nat.le_of_ble_eq_true rfl) ?_
  intro p e s m below meth c hx hb hr hml hown hts hlocks hB ls hl
  have hown : s.vm.findClass RX0 = some m.cls := hown
  have S : CallFix p m c cX0_isState 1 s _ lw_all RX0 := ⟨hx, hb, hml, hown, hts⟩
  have hl : lv_has ls 1 [(0, .int x)] := hl
  refine lv_iload_n hx hb dX0_isState_0 rfl (lv_at hl 0 rfl) ?_
  refine lv_if_lt (tgt := 14) hx hb dX0_isState_1 (by decide) (fun c1 => ?_) (fun c1 => ?_)
  · refine lv_iconst (v := nI 0) hx hb dX0_isState_14 (by decide +kernel) ?_
    exact pe_zretR (b := false) hx hb hr hlocks dX0_isState_15 (by show nI _ = nI _; rw [z_st_lt c1])
  · refine lv_iload_n hx hb dX0_isState_4 rfl (lv_at hl 0 rfl) ?_
    refine lv_bipush (v := nI 8) hx hb dX0_isState_5 (by decide +kernel) ?_
    refine lv_icmp_ge (tgt := 14) hx hb dX0_isState_7 (by decide) (fun c7 => ?_) (fun c7 => ?_)
    · refine lv_iconst (v := nI 0) hx hb dX0_isState_14 (by decide +kernel) ?_
      exact pe_zretR (b := false) hx hb hr hlocks dX0_isState_15 (by show nI _ = nI _; rw [z_st_ge c7])
    · refine lv_iconst (v := nI 1) hx hb dX0_isState_10 (by decide +kernel) ?_
      refine lv_goto (tgt := 15) hx hb dX0_isState_11 (by decide) ?_
      exact pe_zretR (b := true) hx hb hr hlocks dX0_isState_15 (by show nI _ = nI _; rw [z_st_in c1 c7])
theorem hd_X0_isStep : yX0_isStep.cls ≠ "java/lang/invoke/MethodHandle" ∧ yX0_isStep.cls ≠ "java/lang/invoke/VarHandle" ∧ (parseMethodDescriptor yX0_isStep.desc).map (fun d => d.parameters.length) = some 3 := by decide +kernel
set_option maxHeartbeats 4000000 in
theorem m_X0_isStep (l : Launch) (x y z : Int32) : Met l yX0_isStep (ws_ yX0_isStep cX0_isStep 3 (some .boolean)) ({ frames := 1, cells := 0, slots := 0, locals := 20 }) (va_Pc [.int x, .int y, .int z] (fun _ => True)) (vp_Si (fun r => r = nI (zStep x y z).toNat)) 0 0 (fun _ => False) := by
  refine pe_start (by decide) (Nat.le_of_ble_eq_true rfl) ?_
  intro p e s m below meth c hx hb hr hml hown hts hlocks hB ls hl
  have hown : s.vm.findClass RX0 = some m.cls := hown
  have S : CallFix p m c cX0_isStep 3 s _ lw_all RX0 := ⟨hx, hb, hml, hown, hts⟩
  have hl : lv_has ls 3 [(0, .int x), (1, .int y), (2, .int z)] := hl
  refine lv_iload_n hx hb dX0_isStep_0 rfl (lv_at hl 0 rfl) ?_
  refine pe_cS (n := 1) (rest := []) S (m_X0_isState l x) q73 q74 q32 q75 hd_X0_isState rfl ⟨rfl, rfl⟩ ⟨Nat.le_of_ble_eq_true rfl, Nat.le_of_ble_eq_true rfl⟩ ⟨Nat.le_of_ble_eq_true rfl, Nat.le_of_ble_eq_true rfl⟩ hl.1 rfl (Nat.le_of_ble_eq_true rfl) dX0_isStep_1 (fun r hr_ => ?_)
  subst hr_
  refine pe_ifeqB hx hb 27 dX0_isStep_4 (by decide) (fun c4 => ?_) (fun c4 => ?_)
  · refine lv_iconst (v := nI 0) hx hb dX0_isStep_27 (by decide +kernel) ?_
    exact pe_zretR (b := false) hx hb hr hlocks dX0_isStep_28 (by show nI _ = nI _; rw [z_step_a c4])
  · refine lv_iload_n hx hb dX0_isStep_7 rfl (lv_at hl 1 rfl) ?_
    refine pe_cS (n := 1) (rest := []) S (m_X0_isState l y) q73 q74 q32 q75 hd_X0_isState rfl ⟨rfl, rfl⟩ ⟨Nat.le_of_ble_eq_true rfl, Nat.le_of_ble_eq_true rfl⟩ ⟨Nat.le_of_ble_eq_true rfl, Nat.le_of_ble_eq_true rfl⟩ hl.1 rfl (Nat.le_of_ble_eq_true rfl) dX0_isStep_8 (fun r hr_ => ?_)
    subst hr_
    refine pe_ifeqB hx hb 27 dX0_isStep_11 (by decide) (fun c11 => ?_) (fun c11 => ?_)
    · refine lv_iconst (v := nI 0) hx hb dX0_isStep_27 (by decide +kernel) ?_
      exact pe_zretR (b := false) hx hb hr hlocks dX0_isStep_28 (by show nI _ = nI _; rw [z_step_b c11])
    · refine lv_iload_n hx hb dX0_isStep_14 rfl (lv_at hl 2 rfl) ?_
      refine lv_if_lt (tgt := 27) hx hb dX0_isStep_15 (by decide) (fun c15 => ?_) (fun c15 => ?_)
      · refine lv_iconst (v := nI 0) hx hb dX0_isStep_27 (by decide +kernel) ?_
        exact pe_zretR (b := false) hx hb hr hlocks dX0_isStep_28 (by show nI _ = nI _; rw [z_step_l (z_l_lt c15)])
      · refine lv_iload_n hx hb dX0_isStep_18 rfl (lv_at hl 2 rfl) ?_
        refine lv_iconst (v := nI 3) hx hb dX0_isStep_19 (by decide +kernel) ?_
        refine lv_icmp_ge (tgt := 27) hx hb dX0_isStep_20 (by decide) (fun c20 => ?_) (fun c20 => ?_)
        · refine lv_iconst (v := nI 0) hx hb dX0_isStep_27 (by decide +kernel) ?_
          exact pe_zretR (b := false) hx hb hr hlocks dX0_isStep_28 (by show nI _ = nI _; rw [z_step_l (z_l_ge c20)])
        · refine lv_iconst (v := nI 1) hx hb dX0_isStep_23 (by decide +kernel) ?_
          refine lv_goto (tgt := 28) hx hb dX0_isStep_24 (by decide) ?_
          exact pe_zretR (b := true) hx hb hr hlocks dX0_isStep_28 (by show nI _ = nI _; rw [z_step_in c4 c11 (z_l_in c15 c20)])
theorem hd_X0_in : yX0_in.cls ≠ "java/lang/invoke/MethodHandle" ∧ yX0_in.cls ≠ "java/lang/invoke/VarHandle" ∧ (parseMethodDescriptor yX0_in.desc).map (fun d => d.parameters.length) = some 2 := by decide +kernel
set_option maxHeartbeats 4000000 in
theorem m_X0_in (l : Launch) (x b : Nat) (h1 : b < 32) : Met l yX0_in (ws_ yX0_in cX0_in 2 (some .boolean)) ({ frames := 0, cells := 0, slots := 0, locals := 0 }) (va_Pc [.int (nI x), .int (nI b)] (fun _ => True)) (vp_Si (fun r => r = nI (x.testBit b).toNat)) 0 0 (fun _ => False) := by
  refine pe_start (by decide) (Nat.le_of_ble_eq_true rfl) ?_
  intro p e s m below meth c hx hb hr hml hown hts hlocks hB ls hl
  have hown : s.vm.findClass RX0 = some m.cls := hown
  have S : CallFix p m c cX0_in 2 s _ lw_all RX0 := ⟨hx, hb, hml, hown, hts⟩
  have hl : lv_has ls 2 [(0, .int (nI x)), (1, .int (nI b))] := hl
  refine lv_iload_n hx hb dX0_in_0 rfl (lv_at hl 0 rfl) ?_
  refine lv_iload_n hx hb dX0_in_1 rfl (lv_at hl 1 rfl) ?_
  refine lv_ishr hx hb dX0_in_2 ?_
  refine lv_iconst (v := nI 1) hx hb dX0_in_3 (by decide +kernel) ?_
  refine pe_iandbit hx hb (by omega) dX0_in_4 ?_
  refine pe_ifeqB hx hb 12 dX0_in_5 (by decide) (fun c5 => ?_) (fun c5 => ?_)
  · refine lv_iconst (v := nI 0) hx hb dX0_in_12 (by decide +kernel) ?_
    exact pe_zretR (b := false) hx hb hr hlocks dX0_in_13 (by first | rfl | simp [c5])
  · refine lv_iconst (v := nI 1) hx hb dX0_in_8 (by decide +kernel) ?_
    refine lv_goto (tgt := 13) hx hb dX0_in_9 (by decide) ?_
    exact pe_zretR (b := true) hx hb hr hlocks dX0_in_13 (by first | rfl | simp [c5])
theorem hd_X0_hasStep : yX0_hasStep.cls ≠ "java/lang/invoke/MethodHandle" ∧ yX0_hasStep.cls ≠ "java/lang/invoke/VarHandle" ∧ (parseMethodDescriptor yX0_hasStep.desc).map (fun d => d.parameters.length) = some 3 := by decide +kernel
set_option maxHeartbeats 4000000 in
theorem m_X0_hasStep (l : Launch) (G : va_G) (ad : Nat → Nat) (cS cB : ClassId) (nx lx gg ww : Nat → Nat) (tt : Nat → Int32) (lr : Int32) (ff : Nat → Nat) (a b q : Nat) (h1 : a < 8) (h2 : b < 8) (h3 : q < 3) : Met l yX0_hasStep (ws_ yX0_hasStep cX0_hasStep 4 (some .boolean)) ({ frames := 1, cells := 0, slots := 0, locals := 21 }) (va_Pc [.ref (ad 0), .int (nI a), .int (nI b), .int (nI q)] (pB G vwCl (xW ad cS cB nx lx gg ww tt lr ff) (xT cS cB))) (vp_Si (fun r => r = nI ((nx (8 * q + a)).testBit b).toNat)) 0 0 (fun _ => False) := by
  refine pe_start (by decide) (Nat.le_of_ble_eq_true rfl) ?_
  intro p e s m below meth c hx hb hr hml hown hts hlocks hB ls hl
  have hown : s.vm.findClass RX0 = some m.cls := hown
  have S : CallFix p m c cX0_hasStep 4 s _ lw_all RX0 := ⟨hx, hb, hml, hown, hts⟩
  have hP := hB.1
  have hK := hB.2
  have hl : lv_has ls 4 [(0, .ref (ad 0)), (1, .int (nI a)), (2, .int (nI b)), (3, .int (nI q))] := hl
  refine lv_aload_n hx hb dX0_hasStep_0 rfl (lv_at hl 0 rfl) ?_
  refine va_get (D := G) (ci := 0) (v := .ref (ad 1)) (C := RX0) (T := TX0) (N := 7) hx hb hts in_X0 hown hK hP 0 rfl rfl 0 (by decide) (hts _ q42) (fun _ h9 => h9) rfl dX0_hasStep_1 ?_
  refine lv_iload_n hx hb dX0_hasStep_4 rfl (lv_at hl 3 rfl) ?_
  refine lv_bipush (v := nI 8) hx hb dX0_hasStep_5 (by decide +kernel) ?_
  refine pe_imul hx hb dX0_hasStep_7 ?_
  refine lv_iload_n hx hb dX0_hasStep_8 rfl (lv_at hl 1 rfl) ?_
  refine pe_iadd hx hb dX0_hasStep_9 ?_
  refine pe_sald hx hb hK hP 1 0 rfl rfl dX0_hasStep_10 (8 * q + a) (by omega) (by omega) (by decide) (v := (nI (nx (8 * q + a)))) rfl ?_
  refine lv_iload_n hx hb dX0_hasStep_11 rfl (lv_at hl 2 rfl) ?_
  refine pe_cS (n := 2) (rest := []) S (m_X0_in l (nx (8 * q + a)) b (by omega)) q80 q81 q32 q82 hd_X0_in rfl ⟨rfl, rfl⟩ ⟨Nat.le_of_ble_eq_true rfl, Nat.le_of_ble_eq_true rfl⟩ ⟨Nat.le_of_ble_eq_true rfl, Nat.le_of_ble_eq_true rfl⟩ hl.1 rfl (Nat.le_of_ble_eq_true rfl) dX0_hasStep_12 (fun r hr_ => ?_)
  subst hr_
  exact pe_zretR (b := ((nx (8 * q + a)).testBit b)) hx hb hr hlocks dX0_hasStep_15 (by first | rfl | simp [])
theorem hd_X0_turn : yX0_turn.cls ≠ "java/lang/invoke/MethodHandle" ∧ yX0_turn.cls ≠ "java/lang/invoke/VarHandle" ∧ (parseMethodDescriptor yX0_turn.desc).map (fun d => d.parameters.length) = some 3 := by decide +kernel
set_option maxHeartbeats 4000000 in
theorem m_X0_turn (l : Launch) (G : va_G) (ad : Nat → Nat) (cS cB : ClassId) (nx lx gg ww : Nat → Nat) (tt : Nat → Int32) (lr : Int32) (ff : Nat → Nat) (A : Nat → Prop) (hA : xD A ad) (a b q : Nat) (h1 : a < 8) (h2 : b < 8) (h3 : q < 3) (hnx : nx (8 * q + a) < 256) : Met l yX0_turn (ws_ yX0_turn cX0_turn 5 none) ({ frames := 0, cells := 0, slots := 0, locals := 0 }) (va_Pc [.ref (ad 0), .int (nI a), .int (nI b), .int (nI q)] (pB G vwCl (xW ad cS cB nx lx gg ww tt lr ff) (xT cS cB))) (pQ A (fun v H => v = none ∧ va_P G vwCl (xW ad cS cB (va_up nx (8 * q + a) (nx (8 * q + a) ^^^ 2 ^ b)) lx gg ww tt lr ff) H)) 0 0 A := by
  refine pe_start (by decide) (Nat.le_of_ble_eq_true rfl) ?_
  intro p e s m below meth c hx hb hr hml hown hts hlocks hB ls hl
  have hown : s.vm.findClass RX0 = some m.cls := hown
  have S : CallFix p m c cX0_turn 5 s _ lw_all RX0 := ⟨hx, hb, hml, hown, hts⟩
  have hP := hB.1
  have hK := hB.2
  have hS : va_S A s.heap s.heap [] := va_S.rf
  have hl : lv_has ls 5 [(0, .ref (ad 0)), (1, .int (nI a)), (2, .int (nI b)), (3, .int (nI q))] := hl
  refine lv_iload_n hx hb dX0_turn_0 rfl (lv_at hl 3 rfl) ?_
  refine lv_bipush (v := nI 8) hx hb dX0_turn_1 (by decide +kernel) ?_
  refine pe_imul hx hb dX0_turn_3 ?_
  refine lv_iload_n hx hb dX0_turn_4 rfl (lv_at hl 1 rfl) ?_
  refine pe_iadd hx hb dX0_turn_5 ?_
  refine lv_istore (lv' := [(4, .int (nI ((q * 8) + a))), (0, .ref (ad 0)), (1, .int (nI a)), (2, .int (nI b)), (3, .int (nI q))]) hx hb dX0_turn_6 hl (by decide) rfl (fun ls hl => ?_)
  refine lv_aload_n hx hb dX0_turn_8 rfl (lv_at hl 1 rfl) ?_
  refine va_get (D := G) (ci := 0) (v := .ref (ad 1)) (C := RX0) (T := TX0) (N := 7) hx hb hts in_X0 hown hK hP 0 rfl rfl 0 (by decide) (hts _ q42) (fun _ h9 => h9) rfl dX0_turn_9 ?_
  refine lv_iload hx hb dX0_turn_12 (lv_at hl 0 rfl) ?_
  refine lv_aload_n hx hb dX0_turn_14 rfl (lv_at hl 1 rfl) ?_
  refine va_get (D := G) (ci := 0) (v := .ref (ad 1)) (C := RX0) (T := TX0) (N := 7) hx hb hts in_X0 hown hK hP 0 rfl rfl 0 (by decide) (hts _ q42) (fun _ h9 => h9) rfl dX0_turn_15 ?_
  refine lv_iload hx hb dX0_turn_18 (lv_at hl 0 rfl) ?_
  refine pe_sald hx hb hK hP 1 0 rfl rfl dX0_turn_20 (8 * q + a) (by omega) (by omega) (by decide) (v := (nI (nx (8 * q + a)))) rfl ?_
  refine lv_iconst (v := nI 1) hx hb dX0_turn_21 (by decide +kernel) ?_
  refine lv_iload_n hx hb dX0_turn_22 rfl (lv_at hl 3 rfl) ?_
  refine pe_shl hx hb (by omega) dX0_turn_23 ?_
  refine pe_ixor hx hb dX0_turn_24 ?_
  refine pe_i2s hx hb (z_lt15 (z_xor hnx h2)) dX0_turn_25 ?_
  refine pe_sast hx hb hK hP (hA.D _ _ _ _ _ _ _ _ _) hS 1 0 rfl rfl dX0_turn_26 (8 * q + a) (by omega) (by omega) (by decide) (pe_n16 (z_lt15 (z_xor hnx h2))) (f' := fun j => nI ((va_up nx (8 * q + a) ((nx (8 * q + a)) ^^^ (2 ^ b))) j)) (pe_up _ _ _) (fun H locs hP hS => ?_)
  have hP : va_P G vwCl (xW ad cS cB (va_up nx (8 * q + a) ((nx (8 * q + a)) ^^^ (2 ^ b))) lx gg ww tt lr ff) H := hP
  exact pe_vret hx hb hr hlocks hS dX0_turn_27 (⟨rfl, hP⟩)
theorem hd_X0_ones : yX0_ones.cls ≠ "java/lang/invoke/MethodHandle" ∧ yX0_ones.cls ≠ "java/lang/invoke/VarHandle" ∧ (parseMethodDescriptor yX0_ones.desc).map (fun d => d.parameters.length) = some 1 := by decide +kernel
set_option maxHeartbeats 4000000 in
theorem m_X0_ones (l : Launch) (x : Nat) : Met l yX0_ones (ws_ yX0_ones cX0_ones 3 (some .int)) ({ frames := 0, cells := 0, slots := 0, locals := 0 }) (va_Pc [.int (nI x)] (fun _ => True)) (vp_Si (fun r => r = nI (smF (fun j => (x.testBit j).toNat) 8))) 0 0 (fun _ => False) := by
  refine pe_start (by decide) (Nat.le_of_ble_eq_true rfl) ?_
  intro p e s m below meth c hx hb hr hml hown hts hlocks hB ls hl
  have hown : s.vm.findClass RX0 = some m.cls := hown
  have S : CallFix p m c cX0_ones 3 s _ lw_all RX0 := ⟨hx, hb, hml, hown, hts⟩
  have hl : lv_has ls 3 [(0, .int (nI x))] := hl
  refine lv_iconst (v := nI 0) hx hb dX0_ones_0 (by decide +kernel) ?_
  refine lv_istore_n (lv' := [(1, .int (nI 0)), (0, .int (nI x))]) hx hb dX0_ones_1 rfl hl (by decide) rfl (fun ls hl => ?_)
  refine lv_iconst (v := nI 0) hx hb dX0_ones_2 (by decide +kernel) ?_
  refine lv_istore_n (lv' := [(2, .int (nI 0)), (1, .int (nI 0)), (0, .int (nI x))]) hx hb dX0_ones_3 rfl hl (by decide) rfl (fun ls hl => ?_)
  refine pe_loopR (8) 4 (fun i ls => lv_has ls 3 [(0, .int (nI x)), (1, .int (nI (smF (fun j => (x.testBit j).toNat) (i)))), (2, .int (nI i))]) (fun i hi_i ih_i ls hl => ?_) (0) (by omega) ls (lv_sub hl [2, 1, 0] rfl)
  refine lv_iload_n hx hb dX0_ones_4 rfl (lv_at hl 2 rfl) ?_
  refine lv_bipush (v := nI 8) hx hb dX0_ones_5 (by decide +kernel) ?_
  refine pe_icmp_ge hx hb 24 dX0_ones_7 (by decide) (by omega) (by omega) (fun c7 => ?_) (fun c7 => ?_)
  · obtain rfl : i = 8 := by omega
    refine lv_iload_n hx hb dX0_ones_24 rfl (lv_at hl 1 rfl) ?_
    exact pe_iretR (v := (nI (smF (fun j => (x.testBit j).toNat) (8)))) hx hb hr hlocks dX0_ones_25 (by first | rfl | simp [c7])
  · refine lv_iload_n hx hb dX0_ones_10 rfl (lv_at hl 1 rfl) ?_
    refine lv_iload_n hx hb dX0_ones_11 rfl (lv_at hl 0 rfl) ?_
    refine lv_iload_n hx hb dX0_ones_12 rfl (lv_at hl 2 rfl) ?_
    refine lv_ishr hx hb dX0_ones_13 ?_
    refine lv_iconst (v := nI 1) hx hb dX0_ones_14 (by decide +kernel) ?_
    refine pe_iandbit hx hb (by omega) dX0_ones_15 ?_
    refine pe_iadd hx hb dX0_ones_16 ?_
    refine lv_istore_n (lv' := [(1, .int (nI ((smF (fun j => (x.testBit j).toNat) (i)) + ((x.testBit i).toNat)))), (0, .int (nI x)), (2, .int (nI i))]) hx hb dX0_ones_17 rfl hl (by decide) rfl (fun ls hl => ?_)
    refine pe_inc (k := 2) (a := i) (lv' := [(2, .int (nI (i + 1))), (1, .int (nI ((smF (fun j => (x.testBit j).toNat) (i)) + ((x.testBit i).toNat)))), (0, .int (nI x))]) hx hb dX0_ones_18 hl rfl (by decide) rfl (fun ls hl => ?_)
    refine lv_goto (tgt := 4) hx hb dX0_ones_21 (by decide) ?_
    exact ih_i (by omega) ls (lv_sub hl [2, 1, 0] rfl)
theorem hd_X0_steps : yX0_steps.cls ≠ "java/lang/invoke/MethodHandle" ∧ yX0_steps.cls ≠ "java/lang/invoke/VarHandle" ∧ (parseMethodDescriptor yX0_steps.desc).map (fun d => d.parameters.length) = some 0 := by decide +kernel
set_option maxHeartbeats 4000000 in
theorem m_X0_steps (l : Launch) (G : va_G) (ad : Nat → Nat) (cS cB : ClassId) (nx lx gg ww : Nat → Nat) (tt : Nat → Int32) (lr : Int32) (ff : Nat → Nat)  : Met l yX0_steps (ws_ yX0_steps cX0_steps 3 (some .int)) ({ frames := 1, cells := 0, slots := 0, locals := 22 }) (va_Pc [.ref (ad 0)] (pB G vwCl (xW ad cS cB nx lx gg ww tt lr ff) (xT cS cB))) (vp_Si (fun r => r = nI (smF (fun c => smF (fun j => ((nx c).testBit j).toNat) 8) 24))) 0 0 (fun _ => False) := by
  refine pe_start (by decide) (Nat.le_of_ble_eq_true rfl) ?_
  intro p e s m below meth c hx hb hr hml hown hts hlocks hB ls hl
  have hown : s.vm.findClass RX0 = some m.cls := hown
  have S : CallFix p m c cX0_steps 3 s _ lw_all RX0 := ⟨hx, hb, hml, hown, hts⟩
  have hP := hB.1
  have hK := hB.2
  have hl : lv_has ls 3 [(0, .ref (ad 0))] := hl
  refine lv_iconst (v := nI 0) hx hb dX0_steps_0 (by decide +kernel) ?_
  refine lv_istore_n (lv' := [(1, .int (nI 0)), (0, .ref (ad 0))]) hx hb dX0_steps_1 rfl hl (by decide) rfl (fun ls hl => ?_)
  refine lv_iconst (v := nI 0) hx hb dX0_steps_2 (by decide +kernel) ?_
  refine lv_istore_n (lv' := [(2, .int (nI 0)), (1, .int (nI 0)), (0, .ref (ad 0))]) hx hb dX0_steps_3 rfl hl (by decide) rfl (fun ls hl => ?_)
  refine pe_loopR (24) 4 (fun i ls => lv_has ls 3 [(0, .ref (ad 0)), (1, .int (nI (smF (fun c => smF (fun j => ((nx c).testBit j).toNat) 8) (i)))), (2, .int (nI i))]) (fun i hi_i ih_i ls hl => ?_) (0) (by omega) ls (lv_sub hl [2, 1, 0] rfl)
  refine lv_iload_n hx hb dX0_steps_4 rfl (lv_at hl 2 rfl) ?_
  refine lv_bipush (v := nI 24) hx hb dX0_steps_5 (by decide +kernel) ?_
  refine pe_icmp_ge hx hb 28 dX0_steps_7 (by decide) (by omega) (by omega) (fun c7 => ?_) (fun c7 => ?_)
  · obtain rfl : i = 24 := by omega
    refine lv_iload_n hx hb dX0_steps_28 rfl (lv_at hl 1 rfl) ?_
    exact pe_iretR (v := (nI (smF (fun c => smF (fun j => ((nx c).testBit j).toNat) 8) (24)))) hx hb hr hlocks dX0_steps_29 (by first | rfl | simp [c7])
  · refine lv_iload_n hx hb dX0_steps_10 rfl (lv_at hl 1 rfl) ?_
    refine lv_aload_n hx hb dX0_steps_11 rfl (lv_at hl 0 rfl) ?_
    refine va_get (D := G) (ci := 0) (v := .ref (ad 1)) (C := RX0) (T := TX0) (N := 7) hx hb hts in_X0 hown hK hP 0 rfl rfl 0 (by decide) (hts _ q42) (fun _ h9 => h9) rfl dX0_steps_12 ?_
    refine lv_iload_n hx hb dX0_steps_15 rfl (lv_at hl 2 rfl) ?_
    refine pe_sald hx hb hK hP 1 0 rfl rfl dX0_steps_16 i (rfl) (by omega) (by decide) (v := (nI (nx i))) rfl ?_
    refine pe_cS (n := 1) (rest := [.int (nI (smF (fun c => smF (fun j => ((nx c).testBit j).toNat) 8) (i)))]) S (m_X0_ones l (nx i)) q95 q96 q32 q97 hd_X0_ones rfl ⟨rfl, rfl⟩ ⟨Nat.le_of_ble_eq_true rfl, Nat.le_of_ble_eq_true rfl⟩ ⟨Nat.le_of_ble_eq_true rfl, Nat.le_of_ble_eq_true rfl⟩ hl.1 rfl (Nat.le_of_ble_eq_true rfl) dX0_steps_17 (fun r hr_ => ?_)
    subst hr_
    refine pe_iadd hx hb dX0_steps_20 ?_
    refine lv_istore_n (lv' := [(1, .int (nI ((smF (fun c => smF (fun j => ((nx c).testBit j).toNat) 8) (i)) + (smF (fun j => ((nx i).testBit j).toNat) 8)))), (0, .ref (ad 0)), (2, .int (nI i))]) hx hb dX0_steps_21 rfl hl (by decide) rfl (fun ls hl => ?_)
    refine pe_inc (k := 2) (a := i) (lv' := [(2, .int (nI (i + 1))), (1, .int (nI ((smF (fun c => smF (fun j => ((nx c).testBit j).toNat) 8) (i)) + (smF (fun j => ((nx i).testBit j).toNat) 8)))), (0, .ref (ad 0))]) hx hb dX0_steps_22 hl rfl (by decide) rfl (fun ls hl => ?_)
    refine lv_goto (tgt := 4) hx hb dX0_steps_25 (by decide) ?_
    exact ih_i (by omega) ls (lv_sub hl [2, 1, 0] rfl)
theorem hd_X0_after : yX0_after.cls ≠ "java/lang/invoke/MethodHandle" ∧ yX0_after.cls ≠ "java/lang/invoke/VarHandle" ∧ (parseMethodDescriptor yX0_after.desc).map (fun d => d.parameters.length) = some 2 := by decide +kernel
set_option maxHeartbeats 4000000 in
theorem m_X0_after (l : Launch) (G : va_G) (ad : Nat → Nat) (cS cB : ClassId) (nx lx gg ww : Nat → Nat) (tt : Nat → Int32) (lr : Int32) (ff : Nat → Nat) (x y : Int32) : Met l yX0_after (ws_ yX0_after cX0_after 3 (some .int)) ({ frames := 2, cells := 0, slots := 0, locals := 42 }) (va_Pc [.ref (ad 0), .int x, .int y] (pB G vwCl (xW ad cS cB nx lx gg ww tt lr ff) (xT cS cB))) (vp_Si (fun r => r = nI (zAft nx x y))) 0 0 (fun _ => False) := by
  refine pe_start (by decide) (Nat.le_of_ble_eq_true rfl) ?_
  intro p e s m below meth c hx hb hr hml hown hts hlocks hB ls hl
  have hown : s.vm.findClass RX0 = some m.cls := hown
  have S : CallFix p m c cX0_after 3 s _ lw_all RX0 := ⟨hx, hb, hml, hown, hts⟩
  have hP := hB.1
  have hK := hB.2
  have hl : lv_has ls 3 [(0, .ref (ad 0)), (1, .int x), (2, .int y)] := hl
  refine lv_iload_n hx hb dX0_after_0 rfl (lv_at hl 1 rfl) ?_
  refine lv_iconst (v := nI 0) hx hb dX0_after_1 (by decide +kernel) ?_
  refine lv_iload_n hx hb dX0_after_2 rfl (lv_at hl 2 rfl) ?_
  refine pe_cS (n := 3) (rest := []) S (m_X0_isStep l x (nI 0) y) q70 q71 q32 q72 hd_X0_isStep rfl ⟨rfl, rfl⟩ ⟨Nat.le_of_ble_eq_true rfl, Nat.le_of_ble_eq_true rfl⟩ ⟨Nat.le_of_ble_eq_true rfl, Nat.le_of_ble_eq_true rfl⟩ hl.1 rfl (Nat.le_of_ble_eq_true rfl) dX0_after_3 (fun r hr_ => ?_)
  subst hr_
  refine pe_ifeqB hx hb 23 dX0_after_6 (by decide) (fun c6 => ?_) (fun c6 => ?_)
  · refine lv_iconst (v := nI 0) hx hb dX0_after_23 (by decide +kernel) ?_
    exact pe_iretR (v := (nI 0)) hx hb hr hlocks dX0_after_24 (by show nI _ = nI _; unfold zAft; rw [c6]; rfl)
  · obtain ⟨i, j, k, hi, hj, hk, rfl, -, rfl⟩ := zStep_of c6
    refine lv_aload_n hx hb dX0_after_9 rfl (lv_at hl 0 rfl) ?_
    refine va_get (D := G) (ci := 0) (v := .ref (ad 1)) (C := RX0) (T := TX0) (N := 7) hx hb hts in_X0 hown hK hP 0 rfl rfl 0 (by decide) (hts _ q42) (fun _ h9 => h9) rfl dX0_after_10 ?_
    refine lv_iload_n hx hb dX0_after_13 rfl (lv_at hl 2 rfl) ?_
    refine lv_bipush (v := nI 8) hx hb dX0_after_14 (by decide +kernel) ?_
    refine pe_imul hx hb dX0_after_16 ?_
    refine lv_iload_n hx hb dX0_after_17 rfl (lv_at hl 1 rfl) ?_
    refine pe_iadd hx hb dX0_after_18 ?_
    refine pe_sald hx hb hK hP 1 0 rfl rfl dX0_after_19 (8 * k + i) (by omega) (by omega) (by decide) (v := (nI (nx (8 * k + i)))) rfl ?_
    refine lv_goto (tgt := 24) hx hb dX0_after_20 (by decide) ?_
    exact pe_iretR (v := (nI (nx (8 * k + i)))) hx hb hr hlocks dX0_after_24 (by show nI _ = nI _; unfold zAft; rw [if_pos c6, tn, tn, nI_clamp (by omega), nI_clamp (by omega)])
theorem hd_X0_silentFrom : yX0_silentFrom.cls ≠ "java/lang/invoke/MethodHandle" ∧ yX0_silentFrom.cls ≠ "java/lang/invoke/VarHandle" ∧ (parseMethodDescriptor yX0_silentFrom.desc).map (fun d => d.parameters.length) = some 1 := by decide +kernel
set_option maxHeartbeats 4000000 in
theorem m_X0_silentFrom (l : Launch) (G : va_G) (ad : Nat → Nat) (cS cB : ClassId) (nx lx gg ww : Nat → Nat) (tt : Nat → Int32) (lr : Int32) (ff : Nat → Nat) (a : Nat) (h1 : a < 8) (hnx : ∀ j, j < 24 → nx j < 256) : Met l yX0_silentFrom (ws_ yX0_silentFrom cX0_silentFrom 5 (some .int)) ({ frames := 1, cells := 0, slots := 0, locals := 21 }) (va_Pc [.ref (ad 0), .int (nI a)] (pB G vwCl (xW ad cS cB nx lx gg ww tt lr ff) (xT cS cB))) (vp_Si (fun r => r = nI (zS nx a 8))) 0 0 (fun _ => False) := by
  refine pe_start (by decide) (Nat.le_of_ble_eq_true rfl) ?_
  intro p e s m below meth c hx hb hr hml hown hts hlocks hB ls hl
  have hown : s.vm.findClass RX0 = some m.cls := hown
  have S : CallFix p m c cX0_silentFrom 5 s _ lw_all RX0 := ⟨hx, hb, hml, hown, hts⟩
  have hP := hB.1
  have hK := hB.2
  have hl : lv_has ls 5 [(0, .ref (ad 0)), (1, .int (nI a))] := hl
  refine lv_iconst (v := nI 1) hx hb dX0_silentFrom_0 (by decide +kernel) ?_
  refine lv_iload_n hx hb dX0_silentFrom_1 rfl (lv_at hl 1 rfl) ?_
  refine pe_shl hx hb (by omega) dX0_silentFrom_2 ?_
  refine lv_istore_n (lv' := [(2, .int (nI (2 ^ a))), (0, .ref (ad 0)), (1, .int (nI a))]) hx hb dX0_silentFrom_3 rfl hl (by decide) rfl (fun ls hl => ?_)
  refine lv_iconst (v := nI 0) hx hb dX0_silentFrom_4 (by decide +kernel) ?_
  refine lv_istore_n (lv' := [(3, .int (nI 0)), (2, .int (nI (2 ^ a))), (0, .ref (ad 0)), (1, .int (nI a))]) hx hb dX0_silentFrom_5 rfl hl (by decide) rfl (fun ls hl => ?_)
  refine pe_loopR (8) 6 (fun r ls => lv_has ls 5 [(0, .ref (ad 0)), (1, .int (nI a)), (2, .int (nI (zS nx a (r)))), (3, .int (nI r))]) (fun r hi_r ih_r ls hl => ?_) (0) (by omega) ls (lv_sub hl [2, 3, 1, 0] rfl)
  refine lv_iload_n hx hb dX0_silentFrom_6 rfl (lv_at hl 3 rfl) ?_
  refine lv_bipush (v := nI 8) hx hb dX0_silentFrom_7 (by decide +kernel) ?_
  refine pe_icmp_ge hx hb 57 dX0_silentFrom_9 (by decide) (by omega) (by omega) (fun c9 => ?_) (fun c9 => ?_)
  · obtain rfl : r = 8 := by omega
    refine lv_iload_n hx hb dX0_silentFrom_57 rfl (lv_at hl 2 rfl) ?_
    exact pe_iretR (v := (nI (zS nx a (8)))) hx hb hr hlocks dX0_silentFrom_58 (by first | rfl | simp [c9])
  · refine lv_iconst (v := nI 0) hx hb dX0_silentFrom_12 (by decide +kernel) ?_
    refine lv_istore (lv' := [(4, .int (nI 0)), (0, .ref (ad 0)), (1, .int (nI a)), (2, .int (nI (zS nx a (r)))), (3, .int (nI r))]) hx hb dX0_silentFrom_13 hl (by decide) rfl (fun ls hl => ?_)
    refine pe_loopR (8) 15 (fun b ls => lv_has ls 5 [(0, .ref (ad 0)), (1, .int (nI a)), (2, .int (nI (zIn nx (zS nx a r) (b)))), (3, .int (nI r)), (4, .int (nI b))]) (fun b hi_b ih_b ls hl => ?_) (0) (by omega) ls (lv_sub hl [1, 2, 3, 4, 0] rfl)
    refine lv_iload hx hb dX0_silentFrom_15 (lv_at hl 4 rfl) ?_
    refine lv_bipush (v := nI 8) hx hb dX0_silentFrom_17 (by decide +kernel) ?_
    refine pe_icmp_ge hx hb 51 dX0_silentFrom_19 (by decide) (by omega) (by omega) (fun c19 => ?_) (fun c19 => ?_)
    · obtain rfl : b = 8 := by omega
      refine pe_inc (k := 3) (a := r) (lv' := [(3, .int (nI (r + 1))), (0, .ref (ad 0)), (1, .int (nI a)), (2, .int (nI (zIn nx (zS nx a r) (8)))), (4, .int (nI 8))]) hx hb dX0_silentFrom_51 hl rfl (by decide) rfl (fun ls hl => ?_)
      refine lv_goto (tgt := 6) hx hb dX0_silentFrom_54 (by decide) ?_
      exact ih_r (by omega) ls (lv_sub hl [1, 2, 3, 0] rfl)
    · refine lv_iload_n hx hb dX0_silentFrom_22 rfl (lv_at hl 2 rfl) ?_
      refine lv_iload_n hx hb dX0_silentFrom_23 rfl (lv_at hl 2 rfl) ?_
      refine lv_iload hx hb dX0_silentFrom_24 (lv_at hl 4 rfl) ?_
      refine pe_cS (n := 2) (rest := [.int (nI (zIn nx (zS nx a r) (b)))]) S (m_X0_in l (zIn nx (zS nx a r) (b)) b (by omega)) q80 q81 q32 q82 hd_X0_in rfl ⟨rfl, rfl⟩ ⟨Nat.le_of_ble_eq_true rfl, Nat.le_of_ble_eq_true rfl⟩ ⟨Nat.le_of_ble_eq_true rfl, Nat.le_of_ble_eq_true rfl⟩ hl.1 rfl (Nat.le_of_ble_eq_true rfl) dX0_silentFrom_26 (fun r hr_ => ?_)
      subst hr_
      refine pe_join 43 (.int (nI (if (zIn nx (zS nx a r) b).testBit b then nx b else 0))) [.int (nI (zIn nx (zS nx a r) (b)))] (fun K43 => ?_) ?_
      · refine pe_ifeqB hx hb 42 dX0_silentFrom_29 (by decide) (fun c29 => ?_) (fun c29 => ?_)
        · refine lv_iconst (v := nI 0) hx hb dX0_silentFrom_42 (by decide +kernel) ?_
          exact pe_top (by first | rfl | simp [c29]) K43
        · refine lv_aload_n hx hb dX0_silentFrom_32 rfl (lv_at hl 0 rfl) ?_
          refine va_get (D := G) (ci := 0) (v := .ref (ad 1)) (C := RX0) (T := TX0) (N := 7) hx hb hts in_X0 hown hK hP 0 rfl rfl 0 (by decide) (hts _ q42) (fun _ h9 => h9) rfl dX0_silentFrom_33 ?_
          refine lv_iload hx hb dX0_silentFrom_36 (lv_at hl 4 rfl) ?_
          refine pe_sald hx hb hK hP 1 0 rfl rfl dX0_silentFrom_38 b (rfl) (by omega) (by decide) (v := (nI (nx b))) rfl ?_
          refine lv_goto (tgt := 43) hx hb dX0_silentFrom_39 (by decide) ?_
          exact pe_top (by first | rfl | simp [c29]) K43
      · refine pe_ior hx hb dX0_silentFrom_43 ?_
        refine lv_istore_n (lv' := [(2, .int (nI ((zIn nx (zS nx a r) (b)) ||| (if (zIn nx (zS nx a r) b).testBit b then nx b else 0)))), (0, .ref (ad 0)), (1, .int (nI a)), (3, .int (nI r)), (4, .int (nI b))]) hx hb dX0_silentFrom_44 rfl hl (by decide) rfl (fun ls hl => ?_)
        refine pe_inc (k := 4) (a := b) (lv' := [(4, .int (nI (b + 1))), (2, .int (nI ((zIn nx (zS nx a r) (b)) ||| (if (zIn nx (zS nx a r) b).testBit b then nx b else 0)))), (0, .ref (ad 0)), (1, .int (nI a)), (3, .int (nI r))]) hx hb dX0_silentFrom_45 hl rfl (by decide) rfl (fun ls hl => ?_)
        refine lv_goto (tgt := 15) hx hb dX0_silentFrom_48 (by decide) ?_
        exact ih_b (by omega) ls (lv_sub hl [2, 3, 1, 4, 0] rfl)
theorem hd_X0_longFrom : yX0_longFrom.cls ≠ "java/lang/invoke/MethodHandle" ∧ yX0_longFrom.cls ≠ "java/lang/invoke/VarHandle" ∧ (parseMethodDescriptor yX0_longFrom.desc).map (fun d => d.parameters.length) = some 2 := by decide +kernel
set_option maxHeartbeats 4000000 in
theorem m_X0_longFrom (l : Launch) (G : va_G) (ad : Nat → Nat) (cS cB : ClassId) (nx lx gg ww : Nat → Nat) (tt : Nat → Int32) (lr : Int32) (ff : Nat → Nat) (a q : Nat) (h1 : a < 8) (h2 : q < 3) : Met l yX0_longFrom (ws_ yX0_longFrom cX0_longFrom 6 (some .int)) ({ frames := 1, cells := 0, slots := 0, locals := 21 }) (va_Pc [.ref (ad 0), .int (nI a), .int (nI q)] (pB G vwCl (xW ad cS cB nx lx gg ww tt lr ff) (xT cS cB))) (vp_Si (fun r => r = nI (zLong lx nx a q))) 0 0 (fun _ => False) := by
  refine pe_start (by decide) (Nat.le_of_ble_eq_true rfl) ?_
  intro p e s m below meth c hx hb hr hml hown hts hlocks hB ls hl
  have hown : s.vm.findClass RX0 = some m.cls := hown
  have S : CallFix p m c cX0_longFrom 6 s _ lw_all RX0 := ⟨hx, hb, hml, hown, hts⟩
  have hP := hB.1
  have hK := hB.2
  have hl : lv_has ls 6 [(0, .ref (ad 0)), (1, .int (nI a)), (2, .int (nI q))] := hl
  refine lv_iconst (v := nI 0) hx hb dX0_longFrom_0 (by decide +kernel) ?_
  refine lv_istore_n (lv' := [(3, .int (nI 0)), (0, .ref (ad 0)), (1, .int (nI a)), (2, .int (nI q))]) hx hb dX0_longFrom_1 rfl hl (by decide) rfl (fun ls hl => ?_)
  refine lv_iconst (v := nI 0) hx hb dX0_longFrom_2 (by decide +kernel) ?_
  refine lv_istore (lv' := [(4, .int (nI 0)), (3, .int (nI 0)), (0, .ref (ad 0)), (1, .int (nI a)), (2, .int (nI q))]) hx hb dX0_longFrom_3 hl (by decide) rfl (fun ls hl => ?_)
  refine pe_loopR (8) 5 (fun b ls => lv_has ls 6 [(0, .ref (ad 0)), (1, .int (nI a)), (2, .int (nI q)), (3, .int (nI (orF 0 (fun j => if (lx a).testBit j then nx (8 * q + j) else 0) (b)))), (4, .int (nI b))]) (fun b hi_b ih_b ls hl => ?_) (0) (by omega) ls (lv_sub hl [2, 3, 4, 1, 0] rfl)
  refine lv_iload hx hb dX0_longFrom_5 (lv_at hl 4 rfl) ?_
  refine lv_bipush (v := nI 8) hx hb dX0_longFrom_7 (by decide +kernel) ?_
  refine pe_icmp_ge hx hb 51 dX0_longFrom_9 (by decide) (by omega) (by omega) (fun c9 => ?_) (fun c9 => ?_)
  · obtain rfl : b = 8 := by omega
    refine lv_iconst (v := nI 0) hx hb dX0_longFrom_51 (by decide +kernel) ?_
    refine lv_istore (lv' := [(4, .int (nI 0)), (0, .ref (ad 0)), (1, .int (nI a)), (2, .int (nI q)), (3, .int (nI (orF 0 (fun j => if (lx a).testBit j then nx (8 * q + j) else 0) (8))))]) hx hb dX0_longFrom_52 hl (by decide) rfl (fun ls hl => ?_)
    refine lv_iconst (v := nI 0) hx hb dX0_longFrom_54 (by decide +kernel) ?_
    refine lv_istore (lv' := [(5, .int (nI 0)), (4, .int (nI 0)), (0, .ref (ad 0)), (1, .int (nI a)), (2, .int (nI q)), (3, .int (nI (orF 0 (fun j => if (lx a).testBit j then nx (8 * q + j) else 0) (8))))]) hx hb dX0_longFrom_55 hl (by decide) rfl (fun ls hl => ?_)
    refine pe_loopR (8) 57 (fun d ls => lv_has ls 6 [(0, .ref (ad 0)), (1, .int (nI a)), (2, .int (nI q)), (3, .int (nI (zMid lx nx a q))), (4, .int (nI (orF 0 (fun j => if (zMid lx nx a q).testBit j then lx j else 0) (d)))), (5, .int (nI d))]) (fun d hi_d ih_d ls hl => ?_) (0) (by omega) ls (lv_sub hl [2, 3, 4, 5, 1, 0] rfl)
    refine lv_iload hx hb dX0_longFrom_57 (lv_at hl 5 rfl) ?_
    refine lv_bipush (v := nI 8) hx hb dX0_longFrom_59 (by decide +kernel) ?_
    refine pe_icmp_ge hx hb 95 dX0_longFrom_61 (by decide) (by omega) (by omega) (fun c61 => ?_) (fun c61 => ?_)
    · obtain rfl : d = 8 := by omega
      refine lv_iload hx hb dX0_longFrom_95 (lv_at hl 4 rfl) ?_
      exact pe_iretR (v := (nI (orF 0 (fun j => if (zMid lx nx a q).testBit j then lx j else 0) (8)))) hx hb hr hlocks dX0_longFrom_97 (by first | rfl | simp [c9, c61])
    · refine lv_iload hx hb dX0_longFrom_64 (lv_at hl 4 rfl) ?_
      refine lv_iload_n hx hb dX0_longFrom_66 rfl (lv_at hl 3 rfl) ?_
      refine lv_iload hx hb dX0_longFrom_67 (lv_at hl 5 rfl) ?_
      refine pe_cS (n := 2) (rest := [.int (nI (orF 0 (fun j => if (zMid lx nx a q).testBit j then lx j else 0) (d)))]) S (m_X0_in l (zMid lx nx a q) d (by omega)) q80 q81 q32 q82 hd_X0_in rfl ⟨rfl, rfl⟩ ⟨Nat.le_of_ble_eq_true rfl, Nat.le_of_ble_eq_true rfl⟩ ⟨Nat.le_of_ble_eq_true rfl, Nat.le_of_ble_eq_true rfl⟩ hl.1 rfl (Nat.le_of_ble_eq_true rfl) dX0_longFrom_69 (fun r hr_ => ?_)
      subst hr_
      refine pe_join 86 (.int (nI (if (zMid lx nx a q).testBit d then lx d else 0))) [.int (nI (orF 0 (fun j => if (zMid lx nx a q).testBit j then lx j else 0) (d)))] (fun K86 => ?_) ?_
      · refine pe_ifeqB hx hb 85 dX0_longFrom_72 (by decide) (fun c72 => ?_) (fun c72 => ?_)
        · refine lv_iconst (v := nI 0) hx hb dX0_longFrom_85 (by decide +kernel) ?_
          exact pe_top (by first | rfl | simp [c72]) K86
        · refine lv_aload_n hx hb dX0_longFrom_75 rfl (lv_at hl 0 rfl) ?_
          refine va_get (D := G) (ci := 0) (v := .ref (ad 2)) (C := RX0) (T := TX0) (N := 7) hx hb hts in_X0 hown hK hP 0 rfl rfl 1 (by decide) (hts _ q43) (fun _ h9 => h9) rfl dX0_longFrom_76 ?_
          refine lv_iload hx hb dX0_longFrom_79 (lv_at hl 5 rfl) ?_
          refine pe_sald hx hb hK hP 2 0 rfl rfl dX0_longFrom_81 d (rfl) (by omega) (by decide) (v := (nI (lx d))) rfl ?_
          refine lv_goto (tgt := 86) hx hb dX0_longFrom_82 (by decide) ?_
          exact pe_top (by first | rfl | simp [c72]) K86
      · refine pe_ior hx hb dX0_longFrom_86 ?_
        refine lv_istore (lv' := [(4, .int (nI ((orF 0 (fun j => if (zMid lx nx a q).testBit j then lx j else 0) (d)) ||| (if (zMid lx nx a q).testBit d then lx d else 0)))), (0, .ref (ad 0)), (1, .int (nI a)), (2, .int (nI q)), (3, .int (nI (zMid lx nx a q))), (5, .int (nI d))]) hx hb dX0_longFrom_87 hl (by decide) rfl (fun ls hl => ?_)
        refine pe_inc (k := 5) (a := d) (lv' := [(5, .int (nI (d + 1))), (4, .int (nI ((orF 0 (fun j => if (zMid lx nx a q).testBit j then lx j else 0) (d)) ||| (if (zMid lx nx a q).testBit d then lx d else 0)))), (0, .ref (ad 0)), (1, .int (nI a)), (2, .int (nI q)), (3, .int (nI (zMid lx nx a q)))]) hx hb dX0_longFrom_89 hl rfl (by decide) rfl (fun ls hl => ?_)
        refine lv_goto (tgt := 57) hx hb dX0_longFrom_92 (by decide) ?_
        exact ih_d (by omega) ls (lv_sub hl [2, 3, 4, 5, 1, 0] rfl)
  · refine lv_iload_n hx hb dX0_longFrom_12 rfl (lv_at hl 3 rfl) ?_
    refine lv_aload_n hx hb dX0_longFrom_13 rfl (lv_at hl 0 rfl) ?_
    refine va_get (D := G) (ci := 0) (v := .ref (ad 2)) (C := RX0) (T := TX0) (N := 7) hx hb hts in_X0 hown hK hP 0 rfl rfl 1 (by decide) (hts _ q43) (fun _ h9 => h9) rfl dX0_longFrom_14 ?_
    refine lv_iload_n hx hb dX0_longFrom_17 rfl (lv_at hl 1 rfl) ?_
    refine pe_sald hx hb hK hP 2 0 rfl rfl dX0_longFrom_18 a (rfl) (by omega) (by decide) (v := (nI (lx a))) rfl ?_
    refine lv_iload hx hb dX0_longFrom_19 (lv_at hl 4 rfl) ?_
    refine pe_cS (n := 2) (rest := [.int (nI (orF 0 (fun j => if (lx a).testBit j then nx (8 * q + j) else 0) (b)))]) S (m_X0_in l (lx a) b (by omega)) q80 q81 q32 q82 hd_X0_in rfl ⟨rfl, rfl⟩ ⟨Nat.le_of_ble_eq_true rfl, Nat.le_of_ble_eq_true rfl⟩ ⟨Nat.le_of_ble_eq_true rfl, Nat.le_of_ble_eq_true rfl⟩ hl.1 rfl (Nat.le_of_ble_eq_true rfl) dX0_longFrom_21 (fun r hr_ => ?_)
    subst hr_
    refine pe_join 43 (.int (nI (if (lx a).testBit b then nx (8 * q + b) else 0))) [.int (nI (orF 0 (fun j => if (lx a).testBit j then nx (8 * q + j) else 0) (b)))] (fun K43 => ?_) ?_
    · refine pe_ifeqB hx hb 42 dX0_longFrom_24 (by decide) (fun c24 => ?_) (fun c24 => ?_)
      · refine lv_iconst (v := nI 0) hx hb dX0_longFrom_42 (by decide +kernel) ?_
        exact pe_top (by first | rfl | simp [c24]) K43
      · refine lv_aload_n hx hb dX0_longFrom_27 rfl (lv_at hl 0 rfl) ?_
        refine va_get (D := G) (ci := 0) (v := .ref (ad 1)) (C := RX0) (T := TX0) (N := 7) hx hb hts in_X0 hown hK hP 0 rfl rfl 0 (by decide) (hts _ q42) (fun _ h9 => h9) rfl dX0_longFrom_28 ?_
        refine lv_iload_n hx hb dX0_longFrom_31 rfl (lv_at hl 2 rfl) ?_
        refine lv_bipush (v := nI 8) hx hb dX0_longFrom_32 (by decide +kernel) ?_
        refine pe_imul hx hb dX0_longFrom_34 ?_
        refine lv_iload hx hb dX0_longFrom_35 (lv_at hl 4 rfl) ?_
        refine pe_iadd hx hb dX0_longFrom_37 ?_
        refine pe_sald hx hb hK hP 1 0 rfl rfl dX0_longFrom_38 (8 * q + b) (by omega) (by omega) (by decide) (v := (nI (nx (8 * q + b)))) rfl ?_
        refine lv_goto (tgt := 43) hx hb dX0_longFrom_39 (by decide) ?_
        exact pe_top (by first | rfl | simp [c24]) K43
    · refine pe_ior hx hb dX0_longFrom_43 ?_
      refine lv_istore_n (lv' := [(3, .int (nI ((orF 0 (fun j => if (lx a).testBit j then nx (8 * q + j) else 0) (b)) ||| (if (lx a).testBit b then nx (8 * q + b) else 0)))), (0, .ref (ad 0)), (1, .int (nI a)), (2, .int (nI q)), (4, .int (nI b))]) hx hb dX0_longFrom_44 rfl hl (by decide) rfl (fun ls hl => ?_)
      refine pe_inc (k := 4) (a := b) (lv' := [(4, .int (nI (b + 1))), (3, .int (nI ((orF 0 (fun j => if (lx a).testBit j then nx (8 * q + j) else 0) (b)) ||| (if (lx a).testBit b then nx (8 * q + b) else 0)))), (0, .ref (ad 0)), (1, .int (nI a)), (2, .int (nI q))]) hx hb dX0_longFrom_45 hl rfl (by decide) rfl (fun ls hl => ?_)
      refine lv_goto (tgt := 5) hx hb dX0_longFrom_48 (by decide) ?_
      exact ih_b (by omega) ls (lv_sub hl [2, 3, 4, 1, 0] rfl)
theorem hd_X0_target : yX0_target.cls ≠ "java/lang/invoke/MethodHandle" ∧ yX0_target.cls ≠ "java/lang/invoke/VarHandle" ∧ (parseMethodDescriptor yX0_target.desc).map (fun d => d.parameters.length) = some 2 := by decide +kernel
set_option maxHeartbeats 4000000 in
theorem m_X0_target (l : Launch) (G : va_G) (ad : Nat → Nat) (cS cB : ClassId) (nx lx gg ww : Nat → Nat) (tt : Nat → Int32) (lr : Int32) (ff : Nat → Nat) (bl : Bool) (k : Nat) (h1 : k < 24) : Met l yX0_target (ws_ yX0_target cX0_target 3 (some .int)) ({ frames := 0, cells := 0, slots := 0, locals := 0 }) (va_Pc [.ref (ad 0), .int (nI bl.toNat), .int (nI k)] (pB G vwCl (xW ad cS cB nx lx gg ww tt lr ff) (xT cS cB))) (vp_Si (fun r => r = nI ((if bl then lx else nx) k))) 0 0 (fun _ => False) := by
  refine pe_start (by decide) (Nat.le_of_ble_eq_true rfl) ?_
  intro p e s m below meth c hx hb hr hml hown hts hlocks hB ls hl
  have hown : s.vm.findClass RX0 = some m.cls := hown
  have S : CallFix p m c cX0_target 3 s _ lw_all RX0 := ⟨hx, hb, hml, hown, hts⟩
  have hP := hB.1
  have hK := hB.2
  have hl : lv_has ls 3 [(0, .ref (ad 0)), (1, .int (nI bl.toNat)), (2, .int (nI k))] := hl
  refine lv_iload_n hx hb dX0_target_0 rfl (lv_at hl 1 rfl) ?_
  refine pe_ifeqB hx hb 13 dX0_target_1 (by decide) (fun c1 => ?_) (fun c1 => ?_)
  · refine lv_aload_n hx hb dX0_target_13 rfl (lv_at hl 0 rfl) ?_
    refine va_get (D := G) (ci := 0) (v := .ref (ad 1)) (C := RX0) (T := TX0) (N := 7) hx hb hts in_X0 hown hK hP 0 rfl rfl 0 (by decide) (hts _ q42) (fun _ h9 => h9) rfl dX0_target_14 ?_
    refine lv_iload_n hx hb dX0_target_17 rfl (lv_at hl 2 rfl) ?_
    refine pe_sald hx hb hK hP 1 0 rfl rfl dX0_target_18 k (rfl) (by omega) (by decide) (v := (nI (nx k))) rfl ?_
    exact pe_iretR (v := (nI (nx k))) hx hb hr hlocks dX0_target_19 (by show nI _ = nI _; rw [c1]; rfl)
  · refine lv_aload_n hx hb dX0_target_4 rfl (lv_at hl 0 rfl) ?_
    refine va_get (D := G) (ci := 0) (v := .ref (ad 2)) (C := RX0) (T := TX0) (N := 7) hx hb hts in_X0 hown hK hP 0 rfl rfl 1 (by decide) (hts _ q43) (fun _ h9 => h9) rfl dX0_target_5 ?_
    refine lv_iload_n hx hb dX0_target_8 rfl (lv_at hl 2 rfl) ?_
    refine pe_sald hx hb hK hP 2 0 rfl rfl dX0_target_9 k (rfl) (by omega) (by decide) (v := (nI (lx k))) rfl ?_
    refine lv_goto (tgt := 19) hx hb dX0_target_10 (by decide) ?_
    exact pe_iretR (v := (nI (lx k))) hx hb hr hlocks dX0_target_19 (by show nI _ = nI _; rw [c1]; rfl)
theorem hd_X0_groupsAfter : yX0_groupsAfter.cls ≠ "java/lang/invoke/MethodHandle" ∧ yX0_groupsAfter.cls ≠ "java/lang/invoke/VarHandle" ∧ (parseMethodDescriptor yX0_groupsAfter.desc).map (fun d => d.parameters.length) = some 3 := by decide +kernel
set_option maxHeartbeats 4000000 in
theorem m_X0_groupsAfter (l : Launch) (G : va_G) (ad : Nat → Nat) (cS cB : ClassId) (nx lx gg ww : Nat → Nat) (tt : Nat → Int32) (lr : Int32) (ff : Nat → Nat) (bl : Bool) (a q : Nat) (h1 : a < 8) (h2 : q < 3) (hgg : ∀ j, j < 8 → gg j < 8) : Met l yX0_groupsAfter (ws_ yX0_groupsAfter cX0_groupsAfter 7 (some .int)) ({ frames := 1, cells := 0, slots := 0, locals := 22 }) (va_Pc [.ref (ad 0), .int (nI bl.toNat), .int (nI a), .int (nI q)] (pB G vwCl (xW ad cS cB nx lx gg ww tt lr ff) (xT cS cB))) (vp_Si (fun r => r = nI (zGa (if bl then lx else nx) gg a q))) 0 0 (fun _ => False) := by
  refine pe_start (by decide) (Nat.le_of_ble_eq_true rfl) ?_
  intro p e s m below meth c hx hb hr hml hown hts hlocks hB ls hl
  have hown : s.vm.findClass RX0 = some m.cls := hown
  have S : CallFix p m c cX0_groupsAfter 7 s _ lw_all RX0 := ⟨hx, hb, hml, hown, hts⟩
  have hP := hB.1
  have hK := hB.2
  have hl : lv_has ls 7 [(0, .ref (ad 0)), (1, .int (nI bl.toNat)), (2, .int (nI a)), (3, .int (nI q))] := hl
  refine lv_aload_n hx hb dX0_groupsAfter_0 rfl (lv_at hl 0 rfl) ?_
  refine lv_iload_n hx hb dX0_groupsAfter_1 rfl (lv_at hl 1 rfl) ?_
  refine lv_iload_n hx hb dX0_groupsAfter_2 rfl (lv_at hl 3 rfl) ?_
  refine lv_bipush (v := nI 8) hx hb dX0_groupsAfter_3 (by decide +kernel) ?_
  refine pe_imul hx hb dX0_groupsAfter_5 ?_
  refine lv_iload_n hx hb dX0_groupsAfter_6 rfl (lv_at hl 2 rfl) ?_
  refine pe_iadd hx hb dX0_groupsAfter_7 ?_
  refine pe_cV (n := 2) (rest := []) S hK hP (m_X0_target l G ad cS cB nx lx gg ww tt lr ff bl ((q * 8) + a) (by omega)) (ci := 0) rfl rfl rfl q122 q124 qs6 q32 q125 ⟨rfl, hd_X0_target⟩ rfl ⟨rfl, rfl⟩ ⟨Nat.le_of_ble_eq_true rfl, Nat.le_of_ble_eq_true rfl⟩ ⟨Nat.le_of_ble_eq_true rfl, Nat.le_of_ble_eq_true rfl⟩ hl.1 rfl (Nat.le_of_ble_eq_true rfl) dX0_groupsAfter_8 (fun r hr_ => ?_)
  subst hr_
  refine pe_top (show nI ((if bl then lx else nx) (q * 8 + a)) = nI ((if bl then lx else nx) (8 * q + a)) by rw [Nat.mul_comm q 8]) ?_
  refine lv_istore (lv' := [(4, .int (nI ((if bl then lx else nx) (8 * q + a)))), (0, .ref (ad 0)), (1, .int (nI bl.toNat)), (2, .int (nI a)), (3, .int (nI q))]) hx hb dX0_groupsAfter_11 hl (by decide) rfl (fun ls hl => ?_)
  refine lv_iconst (v := nI 0) hx hb dX0_groupsAfter_13 (by decide +kernel) ?_
  refine lv_istore (lv' := [(5, .int (nI 0)), (4, .int (nI ((if bl then lx else nx) (8 * q + a)))), (0, .ref (ad 0)), (1, .int (nI bl.toNat)), (2, .int (nI a)), (3, .int (nI q))]) hx hb dX0_groupsAfter_14 hl (by decide) rfl (fun ls hl => ?_)
  refine lv_iconst (v := nI 0) hx hb dX0_groupsAfter_16 (by decide +kernel) ?_
  refine lv_istore (lv' := [(6, .int (nI 0)), (5, .int (nI 0)), (4, .int (nI ((if bl then lx else nx) (8 * q + a)))), (0, .ref (ad 0)), (1, .int (nI bl.toNat)), (2, .int (nI a)), (3, .int (nI q))]) hx hb dX0_groupsAfter_17 hl (by decide) rfl (fun ls hl => ?_)
  refine pe_loopR (8) 19 (fun b ls => lv_has ls 7 [(0, .ref (ad 0)), (1, .int (nI bl.toNat)), (2, .int (nI a)), (3, .int (nI q)), (4, .int (nI ((if bl then lx else nx) (8 * q + a)))), (5, .int (nI (orF 0 (fun j => if ((if bl then lx else nx) (8 * q + a)).testBit j then 2 ^ gg j else 0) (b)))), (6, .int (nI b))]) (fun b hi_b ih_b ls hl => ?_) (0) (by omega) ls (lv_sub hl [3, 4, 5, 6, 2, 1, 0] rfl)
  refine lv_iload hx hb dX0_groupsAfter_19 (lv_at hl 6 rfl) ?_
  refine lv_bipush (v := nI 8) hx hb dX0_groupsAfter_21 (by decide +kernel) ?_
  refine pe_icmp_ge hx hb 60 dX0_groupsAfter_23 (by decide) (by omega) (by omega) (fun c23 => ?_) (fun c23 => ?_)
  · obtain rfl : b = 8 := by omega
    refine lv_iload hx hb dX0_groupsAfter_60 (lv_at hl 5 rfl) ?_
    exact pe_iretR (v := (nI (orF 0 (fun j => if ((if bl then lx else nx) (8 * q + a)).testBit j then 2 ^ gg j else 0) (8)))) hx hb hr hlocks dX0_groupsAfter_62 (by first | rfl | simp [c23])
  · refine lv_iload hx hb dX0_groupsAfter_26 (lv_at hl 5 rfl) ?_
    refine lv_iload hx hb dX0_groupsAfter_28 (lv_at hl 4 rfl) ?_
    refine lv_iload hx hb dX0_groupsAfter_30 (lv_at hl 6 rfl) ?_
    refine pe_cS (n := 2) (rest := [.int (nI (orF 0 (fun j => if ((if bl then lx else nx) (8 * q + a)).testBit j then 2 ^ gg j else 0) (b)))]) S (m_X0_in l ((if bl then lx else nx) (8 * q + a)) b (by omega)) q80 q81 q32 q82 hd_X0_in rfl ⟨rfl, rfl⟩ ⟨Nat.le_of_ble_eq_true rfl, Nat.le_of_ble_eq_true rfl⟩ ⟨Nat.le_of_ble_eq_true rfl, Nat.le_of_ble_eq_true rfl⟩ hl.1 rfl (Nat.le_of_ble_eq_true rfl) dX0_groupsAfter_32 (fun r hr_ => ?_)
    subst hr_
    refine pe_join 51 (.int (nI (if ((if bl then lx else nx) (8 * q + a)).testBit b then 2 ^ gg b else 0))) [.int (nI (orF 0 (fun j => if ((if bl then lx else nx) (8 * q + a)).testBit j then 2 ^ gg j else 0) (b)))] (fun K51 => ?_) ?_
    · refine pe_ifeqB hx hb 50 dX0_groupsAfter_35 (by decide) (fun c35 => ?_) (fun c35 => ?_)
      · refine lv_iconst (v := nI 0) hx hb dX0_groupsAfter_50 (by decide +kernel) ?_
        exact pe_top (by first | rfl | simp [c35]) K51
      · refine lv_iconst (v := nI 1) hx hb dX0_groupsAfter_38 (by decide +kernel) ?_
        refine lv_aload_n hx hb dX0_groupsAfter_39 rfl (lv_at hl 0 rfl) ?_
        refine va_get (D := G) (ci := 0) (v := .ref (ad 3)) (C := RX0) (T := TX0) (N := 7) hx hb hts in_X0 hown hK hP 0 rfl rfl 2 (by decide) (hts _ q44) (fun _ h9 => h9) rfl dX0_groupsAfter_40 ?_
        refine lv_iload hx hb dX0_groupsAfter_43 (lv_at hl 6 rfl) ?_
        refine pe_bald hx hb hK hP 3 1 rfl rfl dX0_groupsAfter_45 b (rfl) (by omega) (by decide) (v := (nI (gg b))) rfl ?_
        refine pe_shl hx hb (Nat.lt_trans (hgg b (by omega)) (by decide)) dX0_groupsAfter_46 ?_
        refine lv_goto (tgt := 51) hx hb dX0_groupsAfter_47 (by decide) ?_
        exact pe_top (by first | rfl | simp [c35]) K51
    · refine pe_ior hx hb dX0_groupsAfter_51 ?_
      refine lv_istore (lv' := [(5, .int (nI ((orF 0 (fun j => if ((if bl then lx else nx) (8 * q + a)).testBit j then 2 ^ gg j else 0) (b)) ||| (if ((if bl then lx else nx) (8 * q + a)).testBit b then 2 ^ gg b else 0)))), (0, .ref (ad 0)), (1, .int (nI bl.toNat)), (2, .int (nI a)), (3, .int (nI q)), (4, .int (nI ((if bl then lx else nx) (8 * q + a)))), (6, .int (nI b))]) hx hb dX0_groupsAfter_52 hl (by decide) rfl (fun ls hl => ?_)
      refine pe_inc (k := 6) (a := b) (lv' := [(6, .int (nI (b + 1))), (5, .int (nI ((orF 0 (fun j => if ((if bl then lx else nx) (8 * q + a)).testBit j then 2 ^ gg j else 0) (b)) ||| (if ((if bl then lx else nx) (8 * q + a)).testBit b then 2 ^ gg b else 0)))), (0, .ref (ad 0)), (1, .int (nI bl.toNat)), (2, .int (nI a)), (3, .int (nI q)), (4, .int (nI ((if bl then lx else nx) (8 * q + a))))]) hx hb dX0_groupsAfter_54 hl rfl (by decide) rfl (fun ls hl => ?_)
      refine lv_goto (tgt := 19) hx hb dX0_groupsAfter_57 (by decide) ?_
      exact ih_b (by omega) ls (lv_sub hl [2, 3, 4, 5, 6, 1, 0] rfl)
theorem hd_X0_staysTogether : yX0_staysTogether.cls ≠ "java/lang/invoke/MethodHandle" ∧ yX0_staysTogether.cls ≠ "java/lang/invoke/VarHandle" ∧ (parseMethodDescriptor yX0_staysTogether.desc).map (fun d => d.parameters.length) = some 3 := by decide +kernel
set_option maxHeartbeats 4000000 in
theorem m_X0_staysTogether (l : Launch) (G : va_G) (ad : Nat → Nat) (cS cB : ClassId) (nx lx gg ww : Nat → Nat) (tt : Nat → Int32) (lr : Int32) (ff : Nat → Nat) (bl : Bool) (a b : Nat) (h1 : a < 8) (h2 : b < 8) (hgg : ∀ j, j < 8 → gg j < 8) : Met l yX0_staysTogether (ws_ yX0_staysTogether cX0_staysTogether 6 (some .boolean)) ({ frames := 2, cells := 0, slots := 0, locals := 48 }) (va_Pc [.ref (ad 0), .int (nI bl.toNat), .int (nI a), .int (nI b)] (pB G vwCl (xW ad cS cB nx lx gg ww tt lr ff) (xT cS cB))) (vp_Si (fun r => r = nI (zSt3 (if bl then lx else nx) gg a b).toNat)) 0 0 (fun _ => False) := by
  refine pe_start (by decide) (Nat.le_of_ble_eq_true rfl) ?_
  intro p e s m below meth c hx hb hr hml hown hts hlocks hB ls hl
  have hown : s.vm.findClass RX0 = some m.cls := hown
  have S : CallFix p m c cX0_staysTogether 6 s _ lw_all RX0 := ⟨hx, hb, hml, hown, hts⟩
  have hP := hB.1
  have hK := hB.2
  have hl : lv_has ls 6 [(0, .ref (ad 0)), (1, .int (nI bl.toNat)), (2, .int (nI a)), (3, .int (nI b))] := hl
  refine lv_iconst (v := nI 0) hx hb dX0_staysTogether_0 (by decide +kernel) ?_
  refine lv_istore (lv' := [(4, .int (nI 0)), (0, .ref (ad 0)), (1, .int (nI bl.toNat)), (2, .int (nI a)), (3, .int (nI b))]) hx hb dX0_staysTogether_1 hl (by decide) rfl (fun ls hl => ?_)
  refine pe_loopR (3) 3 (fun q ls => lv_has ls 6 [(0, .ref (ad 0)), (1, .int (nI bl.toNat)), (2, .int (nI a)), (3, .int (nI b)), (4, .int (nI q))] ∧ zSt3T (if bl then lx else nx) gg a b q = true) (fun q hi_q ih_q ls hl => ?_) (0) (by omega) ls (⟨lv_sub hl [1, 2, 3, 4, 0] rfl, rfl⟩)
  obtain ⟨hl, hq⟩ := hl
  refine lv_iload hx hb dX0_staysTogether_3 (lv_at hl 4 rfl) ?_
  refine lv_iconst (v := nI 3) hx hb dX0_staysTogether_5 (by decide +kernel) ?_
  refine pe_icmp_ge hx hb 40 dX0_staysTogether_6 (by decide) (by omega) (by omega) (fun c6 => ?_) (fun c6 => ?_)
  · obtain rfl : q = 3 := by omega
    refine lv_iconst (v := nI 1) hx hb dX0_staysTogether_40 (by decide +kernel) ?_
    exact pe_zretR (b := true) hx hb hr hlocks dX0_staysTogether_41 (by show nI _ = nI _; rw [show zSt3 (if bl then lx else nx) gg a b = true from hq])
  · refine lv_aload_n hx hb dX0_staysTogether_9 rfl (lv_at hl 0 rfl) ?_
    refine lv_iload_n hx hb dX0_staysTogether_10 rfl (lv_at hl 1 rfl) ?_
    refine lv_iload_n hx hb dX0_staysTogether_11 rfl (lv_at hl 2 rfl) ?_
    refine lv_iload hx hb dX0_staysTogether_12 (lv_at hl 4 rfl) ?_
    refine pe_cV (n := 3) (rest := []) S hK hP (m_X0_groupsAfter l G ad cS cB nx lx gg ww tt lr ff bl a q (by omega) (by omega) hgg) (ci := 0) rfl rfl rfl q118 q120 qs5 q32 q121 ⟨rfl, hd_X0_groupsAfter⟩ rfl ⟨rfl, rfl⟩ ⟨Nat.le_of_ble_eq_true rfl, Nat.le_of_ble_eq_true rfl⟩ ⟨Nat.le_of_ble_eq_true rfl, Nat.le_of_ble_eq_true rfl⟩ hl.1 rfl (Nat.le_of_ble_eq_true rfl) dX0_staysTogether_14 (fun r hr_ => ?_)
    subst hr_
    refine lv_istore (lv' := [(5, .int (nI (zGa (if bl then lx else nx) gg a q))), (0, .ref (ad 0)), (1, .int (nI bl.toNat)), (2, .int (nI a)), (3, .int (nI b)), (4, .int (nI q))]) hx hb dX0_staysTogether_17 hl (by decide) rfl (fun ls hl => ?_)
    refine lv_iload hx hb dX0_staysTogether_19 (lv_at hl 0 rfl) ?_
    refine lv_aload_n hx hb dX0_staysTogether_21 rfl (lv_at hl 1 rfl) ?_
    refine lv_iload_n hx hb dX0_staysTogether_22 rfl (lv_at hl 2 rfl) ?_
    refine lv_iload_n hx hb dX0_staysTogether_23 rfl (lv_at hl 4 rfl) ?_
    refine lv_iload hx hb dX0_staysTogether_24 (lv_at hl 5 rfl) ?_
    refine pe_cV (n := 3) (rest := [.int (nI (zGa (if bl then lx else nx) gg a q))]) S hK hP (m_X0_groupsAfter l G ad cS cB nx lx gg ww tt lr ff bl b q (by omega) (by omega) hgg) (ci := 0) rfl rfl rfl q118 q120 qs5 q32 q121 ⟨rfl, hd_X0_groupsAfter⟩ rfl ⟨rfl, rfl⟩ ⟨Nat.le_of_ble_eq_true rfl, Nat.le_of_ble_eq_true rfl⟩ ⟨Nat.le_of_ble_eq_true rfl, Nat.le_of_ble_eq_true rfl⟩ hl.1 rfl (Nat.le_of_ble_eq_true rfl) dX0_staysTogether_26 (fun r hr_ => ?_)
    subst hr_
    refine pe_icmp_eq hx hb 34 dX0_staysTogether_29 (by decide) (z_lt31 (zGa_lt hgg)) (z_lt31 (zGa_lt hgg)) (fun c29 => ?_) (fun c29 => ?_)
    · refine pe_inc (k := 5) (a := q) (lv' := [(4, .int (nI (q + 1))), (5, .int (nI (zGa (if bl then lx else nx) gg a q))), (0, .ref (ad 0)), (1, .int (nI bl.toNat)), (2, .int (nI a)), (3, .int (nI b))]) hx hb dX0_staysTogether_34 hl rfl (by decide) rfl (fun ls hl => ?_)
      refine lv_goto (tgt := 3) hx hb dX0_staysTogether_37 (by decide) ?_
      exact ih_q (by omega) ls (⟨lv_sub hl [2, 3, 4, 5, 0] rfl, zSt3_n hq c29⟩)
    · refine lv_iconst (v := nI 0) hx hb dX0_staysTogether_32 (by decide +kernel) ?_
      exact pe_zretR (b := false) hx hb hr hlocks dX0_staysTogether_33 (by show nI _ = nI _; rw [zSt3_f (by omega) c29])
theorem hd_X0_placeFor : yX0_placeFor.cls ≠ "java/lang/invoke/MethodHandle" ∧ yX0_placeFor.cls ≠ "java/lang/invoke/VarHandle" ∧ (parseMethodDescriptor yX0_placeFor.desc).map (fun d => d.parameters.length) = some 2 := by decide +kernel
set_option maxHeartbeats 4000000 in
theorem m_X0_placeFor (l : Launch) (G : va_G) (ad : Nat → Nat) (cS cB : ClassId) (nx lx gg ww : Nat → Nat) (tt : Nat → Int32) (lr : Int32) (ff : Nat → Nat) (bl : Bool) (a : Nat) (h1 : a < 8) (hgg : ∀ j, j < 8 → gg j < 8) (hww : ∀ j, j < a → ww j < 8) : Met l yX0_placeFor (ws_ yX0_placeFor cX0_placeFor 4 (some .int)) ({ frames := 3, cells := 0, slots := 0, locals := 73 }) (va_Pc [.ref (ad 0), .int (nI bl.toNat), .int (nI a)] (pB G vwCl (xW ad cS cB nx lx gg ww tt lr ff) (xT cS cB))) (vp_Si (fun r => r = nI (zPf (if bl then lx else nx) gg ww a))) 0 0 (fun _ => False) := by
  refine pe_start (by decide) (Nat.le_of_ble_eq_true rfl) ?_
  intro p e s m below meth c hx hb hr hml hown hts hlocks hB ls hl
  have hown : s.vm.findClass RX0 = some m.cls := hown
  have S : CallFix p m c cX0_placeFor 4 s _ lw_all RX0 := ⟨hx, hb, hml, hown, hts⟩
  have hP := hB.1
  have hK := hB.2
  have hl : lv_has ls 4 [(0, .ref (ad 0)), (1, .int (nI bl.toNat)), (2, .int (nI a))] := hl
  refine lv_iconst (v := nI 0) hx hb dX0_placeFor_0 (by decide +kernel) ?_
  refine lv_istore_n (lv' := [(3, .int (nI 0)), (0, .ref (ad 0)), (1, .int (nI bl.toNat)), (2, .int (nI a))]) hx hb dX0_placeFor_1 rfl hl (by decide) rfl (fun ls hl => ?_)
  refine pe_loopR (a) 2 (fun b ls => lv_has ls 4 [(0, .ref (ad 0)), (1, .int (nI bl.toNat)), (2, .int (nI a)), (3, .int (nI b))] ∧ zPf (if bl then lx else nx) gg ww a = fsF (zPc (if bl then lx else nx) gg ww a) (a - b) b) (fun b hi_b ih_b ls hl => ?_) (0) (by omega) ls (⟨lv_sub hl [1, 2, 3, 0] rfl, rfl⟩)
  obtain ⟨hl, hq⟩ := hl
  refine lv_iload_n hx hb dX0_placeFor_2 rfl (lv_at hl 3 rfl) ?_
  refine lv_iload_n hx hb dX0_placeFor_3 rfl (lv_at hl 2 rfl) ?_
  refine pe_icmp_ge hx hb 50 dX0_placeFor_4 (by decide) (by omega) (by omega) (fun c4 => ?_) (fun c4 => ?_)
  · refine lv_iload_n hx hb dX0_placeFor_50 rfl (lv_at hl 2 rfl) ?_
    exact pe_iretR (v := (nI a)) hx hb hr hlocks dX0_placeFor_51 (by show nI _ = nI _; exact zPf_e hq c4 hi_b)
  · refine lv_aload_n hx hb dX0_placeFor_7 rfl (lv_at hl 0 rfl) ?_
    refine va_get (D := G) (ci := 0) (v := .ref (ad 3)) (C := RX0) (T := TX0) (N := 7) hx hb hts in_X0 hown hK hP 0 rfl rfl 2 (by decide) (hts _ q44) (fun _ h9 => h9) rfl dX0_placeFor_8 ?_
    refine lv_iload_n hx hb dX0_placeFor_11 rfl (lv_at hl 3 rfl) ?_
    refine pe_bald hx hb hK hP 3 1 rfl rfl dX0_placeFor_12 b (rfl) (by omega) (by decide) (v := (nI (gg b))) rfl ?_
    refine lv_aload_n hx hb dX0_placeFor_13 rfl (lv_at hl 0 rfl) ?_
    refine va_get (D := G) (ci := 0) (v := .ref (ad 3)) (C := RX0) (T := TX0) (N := 7) hx hb hts in_X0 hown hK hP 0 rfl rfl 2 (by decide) (hts _ q44) (fun _ h9 => h9) rfl dX0_placeFor_14 ?_
    refine lv_iload_n hx hb dX0_placeFor_17 rfl (lv_at hl 2 rfl) ?_
    refine pe_bald hx hb hK hP 3 1 rfl rfl dX0_placeFor_18 a (rfl) (by omega) (by decide) (v := (nI (gg a))) rfl ?_
    refine pe_icmp_ne hx hb 44 dX0_placeFor_19 (by decide) (Nat.lt_trans (hgg b (by omega)) (by decide)) (Nat.lt_trans (hgg a (by omega)) (by decide)) (fun c19 => ?_) (fun c19 => ?_)
    · refine pe_inc (k := 3) (a := b) (lv' := [(3, .int (nI (b + 1))), (0, .ref (ad 0)), (1, .int (nI bl.toNat)), (2, .int (nI a))]) hx hb dX0_placeFor_44 hl rfl (by decide) rfl (fun ls hl => ?_)
      refine lv_goto (tgt := 2) hx hb dX0_placeFor_47 (by decide) ?_
      exact ih_b (by omega) ls (⟨lv_sub hl [1, 2, 3, 0] rfl, zPf_n hq (by omega) (by unfold zPc; simp [c4, c19])⟩)
    · refine lv_aload_n hx hb dX0_placeFor_22 rfl (lv_at hl 0 rfl) ?_
      refine va_get (D := G) (ci := 0) (v := .ref (ad 4)) (C := RX0) (T := TX0) (N := 7) hx hb hts in_X0 hown hK hP 0 rfl rfl 3 (by decide) (hts _ q45) (fun _ h9 => h9) rfl dX0_placeFor_23 ?_
      refine lv_iload_n hx hb dX0_placeFor_26 rfl (lv_at hl 3 rfl) ?_
      refine pe_bald hx hb hK hP 4 1 rfl rfl dX0_placeFor_27 b (rfl) (by omega) (by decide) (v := (nI (ww b))) rfl ?_
      refine lv_iload_n hx hb dX0_placeFor_28 rfl (lv_at hl 3 rfl) ?_
      refine pe_icmp_ne hx hb 44 dX0_placeFor_29 (by decide) (Nat.lt_trans (hww b (by omega)) (by decide)) (by omega) (fun c29 => ?_) (fun c29 => ?_)
      · refine pe_inc (k := 3) (a := b) (lv' := [(3, .int (nI (b + 1))), (0, .ref (ad 0)), (1, .int (nI bl.toNat)), (2, .int (nI a))]) hx hb dX0_placeFor_44 hl rfl (by decide) rfl (fun ls hl => ?_)
        refine lv_goto (tgt := 2) hx hb dX0_placeFor_47 (by decide) ?_
        exact ih_b (by omega) ls (⟨lv_sub hl [1, 2, 3, 0] rfl, zPf_n hq (by omega) (by unfold zPc; simp [c4, c19, c29])⟩)
      · refine lv_aload_n hx hb dX0_placeFor_32 rfl (lv_at hl 0 rfl) ?_
        refine lv_iload_n hx hb dX0_placeFor_33 rfl (lv_at hl 1 rfl) ?_
        refine lv_iload_n hx hb dX0_placeFor_34 rfl (lv_at hl 2 rfl) ?_
        refine lv_iload_n hx hb dX0_placeFor_35 rfl (lv_at hl 3 rfl) ?_
        refine pe_cV (n := 3) (rest := []) S hK hP (m_X0_staysTogether l G ad cS cB nx lx gg ww tt lr ff bl a b (by omega) (by omega) hgg) (ci := 0) rfl rfl rfl q114 q116 qs4 q32 q117 ⟨rfl, hd_X0_staysTogether⟩ rfl ⟨rfl, rfl⟩ ⟨Nat.le_of_ble_eq_true rfl, Nat.le_of_ble_eq_true rfl⟩ ⟨Nat.le_of_ble_eq_true rfl, Nat.le_of_ble_eq_true rfl⟩ hl.1 rfl (Nat.le_of_ble_eq_true rfl) dX0_placeFor_36 (fun r hr_ => ?_)
        subst hr_
        refine pe_ifeqB hx hb 44 dX0_placeFor_39 (by decide) (fun c39 => ?_) (fun c39 => ?_)
        · refine pe_inc (k := 3) (a := b) (lv' := [(3, .int (nI (b + 1))), (0, .ref (ad 0)), (1, .int (nI bl.toNat)), (2, .int (nI a))]) hx hb dX0_placeFor_44 hl rfl (by decide) rfl (fun ls hl => ?_)
          refine lv_goto (tgt := 2) hx hb dX0_placeFor_47 (by decide) ?_
          exact ih_b (by omega) ls (⟨lv_sub hl [1, 2, 3, 0] rfl, zPf_n hq (by omega) (by unfold zPc; simp [c4, c19, c29, c39])⟩)
        · refine lv_iload_n hx hb dX0_placeFor_42 rfl (lv_at hl 3 rfl) ?_
          exact pe_iretR (v := (nI b)) hx hb hr hlocks dX0_placeFor_43 (by show nI _ = nI _; exact zPf_y hq (by omega) (by unfold zPc; simp [c4, c19, c29, c39]))
theorem hd_X0_note : yX0_note.cls ≠ "java/lang/invoke/MethodHandle" ∧ yX0_note.cls ≠ "java/lang/invoke/VarHandle" ∧ (parseMethodDescriptor yX0_note.desc).map (fun d => d.parameters.length) = some 2 := by decide +kernel
set_option maxHeartbeats 4000000 in
theorem m_X0_note (l : Launch) (G : va_G) (ad : Nat → Nat) (cS cB : ClassId) (nx lx gg ww : Nat → Nat) (tt : Nat → Int32) (lr : Int32) (ff : Nat → Nat) (A : Nat → Prop) (hA : xD A ad) (a rd : Nat) (h1 : a < 8) (h2 : rd < 128) (hgg : ∀ j, j < 8 → gg j < 8) (hww : ∀ j, j < 8 → ww j < 8) : Met l yX0_note (ws_ yX0_note cX0_note 5 (some .boolean)) ({ frames := 0, cells := 0, slots := 0, locals := 0 }) (va_Pc [.ref (ad 0), .int (nI a), .int (nI rd)] (pB G vwCl (xW ad cS cB nx lx gg ww tt lr ff) (xT cS cB))) (pQ A (fun v H => v = some (.int (nI (zNo gg ww a).toNat)) ∧ va_P G vwCl (xW ad cS cB nx lx gg ww (zNt gg ww rd a 8 tt) lr ff) H)) 0 0 A := by
  refine pe_start (by decide) (Nat.le_of_ble_eq_true rfl) ?_
  intro p e s m below meth c hx hb hr hml hown hts hlocks hB ls hl
  have hown : s.vm.findClass RX0 = some m.cls := hown
  have S : CallFix p m c cX0_note 5 s _ lw_all RX0 := ⟨hx, hb, hml, hown, hts⟩
  have hP := hB.1
  have hK := hB.2
  have hS : va_S A s.heap s.heap [] := va_S.rf
  have hl : lv_has ls 5 [(0, .ref (ad 0)), (1, .int (nI a)), (2, .int (nI rd))] := hl
  refine lv_iconst (v := nI 0) hx hb dX0_note_0 (by decide +kernel) ?_
  refine lv_istore_n (lv' := [(3, .int (nI 0)), (0, .ref (ad 0)), (1, .int (nI a)), (2, .int (nI rd))]) hx hb dX0_note_1 rfl hl (by decide) rfl (fun ls hl => ?_)
  refine lv_iconst (v := nI 0) hx hb dX0_note_2 (by decide +kernel) ?_
  refine lv_istore (lv' := [(4, .int (nI 0)), (3, .int (nI 0)), (0, .ref (ad 0)), (1, .int (nI a)), (2, .int (nI rd))]) hx hb dX0_note_3 hl (by decide) rfl (fun ls hl => ?_)
  refine pe_loop (8) 5 (fun b H locs ls => va_P G vwCl (xW ad cS cB nx lx gg ww (zNt gg ww rd a b tt) lr ff) H ∧ va_S A s.heap H locs ∧ lv_has ls 5 [(0, .ref (ad 0)), (1, .int (nI a)), (2, .int (nI rd)), (3, .int (nI (anF (fun j => decide (gg a = gg j) && !decide (ww a = ww j)) (b)).toNat)), (4, .int (nI b))]) (fun b hi_b ih_b H locs ls hl => ?_) (0) (by omega) _ _ ls (⟨by rw [zNt_0]; exact hP, hS, lv_sub hl [2, 3, 4, 1, 0] rfl⟩)
  obtain ⟨hP, hS, hl⟩ := hl
  refine lv_iload hx hb dX0_note_5 (lv_at hl 4 rfl) ?_
  refine lv_bipush (v := nI 8) hx hb dX0_note_7 (by decide +kernel) ?_
  refine pe_icmp_ge hx hb 66 dX0_note_9 (by decide) (by omega) (by omega) (fun c9 => ?_) (fun c9 => ?_)
  · obtain rfl : b = 8 := by omega
    refine lv_iload_n hx hb dX0_note_66 rfl (lv_at hl 3 rfl) ?_
    exact pe_zret (b := (anF (fun j => decide (gg a = gg j) && !decide (ww a = ww j)) (8))) hx hb hr hlocks hS dX0_note_67 (⟨rfl, hP⟩)
  · refine lv_aload_n hx hb dX0_note_12 rfl (lv_at hl 0 rfl) ?_
    refine va_get (D := G) (ci := 0) (v := .ref (ad 3)) (C := RX0) (T := TX0) (N := 7) hx hb hts in_X0 hown hK hP 0 rfl rfl 2 (by decide) (hts _ q44) (fun _ h9 => h9) rfl dX0_note_13 ?_
    refine lv_iload_n hx hb dX0_note_16 rfl (lv_at hl 1 rfl) ?_
    refine pe_bald hx hb hK hP 3 1 rfl rfl dX0_note_17 a (rfl) (by omega) (by decide) (v := (nI (gg a))) rfl ?_
    refine lv_aload_n hx hb dX0_note_18 rfl (lv_at hl 0 rfl) ?_
    refine va_get (D := G) (ci := 0) (v := .ref (ad 3)) (C := RX0) (T := TX0) (N := 7) hx hb hts in_X0 hown hK hP 0 rfl rfl 2 (by decide) (hts _ q44) (fun _ h9 => h9) rfl dX0_note_19 ?_
    refine lv_iload hx hb dX0_note_22 (lv_at hl 4 rfl) ?_
    refine pe_bald hx hb hK hP 3 1 rfl rfl dX0_note_24 b (rfl) (by omega) (by decide) (v := (nI (gg b))) rfl ?_
    refine pe_icmp_ne hx hb 60 dX0_note_25 (by decide) (Nat.lt_trans (hgg a (by omega)) (by decide)) (Nat.lt_trans (hgg b (by omega)) (by decide)) (fun c25 => ?_) (fun c25 => ?_)
    · refine pe_inc (k := 4) (a := b) (lv' := [(4, .int (nI (b + 1))), (0, .ref (ad 0)), (1, .int (nI a)), (2, .int (nI rd)), (3, .int (nI (anF (fun j => decide (gg a = gg j) && !decide (ww a = ww j)) (b)).toNat))]) hx hb dX0_note_60 hl rfl (by decide) rfl (fun ls hl => ?_)
      refine lv_goto (tgt := 5) hx hb dX0_note_63 (by decide) ?_
      exact ih_b (by omega) _ _ ls (⟨by rw [← zNt_n (by simp [c9, c25])]; exact hP, hS, by rw [show anF (fun j => decide (gg a = gg j) && !decide (ww a = ww j)) (b + 1) = anF (fun j => decide (gg a = gg j) && !decide (ww a = ww j)) (b) from by simp [anF, c9, c25]]; exact lv_sub hl [1, 2, 3, 4, 0] rfl⟩)
    · refine lv_aload_n hx hb dX0_note_28 rfl (lv_at hl 0 rfl) ?_
      refine va_get (D := G) (ci := 0) (v := .ref (ad 4)) (C := RX0) (T := TX0) (N := 7) hx hb hts in_X0 hown hK hP 0 rfl rfl 3 (by decide) (hts _ q45) (fun _ h9 => h9) rfl dX0_note_29 ?_
      refine lv_iload_n hx hb dX0_note_32 rfl (lv_at hl 1 rfl) ?_
      refine pe_bald hx hb hK hP 4 1 rfl rfl dX0_note_33 a (rfl) (by omega) (by decide) (v := (nI (ww a))) rfl ?_
      refine lv_aload_n hx hb dX0_note_34 rfl (lv_at hl 0 rfl) ?_
      refine va_get (D := G) (ci := 0) (v := .ref (ad 4)) (C := RX0) (T := TX0) (N := 7) hx hb hts in_X0 hown hK hP 0 rfl rfl 3 (by decide) (hts _ q45) (fun _ h9 => h9) rfl dX0_note_35 ?_
      refine lv_iload hx hb dX0_note_38 (lv_at hl 4 rfl) ?_
      refine pe_bald hx hb hK hP 4 1 rfl rfl dX0_note_40 b (rfl) (by omega) (by decide) (v := (nI (ww b))) rfl ?_
      refine pe_icmp_eq hx hb 60 dX0_note_41 (by decide) (Nat.lt_trans (hww a (by omega)) (by decide)) (Nat.lt_trans (hww b (by omega)) (by decide)) (fun c41 => ?_) (fun c41 => ?_)
      · refine pe_inc (k := 4) (a := b) (lv' := [(4, .int (nI (b + 1))), (0, .ref (ad 0)), (1, .int (nI a)), (2, .int (nI rd)), (3, .int (nI (anF (fun j => decide (gg a = gg j) && !decide (ww a = ww j)) (b)).toNat))]) hx hb dX0_note_60 hl rfl (by decide) rfl (fun ls hl => ?_)
        refine lv_goto (tgt := 5) hx hb dX0_note_63 (by decide) ?_
        exact ih_b (by omega) _ _ ls (⟨by rw [← zNt_n (by simp [c9, c25, c41])]; exact hP, hS, by rw [show anF (fun j => decide (gg a = gg j) && !decide (ww a = ww j)) (b + 1) = anF (fun j => decide (gg a = gg j) && !decide (ww a = ww j)) (b) from by simp [anF, c9, c25, c41]]; exact lv_sub hl [1, 2, 3, 4, 0] rfl⟩)
      · refine lv_aload_n hx hb dX0_note_44 rfl (lv_at hl 0 rfl) ?_
        refine va_get (D := G) (ci := 0) (v := .ref (ad 5)) (C := RX0) (T := TX0) (N := 7) hx hb hts in_X0 hown hK hP 0 rfl rfl 4 (by decide) (hts _ q46) (fun _ h9 => h9) rfl dX0_note_45 ?_
        refine lv_iload_n hx hb dX0_note_48 rfl (lv_at hl 1 rfl) ?_
        refine lv_bipush (v := nI 8) hx hb dX0_note_49 (by decide +kernel) ?_
        refine pe_imul hx hb dX0_note_51 ?_
        refine lv_iload hx hb dX0_note_52 (lv_at hl 4 rfl) ?_
        refine pe_iadd hx hb dX0_note_54 ?_
        refine lv_iload_n hx hb dX0_note_55 rfl (lv_at hl 2 rfl) ?_
        refine pe_i2b hx hb (by omega) dX0_note_56 ?_
        refine pe_bast hx hb hK hP (hA.D _ _ _ _ _ _ _ _ _) hS 5 1 rfl rfl dX0_note_57 (8 * a + b) (by omega) (by omega) (by decide) (pe_n8 (h2)) (f' := va_up (zNt gg ww rd a b tt) (8 * a + b) (nI rd)) (rfl) (fun H locs hP hS => ?_)
        have hP : va_P G vwCl (xW ad cS cB nx lx gg ww (va_up (zNt gg ww rd a b tt) (8 * a + b) (nI rd)) lr ff) H := hP
        refine lv_iconst (v := nI 1) hx hb dX0_note_58 (by decide +kernel) ?_
        refine lv_istore_n (lv' := [(3, .int (nI 1)), (0, .ref (ad 0)), (1, .int (nI a)), (2, .int (nI rd)), (4, .int (nI b))]) hx hb dX0_note_59 rfl hl (by decide) rfl (fun ls hl => ?_)
        refine pe_inc (k := 4) (a := b) (lv' := [(4, .int (nI (b + 1))), (3, .int (nI 1)), (0, .ref (ad 0)), (1, .int (nI a)), (2, .int (nI rd))]) hx hb dX0_note_60 hl rfl (by decide) rfl (fun ls hl => ?_)
        refine lv_goto (tgt := 5) hx hb dX0_note_63 (by decide) ?_
        exact ih_b (by omega) _ _ ls (⟨by rw [← zNt_y (by omega) c25 c41]; exact hP, hS, by rw [show anF (fun j => decide (gg a = gg j) && !decide (ww a = ww j)) (b + 1) = true from by simp [anF, c9, c25, c41]]; exact lv_sub hl [2, 3, 4, 1, 0] rfl⟩)
theorem hd_X0_countGroups : yX0_countGroups.cls ≠ "java/lang/invoke/MethodHandle" ∧ yX0_countGroups.cls ≠ "java/lang/invoke/VarHandle" ∧ (parseMethodDescriptor yX0_countGroups.desc).map (fun d => d.parameters.length) = some 0 := by decide +kernel
set_option maxHeartbeats 4000000 in
theorem m_X0_countGroups (l : Launch) (G : va_G) (ad : Nat → Nat) (cS cB : ClassId) (nx lx gg ww : Nat → Nat) (tt : Nat → Int32) (lr : Int32) (ff : Nat → Nat) (hgg : ∀ j, j < 8 → gg j < 8) : Met l yX0_countGroups (ws_ yX0_countGroups cX0_countGroups 3 (some .int)) ({ frames := 0, cells := 0, slots := 0, locals := 0 }) (va_Pc [.ref (ad 0)] (pB G vwCl (xW ad cS cB nx lx gg ww tt lr ff) (xT cS cB))) (vp_Si (fun r => r = nI (smF (fun a => (decide (gg a = a)).toNat) 8))) 0 0 (fun _ => False) := by
  refine pe_start (by decide) (Nat.le_of_ble_eq_true rfl) ?_
  intro p e s m below meth c hx hb hr hml hown hts hlocks hB ls hl
  have hown : s.vm.findClass RX0 = some m.cls := hown
  have S : CallFix p m c cX0_countGroups 3 s _ lw_all RX0 := ⟨hx, hb, hml, hown, hts⟩
  have hP := hB.1
  have hK := hB.2
  have hl : lv_has ls 3 [(0, .ref (ad 0))] := hl
  refine lv_iconst (v := nI 0) hx hb dX0_countGroups_0 (by decide +kernel) ?_
  refine lv_istore_n (lv' := [(1, .int (nI 0)), (0, .ref (ad 0))]) hx hb dX0_countGroups_1 rfl hl (by decide) rfl (fun ls hl => ?_)
  refine lv_iconst (v := nI 0) hx hb dX0_countGroups_2 (by decide +kernel) ?_
  refine lv_istore_n (lv' := [(2, .int (nI 0)), (1, .int (nI 0)), (0, .ref (ad 0))]) hx hb dX0_countGroups_3 rfl hl (by decide) rfl (fun ls hl => ?_)
  refine pe_loopR (8) 4 (fun i ls => lv_has ls 3 [(0, .ref (ad 0)), (1, .int (nI (smF (fun a => (decide (gg a = a)).toNat) (i)))), (2, .int (nI i))]) (fun i hi_i ih_i ls hl => ?_) (0) (by omega) ls (lv_sub hl [2, 1, 0] rfl)
  refine lv_iload_n hx hb dX0_countGroups_4 rfl (lv_at hl 2 rfl) ?_
  refine lv_bipush (v := nI 8) hx hb dX0_countGroups_5 (by decide +kernel) ?_
  refine pe_icmp_ge hx hb 34 dX0_countGroups_7 (by decide) (by omega) (by omega) (fun c7 => ?_) (fun c7 => ?_)
  · obtain rfl : i = 8 := by omega
    refine lv_iload_n hx hb dX0_countGroups_34 rfl (lv_at hl 1 rfl) ?_
    exact pe_iretR (v := (nI (smF (fun a => (decide (gg a = a)).toNat) (8)))) hx hb hr hlocks dX0_countGroups_35 (by first | rfl | simp [c7])
  · refine lv_iload_n hx hb dX0_countGroups_10 rfl (lv_at hl 1 rfl) ?_
    refine lv_aload_n hx hb dX0_countGroups_11 rfl (lv_at hl 0 rfl) ?_
    refine va_get (D := G) (ci := 0) (v := .ref (ad 3)) (C := RX0) (T := TX0) (N := 7) hx hb hts in_X0 hown hK hP 0 rfl rfl 2 (by decide) (hts _ q44) (fun _ h9 => h9) rfl dX0_countGroups_12 ?_
    refine lv_iload_n hx hb dX0_countGroups_15 rfl (lv_at hl 2 rfl) ?_
    refine pe_bald hx hb hK hP 3 1 rfl rfl dX0_countGroups_16 i (rfl) (by omega) (by decide) (v := (nI (gg i))) rfl ?_
    refine lv_iload_n hx hb dX0_countGroups_17 rfl (lv_at hl 2 rfl) ?_
    refine pe_join 26 (.int (nI ((decide (gg i = i)).toNat))) [.int (nI (smF (fun a => (decide (gg a = a)).toNat) (i)))] (fun K26 => ?_) ?_
    · refine pe_icmp_ne hx hb 25 dX0_countGroups_18 (by decide) (Nat.lt_trans (hgg i (by omega)) (by decide)) (by omega) (fun c18 => ?_) (fun c18 => ?_)
      · refine lv_iconst (v := nI 0) hx hb dX0_countGroups_25 (by decide +kernel) ?_
        exact pe_top (by first | rfl | simp [c18]) K26
      · refine lv_iconst (v := nI 1) hx hb dX0_countGroups_21 (by decide +kernel) ?_
        refine lv_goto (tgt := 26) hx hb dX0_countGroups_22 (by decide) ?_
        exact pe_top (by first | rfl | simp [c18]) K26
    · refine pe_iadd hx hb dX0_countGroups_26 ?_
      refine lv_istore_n (lv' := [(1, .int (nI ((smF (fun a => (decide (gg a = a)).toNat) (i)) + ((decide (gg i = i)).toNat)))), (0, .ref (ad 0)), (2, .int (nI i))]) hx hb dX0_countGroups_27 rfl hl (by decide) rfl (fun ls hl => ?_)
      refine pe_inc (k := 2) (a := i) (lv' := [(2, .int (nI (i + 1))), (1, .int (nI ((smF (fun a => (decide (gg a = a)).toNat) (i)) + ((decide (gg i = i)).toNat)))), (0, .ref (ad 0))]) hx hb dX0_countGroups_28 hl rfl (by decide) rfl (fun ls hl => ?_)
      refine lv_goto (tgt := 4) hx hb dX0_countGroups_31 (by decide) ?_
      exact ih_i (by omega) ls (lv_sub hl [2, 1, 0] rfl)
theorem hd_X0_before : yX0_before.cls ≠ "java/lang/invoke/MethodHandle" ∧ yX0_before.cls ≠ "java/lang/invoke/VarHandle" ∧ (parseMethodDescriptor yX0_before.desc).map (fun d => d.parameters.length) = some 2 := by decide +kernel
set_option maxHeartbeats 4000000 in
theorem m_X0_before (l : Launch) (G : va_G) (ad : Nat → Nat) (cS cB : ClassId) (nx lx gg ww : Nat → Nat) (tt : Nat → Int32) (lr : Int32) (ff : Nat → Nat) (q x : Nat) (h1 : q < 3) (hnx : ∀ j, j < 24 → nx j < 256) : Met l yX0_before (ws_ yX0_before cX0_before 5 (some .int)) ({ frames := 0, cells := 0, slots := 0, locals := 0 }) (va_Pc [.ref (ad 0), .int (nI q), .int (nI x)] (pB G vwCl (xW ad cS cB nx lx gg ww tt lr ff) (xT cS cB))) (vp_Si (fun r => r = nI (zBf nx q x))) 0 0 (fun _ => False) := by
  refine pe_start (by decide) (Nat.le_of_ble_eq_true rfl) ?_
  intro p e s m below meth c hx hb hr hml hown hts hlocks hB ls hl
  have hown : s.vm.findClass RX0 = some m.cls := hown
  have S : CallFix p m c cX0_before 5 s _ lw_all RX0 := ⟨hx, hb, hml, hown, hts⟩
  have hP := hB.1
  have hK := hB.2
  have hl : lv_has ls 5 [(0, .ref (ad 0)), (1, .int (nI q)), (2, .int (nI x))] := hl
  refine lv_iconst (v := nI 0) hx hb dX0_before_0 (by decide +kernel) ?_
  refine lv_istore_n (lv' := [(3, .int (nI 0)), (0, .ref (ad 0)), (1, .int (nI q)), (2, .int (nI x))]) hx hb dX0_before_1 rfl hl (by decide) rfl (fun ls hl => ?_)
  refine lv_iconst (v := nI 0) hx hb dX0_before_2 (by decide +kernel) ?_
  refine lv_istore (lv' := [(4, .int (nI 0)), (3, .int (nI 0)), (0, .ref (ad 0)), (1, .int (nI q)), (2, .int (nI x))]) hx hb dX0_before_3 hl (by decide) rfl (fun ls hl => ?_)
  refine pe_loopR (8) 5 (fun b ls => lv_has ls 5 [(0, .ref (ad 0)), (1, .int (nI q)), (2, .int (nI x)), (3, .int (nI (orF 0 (fun j => if (nx (8 * q + j) &&& x) = 0 then 0 else 2 ^ j) (b)))), (4, .int (nI b))]) (fun b hi_b ih_b ls hl => ?_) (0) (by omega) ls (lv_sub hl [2, 3, 4, 1, 0] rfl)
  refine lv_iload hx hb dX0_before_5 (lv_at hl 4 rfl) ?_
  refine lv_bipush (v := nI 8) hx hb dX0_before_7 (by decide +kernel) ?_
  refine pe_icmp_ge hx hb 46 dX0_before_9 (by decide) (by omega) (by omega) (fun c9 => ?_) (fun c9 => ?_)
  · obtain rfl : b = 8 := by omega
    refine lv_iload_n hx hb dX0_before_46 rfl (lv_at hl 3 rfl) ?_
    exact pe_iretR (v := (nI (orF 0 (fun j => if (nx (8 * q + j) &&& x) = 0 then 0 else 2 ^ j) (8)))) hx hb hr hlocks dX0_before_47 (by first | rfl | simp [c9])
  · refine lv_iload_n hx hb dX0_before_12 rfl (lv_at hl 3 rfl) ?_
    refine lv_aload_n hx hb dX0_before_13 rfl (lv_at hl 0 rfl) ?_
    refine va_get (D := G) (ci := 0) (v := .ref (ad 1)) (C := RX0) (T := TX0) (N := 7) hx hb hts in_X0 hown hK hP 0 rfl rfl 0 (by decide) (hts _ q42) (fun _ h9 => h9) rfl dX0_before_14 ?_
    refine lv_iload_n hx hb dX0_before_17 rfl (lv_at hl 1 rfl) ?_
    refine lv_bipush (v := nI 8) hx hb dX0_before_18 (by decide +kernel) ?_
    refine pe_imul hx hb dX0_before_20 ?_
    refine lv_iload hx hb dX0_before_21 (lv_at hl 4 rfl) ?_
    refine pe_iadd hx hb dX0_before_23 ?_
    refine pe_sald hx hb hK hP 1 0 rfl rfl dX0_before_24 (8 * q + b) (by omega) (by omega) (by decide) (v := (nI (nx (8 * q + b)))) rfl ?_
    refine lv_iload_n hx hb dX0_before_25 rfl (lv_at hl 2 rfl) ?_
    refine pe_iand hx hb dX0_before_26 ?_
    refine pe_join 38 (.int (nI (if (nx (8 * q + b) &&& x) = 0 then 0 else 2 ^ b))) [.int (nI (orF 0 (fun j => if (nx (8 * q + j) &&& x) = 0 then 0 else 2 ^ j) (b)))] (fun K38 => ?_) ?_
    · refine pe_ifeqN hx hb 37 dX0_before_27 (by decide) (z_lt31 (z_and (hnx _ (by omega)))) (fun c27 => ?_) (fun c27 => ?_)
      · refine lv_iconst (v := nI 0) hx hb dX0_before_37 (by decide +kernel) ?_
        exact pe_top (by first | rfl | simp [c27]) K38
      · refine lv_iconst (v := nI 1) hx hb dX0_before_30 (by decide +kernel) ?_
        refine lv_iload hx hb dX0_before_31 (lv_at hl 4 rfl) ?_
        refine pe_shl hx hb (by omega) dX0_before_33 ?_
        refine lv_goto (tgt := 38) hx hb dX0_before_34 (by decide) ?_
        exact pe_top (by first | rfl | simp [c27]) K38
    · refine pe_ior hx hb dX0_before_38 ?_
      refine lv_istore_n (lv' := [(3, .int (nI ((orF 0 (fun j => if (nx (8 * q + j) &&& x) = 0 then 0 else 2 ^ j) (b)) ||| (if (nx (8 * q + b) &&& x) = 0 then 0 else 2 ^ b)))), (0, .ref (ad 0)), (1, .int (nI q)), (2, .int (nI x)), (4, .int (nI b))]) hx hb dX0_before_39 rfl hl (by decide) rfl (fun ls hl => ?_)
      refine pe_inc (k := 4) (a := b) (lv' := [(4, .int (nI (b + 1))), (3, .int (nI ((orF 0 (fun j => if (nx (8 * q + j) &&& x) = 0 then 0 else 2 ^ j) (b)) ||| (if (nx (8 * q + b) &&& x) = 0 then 0 else 2 ^ b)))), (0, .ref (ad 0)), (1, .int (nI q)), (2, .int (nI x))]) hx hb dX0_before_40 hl rfl (by decide) rfl (fun ls hl => ?_)
      refine lv_goto (tgt := 5) hx hb dX0_before_43 (by decide) ?_
      exact ih_b (by omega) ls (lv_sub hl [2, 3, 4, 1, 0] rfl)
theorem hd_X0_allowed : yX0_allowed.cls ≠ "java/lang/invoke/MethodHandle" ∧ yX0_allowed.cls ≠ "java/lang/invoke/VarHandle" ∧ (parseMethodDescriptor yX0_allowed.desc).map (fun d => d.parameters.length) = some 1 := by decide +kernel
set_option maxHeartbeats 4000000 in
theorem m_X0_allowed (l : Launch) (G : va_G) (ad : Nat → Nat) (cS cB : ClassId) (nx lx gg ww : Nat → Nat) (tt : Nat → Int32) (lr : Int32) (ff : Nat → Nat) (a : Nat) (h1 : a < 8) (hnx : ∀ j, j < 24 → nx j < 256) : Met l yX0_allowed (ws_ yX0_allowed cX0_allowed 5 (some .int)) ({ frames := 2, cells := 0, slots := 0, locals := 44 }) (va_Pc [.ref (ad 0), .int (nI a)] (pB G vwCl (xW ad cS cB nx lx gg ww tt lr ff) (xT cS cB))) (vp_Si (fun r => r = nI (zAl nx ff a 3))) 0 0 (fun _ => False) := by
  refine pe_start (by decide) (Nat.le_of_ble_eq_true rfl) ?_
  intro p e s m below meth c hx hb hr hml hown hts hlocks hB ls hl
  have hown : s.vm.findClass RX0 = some m.cls := hown
  have S : CallFix p m c cX0_allowed 5 s _ lw_all RX0 := ⟨hx, hb, hml, hown, hts⟩
  have hP := hB.1
  have hK := hB.2
  have hl : lv_has ls 5 [(0, .ref (ad 0)), (1, .int (nI a))] := hl
  refine lv_sipush (v := nI 255) hx hb dX0_allowed_0 (by decide +kernel) ?_
  refine lv_istore_n (lv' := [(2, .int (nI 255)), (0, .ref (ad 0)), (1, .int (nI a))]) hx hb dX0_allowed_3 rfl hl (by decide) rfl (fun ls hl => ?_)
  refine lv_iconst (v := nI 0) hx hb dX0_allowed_4 (by decide +kernel) ?_
  refine lv_istore_n (lv' := [(3, .int (nI 0)), (2, .int (nI 255)), (0, .ref (ad 0)), (1, .int (nI a))]) hx hb dX0_allowed_5 rfl hl (by decide) rfl (fun ls hl => ?_)
  refine pe_loopR (3) 6 (fun q ls => lv_has ls 5 [(0, .ref (ad 0)), (1, .int (nI a)), (2, .int (nI (zAl nx ff a (q)))), (3, .int (nI q))]) (fun q hi_q ih_q ls hl => ?_) (0) (by omega) ls (lv_sub hl [2, 3, 1, 0] rfl)
  refine lv_iload_n hx hb dX0_allowed_6 rfl (lv_at hl 3 rfl) ?_
  refine lv_iconst (v := nI 3) hx hb dX0_allowed_7 (by decide +kernel) ?_
  refine pe_icmp_ge hx hb 59 dX0_allowed_8 (by decide) (by omega) (by omega) (fun c8 => ?_) (fun c8 => ?_)
  · obtain rfl : q = 3 := by omega
    refine lv_iload_n hx hb dX0_allowed_59 rfl (lv_at hl 2 rfl) ?_
    exact pe_iretR (v := (nI (zAl nx ff a (3)))) hx hb hr hlocks dX0_allowed_60 (by first | rfl | simp [c8])
  · refine lv_iconst (v := nI 0) hx hb dX0_allowed_11 (by decide +kernel) ?_
    refine lv_istore (lv' := [(4, .int (nI 0)), (0, .ref (ad 0)), (1, .int (nI a)), (2, .int (nI (zAl nx ff a (q)))), (3, .int (nI q))]) hx hb dX0_allowed_12 hl (by decide) rfl (fun ls hl => ?_)
    refine pe_loopR (8) 14 (fun d ls => lv_has ls 5 [(0, .ref (ad 0)), (1, .int (nI a)), (2, .int (nI (zAlI nx ff a q (zAl nx ff a q) (d)))), (3, .int (nI q)), (4, .int (nI d))]) (fun d hi_d ih_d ls hl => ?_) (0) (by omega) ls (lv_sub hl [1, 2, 3, 4, 0] rfl)
    refine lv_iload hx hb dX0_allowed_14 (lv_at hl 4 rfl) ?_
    refine lv_bipush (v := nI 8) hx hb dX0_allowed_16 (by decide +kernel) ?_
    refine pe_icmp_ge hx hb 53 dX0_allowed_18 (by decide) (by omega) (by omega) (fun c18 => ?_) (fun c18 => ?_)
    · obtain rfl : d = 8 := by omega
      refine pe_inc (k := 3) (a := q) (lv' := [(3, .int (nI (q + 1))), (0, .ref (ad 0)), (1, .int (nI a)), (2, .int (nI (zAlI nx ff a q (zAl nx ff a q) (8)))), (4, .int (nI 8))]) hx hb dX0_allowed_53 hl rfl (by decide) rfl (fun ls hl => ?_)
      refine lv_goto (tgt := 6) hx hb dX0_allowed_56 (by decide) ?_
      exact ih_q (by omega) ls (lv_sub hl [1, 2, 3, 0] rfl)
    · refine lv_aload_n hx hb dX0_allowed_21 rfl (lv_at hl 0 rfl) ?_
      refine lv_iload_n hx hb dX0_allowed_22 rfl (lv_at hl 1 rfl) ?_
      refine lv_iload hx hb dX0_allowed_23 (lv_at hl 4 rfl) ?_
      refine lv_iload_n hx hb dX0_allowed_25 rfl (lv_at hl 3 rfl) ?_
      refine pe_cV (n := 3) (rest := []) S hK hP (m_X0_hasStep l G ad cS cB nx lx gg ww tt lr ff a d q (by omega) (by omega) (by omega)) (ci := 0) rfl rfl rfl q76 q78 qs0 q32 q79 ⟨rfl, hd_X0_hasStep⟩ rfl ⟨rfl, rfl⟩ ⟨Nat.le_of_ble_eq_true rfl, Nat.le_of_ble_eq_true rfl⟩ ⟨Nat.le_of_ble_eq_true rfl, Nat.le_of_ble_eq_true rfl⟩ hl.1 rfl (Nat.le_of_ble_eq_true rfl) dX0_allowed_26 (fun r hr_ => ?_)
      subst hr_
      refine pe_ifeqB hx hb 47 dX0_allowed_29 (by decide) (fun c29 => ?_) (fun c29 => ?_)
      · refine pe_inc (k := 4) (a := d) (lv' := [(4, .int (nI (d + 1))), (0, .ref (ad 0)), (1, .int (nI a)), (2, .int (nI (zAlI nx ff a q (zAl nx ff a q) (d)))), (3, .int (nI q))]) hx hb dX0_allowed_47 hl rfl (by decide) rfl (fun ls hl => ?_)
        refine lv_goto (tgt := 14) hx hb dX0_allowed_50 (by decide) ?_
        exact ih_d (by omega) ls (by rw [show zAlI nx ff a q (zAl nx ff a q) (d + 1) = zAlI nx ff a q (zAl nx ff a q) (d) from by simp [zAlI, c8, c18, c29]]; exact lv_sub hl [1, 2, 3, 4, 0] rfl)
      · refine lv_iload_n hx hb dX0_allowed_32 rfl (lv_at hl 2 rfl) ?_
        refine lv_aload_n hx hb dX0_allowed_33 rfl (lv_at hl 0 rfl) ?_
        refine lv_iload_n hx hb dX0_allowed_34 rfl (lv_at hl 3 rfl) ?_
        refine lv_aload_n hx hb dX0_allowed_35 rfl (lv_at hl 0 rfl) ?_
        refine va_get (D := G) (ci := 0) (v := .ref (ad 6)) (C := RX0) (T := TX0) (N := 7) hx hb hts in_X0 hown hK hP 0 rfl rfl 6 (by decide) (hts _ q48) (fun _ h9 => h9) rfl dX0_allowed_36 ?_
        refine lv_iload hx hb dX0_allowed_39 (lv_at hl 4 rfl) ?_
        refine pe_sald hx hb hK hP 6 0 rfl rfl dX0_allowed_41 d (rfl) (by omega) (by decide) (v := (nI (ff d))) rfl ?_
        refine pe_cV (n := 2) (rest := [.int (nI (zAlI nx ff a q (zAl nx ff a q) (d)))]) S hK hP (m_X0_before l G ad cS cB nx lx gg ww tt lr ff q (ff d) (by omega) hnx) (ci := 0) rfl rfl rfl q182 q184 qs14 q32 q185 ⟨rfl, hd_X0_before⟩ rfl ⟨rfl, rfl⟩ ⟨Nat.le_of_ble_eq_true rfl, Nat.le_of_ble_eq_true rfl⟩ ⟨Nat.le_of_ble_eq_true rfl, Nat.le_of_ble_eq_true rfl⟩ hl.1 rfl (Nat.le_of_ble_eq_true rfl) dX0_allowed_42 (fun r hr_ => ?_)
        subst hr_
        refine pe_iand hx hb dX0_allowed_45 ?_
        refine lv_istore_n (lv' := [(2, .int (nI ((zAlI nx ff a q (zAl nx ff a q) (d)) &&& (zBf nx q (ff d))))), (0, .ref (ad 0)), (1, .int (nI a)), (3, .int (nI q)), (4, .int (nI d))]) hx hb dX0_allowed_46 rfl hl (by decide) rfl (fun ls hl => ?_)
        refine pe_inc (k := 4) (a := d) (lv' := [(4, .int (nI (d + 1))), (2, .int (nI ((zAlI nx ff a q (zAl nx ff a q) (d)) &&& (zBf nx q (ff d))))), (0, .ref (ad 0)), (1, .int (nI a)), (3, .int (nI q))]) hx hb dX0_allowed_47 hl rfl (by decide) rfl (fun ls hl => ?_)
        refine lv_goto (tgt := 14) hx hb dX0_allowed_50 (by decide) ?_
        exact ih_d (by omega) ls (by rw [show zAlI nx ff a q (zAl nx ff a q) (d + 1) = (zAlI nx ff a q (zAl nx ff a q) (d)) &&& (zBf nx q (ff d)) from by simp [zAlI, c8, c18, c29]]; exact lv_sub hl [2, 3, 1, 4, 0] rfl)
theorem hd_X0_written : yX0_written.cls ≠ "java/lang/invoke/MethodHandle" ∧ yX0_written.cls ≠ "java/lang/invoke/VarHandle" ∧ (parseMethodDescriptor yX0_written.desc).map (fun d => d.parameters.length) = some 0 := by decide +kernel
set_option maxHeartbeats 4000000 in
theorem m_X0_written (l : Launch) (G : va_G) (ad : Nat → Nat) (cS cB : ClassId) (nx lx gg ww : Nat → Nat) (tt : Nat → Int32) (lr : Int32) (ff : Nat → Nat) (hgg : ∀ j, j < 8 → gg j < 8) : Met l yX0_written (ws_ yX0_written cX0_written 4 (some .long)) ({ frames := 0, cells := 0, slots := 0, locals := 0 }) (va_Pc [.ref (ad 0)] (pB G vwCl (xW ad cS cB nx lx gg ww tt lr ff) (xT cS cB))) (vp_Sl (fun r => r = lN (zWr gg 8))) 0 0 (fun _ => False) := by
  refine pe_start (by decide) (Nat.le_of_ble_eq_true rfl) ?_
  intro p e s m below meth c hx hb hr hml hown hts hlocks hB ls hl
  have hown : s.vm.findClass RX0 = some m.cls := hown
  have S : CallFix p m c cX0_written 4 s _ lw_all RX0 := ⟨hx, hb, hml, hown, hts⟩
  have hP := hB.1
  have hK := hB.2
  have hl : lv_has ls 4 [(0, .ref (ad 0))] := hl
  refine lv_lconst (v := lN 0) hx hb dX0_written_0 (by decide +kernel) ?_
  refine lv_lstore_n (lv' := [(1, .long (lN 0)), (0, .ref (ad 0))]) hx hb dX0_written_1 rfl hl (by decide) rfl (fun ls hl => ?_)
  refine lv_iconst (v := nI 0) hx hb dX0_written_2 (by decide +kernel) ?_
  refine lv_istore_n (lv' := [(3, .int (nI 0)), (1, .long (lN 0)), (0, .ref (ad 0))]) hx hb dX0_written_3 rfl hl (by decide) rfl (fun ls hl => ?_)
  refine pe_loopR (8) 4 (fun i ls => lv_has ls 4 [(0, .ref (ad 0)), (1, .long (lN (zWr gg (i)))), (3, .int (nI i))]) (fun i hi_i ih_i ls hl => ?_) (0) (by omega) ls (lv_sub hl [2, 1, 0] rfl)
  refine lv_iload_n hx hb dX0_written_4 rfl (lv_at hl 2 rfl) ?_
  refine lv_bipush (v := nI 8) hx hb dX0_written_5 (by decide +kernel) ?_
  refine pe_icmp_ge hx hb 30 dX0_written_7 (by decide) (by omega) (by omega) (fun c7 => ?_) (fun c7 => ?_)
  · obtain rfl : i = 8 := by omega
    refine lv_lload_n hx hb dX0_written_30 rfl (lv_at hl 1 rfl) ?_
    exact pe_lretR hx hb hr hlocks dX0_written_31 (by first | rfl | simp [c7])
  · refine lv_lload_n hx hb dX0_written_10 rfl (lv_at hl 1 rfl) ?_
    refine lv_ldc2 (v := lN 8) hx hb hown (hts _ q202) dX0_written_11 ?_
    refine lv_lmul hx hb dX0_written_14 (pe_topl (lN_mul _ _) ?_)
    refine lv_aload_n hx hb dX0_written_15 rfl (lv_at hl 0 rfl) ?_
    refine va_get (D := G) (ci := 0) (v := .ref (ad 3)) (C := RX0) (T := TX0) (N := 7) hx hb hts in_X0 hown hK hP 0 rfl rfl 2 (by decide) (hts _ q44) (fun _ h9 => h9) rfl dX0_written_16 ?_
    refine lv_iload_n hx hb dX0_written_19 rfl (lv_at hl 2 rfl) ?_
    refine pe_bald hx hb hK hP 3 1 rfl rfl dX0_written_20 i (rfl) (by omega) (by decide) (v := (nI (gg i))) rfl ?_
    refine lv_i2l (v := lN (gg i)) hx hb dX0_written_21 (nI_l (Nat.lt_trans (hgg i (by omega)) (by decide))) ?_
    refine lv_ladd hx hb dX0_written_22 (pe_topl (lN_add _ _) ?_)
    refine lv_lstore_n (lv' := [(1, .long (lN (((zWr gg (i)) * 8) + (gg i)))), (0, .ref (ad 0)), (3, .int (nI i))]) hx hb dX0_written_23 rfl hl (by decide) rfl (fun ls hl => ?_)
    refine pe_inc (k := 2) (a := i) (lv' := [(3, .int (nI (i + 1))), (1, .long (lN (((zWr gg (i)) * 8) + (gg i)))), (0, .ref (ad 0))]) hx hb dX0_written_24 hl rfl (by decide) rfl (fun ls hl => ?_)
    refine lv_goto (tgt := 4) hx hb dX0_written_27 (by decide) ?_
    exact ih_i (by omega) ls (lv_sub hl [2, 1, 0] rfl)
theorem hd_X0_silently : yX0_silently.cls ≠ "java/lang/invoke/MethodHandle" ∧ yX0_silently.cls ≠ "java/lang/invoke/VarHandle" ∧ (parseMethodDescriptor yX0_silently.desc).map (fun d => d.parameters.length) = some 1 := by decide +kernel
set_option maxHeartbeats 4000000 in
theorem m_X0_silently (l : Launch) (G : va_G) (ad : Nat → Nat) (cS cB : ClassId) (nx lx gg ww : Nat → Nat) (tt : Nat → Int32) (lr : Int32) (ff : Nat → Nat) (x : Int32) (hnx : ∀ j, j < 24 → nx j < 256) : Met l yX0_silently (ws_ yX0_silently cX0_silently 2 (some .int)) ({ frames := 2, cells := 0, slots := 0, locals := 45 }) (va_Pc [.ref (ad 0), .int x] (pB G vwCl (xW ad cS cB nx lx gg ww tt lr ff) (xT cS cB))) (vp_Si (fun r => r = nI (if zSt x then zS nx (tn x) 8 else 0))) 0 0 (fun _ => False) := by
  refine pe_start (by decide) (Nat.le_of_ble_eq_true rfl) ?_
  intro p e s m below meth c hx hb hr hml hown hts hlocks hB ls hl
  have hown : s.vm.findClass RX0 = some m.cls := hown
  have S : CallFix p m c cX0_silently 2 s _ lw_all RX0 := ⟨hx, hb, hml, hown, hts⟩
  have hP := hB.1
  have hK := hB.2
  have hl : lv_has ls 2 [(0, .ref (ad 0)), (1, .int x)] := hl
  refine lv_iload_n hx hb dX0_silently_0 rfl (lv_at hl 1 rfl) ?_
  refine pe_cS (n := 1) (rest := []) S (m_X0_isState l x) q73 q74 q32 q75 hd_X0_isState rfl ⟨rfl, rfl⟩ ⟨Nat.le_of_ble_eq_true rfl, Nat.le_of_ble_eq_true rfl⟩ ⟨Nat.le_of_ble_eq_true rfl, Nat.le_of_ble_eq_true rfl⟩ hl.1 rfl (Nat.le_of_ble_eq_true rfl) dX0_silently_1 (fun r hr_ => ?_)
  subst hr_
  refine pe_ifeqB hx hb 15 dX0_silently_4 (by decide) (fun c4 => ?_) (fun c4 => ?_)
  · refine lv_iconst (v := nI 0) hx hb dX0_silently_15 (by decide +kernel) ?_
    exact pe_iretR (v := (nI 0)) hx hb hr hlocks dX0_silently_16 (by show nI _ = nI _; rw [c4]; rfl)
  · obtain ⟨i, hi, rfl⟩ := zSt_of c4
    refine lv_aload_n hx hb dX0_silently_7 rfl (lv_at hl 0 rfl) ?_
    refine lv_iload_n hx hb dX0_silently_8 rfl (lv_at hl 1 rfl) ?_
    refine pe_cV (n := 1) (rest := []) S hK hP (m_X0_silentFrom l G ad cS cB nx lx gg ww tt lr ff i (by omega) hnx) (ci := 0) rfl rfl rfl q158 q160 qs10 q32 q161 ⟨rfl, hd_X0_silentFrom⟩ rfl ⟨rfl, rfl⟩ ⟨Nat.le_of_ble_eq_true rfl, Nat.le_of_ble_eq_true rfl⟩ ⟨Nat.le_of_ble_eq_true rfl, Nat.le_of_ble_eq_true rfl⟩ hl.1 rfl (Nat.le_of_ble_eq_true rfl) dX0_silently_9 (fun r hr_ => ?_)
    subst hr_
    refine lv_goto (tgt := 16) hx hb dX0_silently_12 (by decide) ?_
    exact pe_iretR (v := (nI (zS nx i 8))) hx hb hr hlocks dX0_silently_16 (by show nI _ = nI _; rw [if_pos c4, tn, nI_clamp (by omega)])
end
section
/-! small facts for the reference's walks -/
theorem z_st_gt {x : Int32} (h : nI 7 < x) : zSt x = false := by
  apply z_st_ge
  have h : (7 : Int32) < x := h
  show (8 : Int32) ≤ x
  rw [Int32.lt_iff_toInt_lt] at h
  rw [Int32.le_iff_toInt_le]
  have e1 : (7 : Int32).toInt = 7 := by decide
  have e2 : (8 : Int32).toInt = 8 := by decide
  omega
theorem z_st_in7 {x : Int32} (h : ¬ x < 0) (h2 : ¬ nI 7 < x) : zSt x = true := by
  apply z_st_in h
  have h2 : ¬ (7 : Int32) < x := h2
  show ¬ (8 : Int32) ≤ x
  rw [Int32.lt_iff_toInt_lt] at h2
  rw [Int32.le_iff_toInt_le]
  have e1 : (7 : Int32).toInt = 7 := by decide
  have e2 : (8 : Int32).toInt = 8 := by decide
  omega
theorem z_l_gt {x : Int32} (h : nI 2 < x) : (decide (0 ≤ x) && decide (x < 3)) = false := by
  apply z_l_ge
  have h : (2 : Int32) < x := h
  show (3 : Int32) ≤ x
  rw [Int32.lt_iff_toInt_lt] at h
  rw [Int32.le_iff_toInt_le]
  have e1 : (2 : Int32).toInt = 2 := by decide
  have e2 : (3 : Int32).toInt = 3 := by decide
  omega
theorem z_l_in2 {x : Int32} (h : ¬ x < 0) (h2 : ¬ nI 2 < x) : (decide (0 ≤ x) && decide (x < 3)) = true := by
  apply z_l_in h
  have h2 : ¬ (2 : Int32) < x := h2
  show ¬ (3 : Int32) ≤ x
  rw [Int32.lt_iff_toInt_lt] at h2
  rw [Int32.le_iff_toInt_le]
  have e1 : (2 : Int32).toInt = 2 := by decide
  have e2 : (3 : Int32).toInt = 3 := by decide
  omega
theorem z_le_gt {x y : Int32} (h : ¬ x ≤ y) : y < x := by
  rw [Int32.le_iff_toInt_le] at h
  rw [Int32.lt_iff_toInt_lt]
  omega
theorem z_le_ngt {x y : Int32} (h : x ≤ y) : ¬ y < x := by
  rw [Int32.le_iff_toInt_le] at h
  rw [Int32.lt_iff_toInt_lt]
  omega
theorem z_dec_lt {x : Int32} (h : x < 0) : decide (0 ≤ x) = false := decide_eq_false (by rw [Int32.le_iff_toInt_le]; rw [Int32.lt_iff_toInt_lt] at h; omega)
theorem z_dec_ge {x : Int32} (h : ¬ x < 0) : decide (0 ≤ x) = true := decide_eq_true (by rw [Int32.le_iff_toInt_le]; rw [Int32.lt_iff_toInt_lt] at h; omega)
theorem z_ge_nlt {x : Int32} (h : 0 ≤ x) : ¬ x < 0 := by rw [Int32.le_iff_toInt_le] at h; rw [Int32.lt_iff_toInt_lt]; omega
theorem z_nge_lt {x : Int32} (h : ¬ 0 ≤ x) : x < 0 := by rw [Int32.le_iff_toInt_le] at h; rw [Int32.lt_iff_toInt_lt]; omega
theorem z_apt_lt {td : Nat → Int32} {rd : Int32} {j : Nat} (h : td j < 0) : zApt td rd j = false := by unfold zApt; rw [z_dec_lt h]; rfl
theorem z_apt_ge {td : Nat → Int32} {rd : Int32} {j : Nat} (h : rd ≤ td j) : zApt td rd j = false := by unfold zApt; rw [show decide (td j < rd) = false from decide_eq_false (z_le_ngt h), Bool.and_false]
theorem z_apt_in {td : Nat → Int32} {rd : Int32} {j : Nat} (h : ¬ td j < 0) (h2 : ¬ rd ≤ td j) : zApt td rd j = true := by unfold zApt; rw [z_dec_ge h, decide_eq_true (z_le_gt h2)]; rfl
theorem zHas_nI {nx : Nat → Nat} {i j k : Nat} (hi : i < 8) (hj : j < 8) (hk : k < 3) : zHas nx (nI i) (nI j) (nI k) = (nx (8 * k + i)).testBit j := by
  unfold zHas
  rw [zStep_nI hi hj hk, tn, tn, tn, nI_clamp (by omega), nI_clamp (by omega), nI_clamp (by omega), Bool.true_and]
theorem zHas_f {nx : Nat → Nat} {a b l : Int32} (h : zStep a b l = false) : zHas nx a b l = false := by unfold zHas; rw [h]; rfl
theorem zHas_st {nx : Nat → Nat} {a b l : Int32} (h : zHas nx a b l = true) : zStep a b l = true := by
  unfold zHas at h
  rw [Bool.and_eq_true] at h
  exact h.1
theorem zJoin_nI {nx : Nat → Nat} {i j k : Nat} (hi : i < 8) (hj : j < 8) (hk : k < 3) : zJoin nx (nI i) (nI j) (nI k) = va_up nx (8 * k + i) (nx (8 * k + i) ||| 2 ^ j) := by
  unfold zJoin
  rw [zStep_nI hi hj hk, tn, tn, tn, nI_clamp (by omega), nI_clamp (by omega), nI_clamp (by omega)]
  rfl
theorem zJoin_f {nx : Nat → Nat} {a b l : Int32} (h : zStep a b l = false) : zJoin nx a b l = nx := by unfold zJoin; rw [h]; rfl
theorem zCut_nI {nx : Nat → Nat} {i j k : Nat} (hi : i < 8) (hj : j < 8) (hk : k < 3) (h : zHas nx (nI i) (nI j) (nI k) = true) : zCut nx (nI i) (nI j) (nI k) = va_up nx (8 * k + i) (nx (8 * k + i) ^^^ 2 ^ j) := by
  unfold zCut
  rw [h, tn, tn, tn, nI_clamp (by omega), nI_clamp (by omega), nI_clamp (by omega)]
  rfl
theorem zCut_f {nx : Nat → Nat} {a b l : Int32} (h : zHas nx a b l = false) : zCut nx a b l = nx := by unfold zCut; rw [h]; rfl
theorem z_bm1 : ∀ i, i < 32 → bt (-1) i = true := by decide +kernel
theorem b_xor (x y : Int32) (i : Nat) : bt (x ^^^ y) i = (bt x i ^^ bt y i) := by unfold bt; rw [Int32.toBitVec_xor, BitVec.getLsbD_xor]
/-- a bit that is set taken away -/
theorem z_andnot {x j : Nat} (h : x.testBit j = true) : nI x &&& (nI (2 ^ j) ^^^ (-1)) = nI (x ^^^ 2 ^ j) := by
  apply b_ext
  intro i hi
  rw [b_and, b_xor, z_bm1 i hi, bt_nI _ hi, bt_nI _ hi, bt_nI _ hi, Nat.testBit_xor, Nat.testBit_two_pow]
  by_cases e : j = i
  · subst e; rw [h]; simp
  · simp [e]
theorem z_xx (x y : Nat) : x ^^^ y ^^^ y = x := by rw [Nat.xor_assoc, Nat.xor_self, Nat.xor_zero]
theorem z_xor_or {x j : Nat} (h : x.testBit j = true) : (x ^^^ 2 ^ j) ||| 2 ^ j = x := by
  apply Nat.eq_of_testBit_eq
  intro i
  rw [Nat.testBit_or, Nat.testBit_xor, Nat.testBit_two_pow]
  by_cases e : j = i
  · subst e; rw [h]; simp
  · simp [e]
theorem z_or_xor {x j : Nat} (h : x.testBit j = false) : x ^^^ 2 ^ j = x ||| 2 ^ j := by
  apply Nat.eq_of_testBit_eq
  intro i
  rw [Nat.testBit_or, Nat.testBit_xor, Nat.testBit_two_pow]
  by_cases e : j = i
  · subst e; rw [h]; simp
  · simp [e]
theorem z_or_self {x j : Nat} (h : x.testBit j = true) : x ||| 2 ^ j = x := by
  apply Nat.eq_of_testBit_eq
  intro i
  rw [Nat.testBit_or, Nat.testBit_two_pow]
  by_cases e : j = i
  · subst e; rw [h]; simp
  · simp [e]
theorem z_up_self (f : Nat → Nat) (k : Nat) : va_up f k (f k) = f := by
  funext j; unfold va_up; split
  · next h => rw [h]
  · rfl
theorem z_up_up (f : Nat → Nat) (k x y : Nat) : va_up (va_up f k x) k y = va_up f k y := by
  funext j; unfold va_up; split <;> rfl
theorem z_up_at {α : Type} (f : Nat → α) (k : Nat) (x : α) : va_up f k x k = x := va_up_self f k x
theorem zOn_lt {nx : Nat → Nat} {x l : Nat} (hl : l < 3) (h0 : x < 256) (hnx : ∀ j, j < 24 → nx j < 256) : zOn nx x l < 256 := by
  refine orF_lt h0 (fun b hb => ?_)
  split
  · exact hnx _ (by omega)
  · omega
theorem zQ_lt {nx : Nat → Nat} {a : Nat} (n : Nat) (ha : a < 8) (hnx : ∀ j, j < 24 → nx j < 256) : zQ nx a n < 256 := by
  induction n with
  | zero => exact z_p2 ha
  | succ n ih => exact zOn_lt (by omega) ih hnx
/-- the long steps -/
def zLx (sl nx : Nat → Nat) : Nat → Nat := fun j => if j < 8 then sl j else zLong sl nx (j % 8) (j / 8)
theorem zLx_up {sl nx f : Nat → Nat} {i : Nat} (hi : i < 8) (h : ∀ j, j < 24 → j % 8 < i → f j = zLx sl nx j) : ∀ j, j < 24 → j % 8 < i + 1 → va_up (va_up (va_up f i (sl i)) (8 + i) (zLong sl nx i 1)) (16 + i) (zLong sl nx i 2) j = zLx sl nx j := by
  intro j hj h1
  unfold va_up
  by_cases e1 : j = 16 + i
  · subst e1
    rw [if_pos rfl]; unfold zLx
    rw [if_neg (by omega), show (16 + i) % 8 = i by omega, show (16 + i) / 8 = 2 by omega]
  · rw [if_neg e1]
    by_cases e2 : j = 8 + i
    · subst e2
      rw [if_pos rfl]; unfold zLx
      rw [if_neg (by omega), show (8 + i) % 8 = i by omega, show (8 + i) / 8 = 1 by omega]
    · rw [if_neg e2]
      by_cases e3 : j = i
      · subst e3
        rw [if_pos rfl]; unfold zLx
        rw [if_pos hi]
      · rw [if_neg e3]
        exact h j hj (by omega)
theorem zLx_lt {sl nx : Nat → Nat} (h : ∀ j, j < 8 → sl j < 256) : ∀ j, j < 24 → zLx sl nx j < 256 := by
  intro j hj
  unfold zLx
  split
  · next q => exact h j q
  · exact zLong_lt h
end
section
/-! THE REFERENCE: methods that need no theory (printed by gen/x1.py) -/
set_option maxRecDepth 100000
theorem hd_X1_state : yX1_state.cls ≠ "java/lang/invoke/MethodHandle" ∧ yX1_state.cls ≠ "java/lang/invoke/VarHandle" ∧ (parseMethodDescriptor yX1_state.desc).map (fun d => d.parameters.length) = some 1 := by decide +kernel
set_option maxHeartbeats 4000000 in
theorem m_X1_state (l : Launch) (G : va_G) (ad : Nat → Nat) (cI cZ : ClassId) (nx fr : Nat → Nat) (td kp : Nat → Int32) (af : Nat → Bool) (x : Int32) : Met l yX1_state (ws_ yX1_state cX1_state 2 (some .boolean)) ({ frames := 0, cells := 0, slots := 0, locals := 0 }) (va_Pc [.ref (ad 0), .int x] (pB G vwCl (yW ad cI cZ nx fr td kp af) (yT cI cZ))) (vp_Si (fun r => r = nI (zSt x).toNat)) 0 0 (fun _ => False) := by
  refine pe_start (by decide) (Nat.le_of_ble_eq_true rfl) ?_
  intro p e s m below meth c hx hb hr hml hown hts hlocks hB ls hl
  have hown : s.vm.findClass RX1 = some m.cls := hown
  have S : CallFix p m c cX1_state 2 s _ lw_all RX1 := ⟨hx, hb, hml, hown, hts⟩
  have hP := hB.1
  have hK := hB.2
  have hl : lv_has ls 2 [(0, .ref (ad 0)), (1, .int x)] := hl
  refine lv_iload_n hx hb dX1_state_0 rfl (lv_at hl 1 rfl) ?_
  refine lv_if_lt (tgt := 14) hx hb dX1_state_1 (by decide) (fun c1 => ?_) (fun c1 => ?_)
  · refine lv_iconst (v := nI 0) hx hb dX1_state_14 (by decide +kernel) ?_
    exact pe_zretR (b := false) hx hb hr hlocks dX1_state_15 (by show nI _ = nI _; rw [z_st_lt c1])
  · refine lv_iload_n hx hb dX1_state_4 rfl (lv_at hl 1 rfl) ?_
    refine lv_bipush (v := nI 7) hx hb dX1_state_5 (by decide +kernel) ?_
    refine lv_icmp_gt (tgt := 14) hx hb dX1_state_7 (by decide) (fun c7 => ?_) (fun c7 => ?_)
    · refine lv_iconst (v := nI 0) hx hb dX1_state_14 (by decide +kernel) ?_
      exact pe_zretR (b := false) hx hb hr hlocks dX1_state_15 (by show nI _ = nI _; rw [z_st_gt c7])
    · refine lv_iconst (v := nI 1) hx hb dX1_state_10 (by decide +kernel) ?_
      refine lv_goto (tgt := 15) hx hb dX1_state_11 (by decide) ?_
      exact pe_zretR (b := true) hx hb hr hlocks dX1_state_15 (by show nI _ = nI _; rw [z_st_in7 c1 c7])
theorem hd_X1_step : yX1_step.cls ≠ "java/lang/invoke/MethodHandle" ∧ yX1_step.cls ≠ "java/lang/invoke/VarHandle" ∧ (parseMethodDescriptor yX1_step.desc).map (fun d => d.parameters.length) = some 3 := by decide +kernel
set_option maxHeartbeats 4000000 in
theorem m_X1_step (l : Launch) (G : va_G) (ad : Nat → Nat) (cI cZ : ClassId) (nx fr : Nat → Nat) (td kp : Nat → Int32) (af : Nat → Bool) (x y z : Int32) : Met l yX1_step (ws_ yX1_step cX1_step 4 (some .boolean)) ({ frames := 1, cells := 0, slots := 0, locals := 21 }) (va_Pc [.ref (ad 0), .int x, .int y, .int z] (pB G vwCl (yW ad cI cZ nx fr td kp af) (yT cI cZ))) (vp_Si (fun r => r = nI (zHas nx x y z).toNat)) 0 0 (fun _ => False) := by
  refine pe_start (by decide) (Nat.le_of_ble_eq_true rfl) ?_
  intro p e s m below meth c hx hb hr hml hown hts hlocks hB ls hl
  have hown : s.vm.findClass RX1 = some m.cls := hown
  have S : CallFix p m c cX1_step 4 s _ lw_all RX1 := ⟨hx, hb, hml, hown, hts⟩
  have hP := hB.1
  have hK := hB.2
  have hl : lv_has ls 4 [(0, .ref (ad 0)), (1, .int x), (2, .int y), (3, .int z)] := hl
  refine lv_aload_n hx hb dX1_step_0 rfl (lv_at hl 0 rfl) ?_
  refine lv_iload_n hx hb dX1_step_1 rfl (lv_at hl 1 rfl) ?_
  refine pe_cV (n := 1) (rest := []) S hK hP (m_X1_state l G ad cI cZ nx fr td kp af x) (ci := 1) rfl rfl rfl q231 q233 qs16 q33 q234 ⟨rfl, hd_X1_state⟩ rfl ⟨rfl, rfl⟩ ⟨Nat.le_of_ble_eq_true rfl, Nat.le_of_ble_eq_true rfl⟩ ⟨Nat.le_of_ble_eq_true rfl, Nat.le_of_ble_eq_true rfl⟩ hl.1 rfl (Nat.le_of_ble_eq_true rfl) dX1_step_2 (fun r hr_ => ?_)
  subst hr_
  refine pe_ifeqB hx hb 48 dX1_step_5 (by decide) (fun c5 => ?_) (fun c5 => ?_)
  · refine lv_iconst (v := nI 0) hx hb dX1_step_48 (by decide +kernel) ?_
    exact pe_zretR (b := false) hx hb hr hlocks dX1_step_49 (by show nI _ = nI _; rw [zHas_f (z_step_a c5)])
  · refine lv_aload_n hx hb dX1_step_8 rfl (lv_at hl 0 rfl) ?_
    refine lv_iload_n hx hb dX1_step_9 rfl (lv_at hl 2 rfl) ?_
    refine pe_cV (n := 1) (rest := []) S hK hP (m_X1_state l G ad cI cZ nx fr td kp af y) (ci := 1) rfl rfl rfl q231 q233 qs16 q33 q234 ⟨rfl, hd_X1_state⟩ rfl ⟨rfl, rfl⟩ ⟨Nat.le_of_ble_eq_true rfl, Nat.le_of_ble_eq_true rfl⟩ ⟨Nat.le_of_ble_eq_true rfl, Nat.le_of_ble_eq_true rfl⟩ hl.1 rfl (Nat.le_of_ble_eq_true rfl) dX1_step_10 (fun r hr_ => ?_)
    subst hr_
    refine pe_ifeqB hx hb 48 dX1_step_13 (by decide) (fun c13 => ?_) (fun c13 => ?_)
    · refine lv_iconst (v := nI 0) hx hb dX1_step_48 (by decide +kernel) ?_
      exact pe_zretR (b := false) hx hb hr hlocks dX1_step_49 (by show nI _ = nI _; rw [zHas_f (z_step_b c13)])
    · refine lv_iload_n hx hb dX1_step_16 rfl (lv_at hl 3 rfl) ?_
      refine lv_if_lt (tgt := 48) hx hb dX1_step_17 (by decide) (fun c17 => ?_) (fun c17 => ?_)
      · refine lv_iconst (v := nI 0) hx hb dX1_step_48 (by decide +kernel) ?_
        exact pe_zretR (b := false) hx hb hr hlocks dX1_step_49 (by show nI _ = nI _; rw [zHas_f (z_step_l (z_l_lt c17))])
      · refine lv_iload_n hx hb dX1_step_20 rfl (lv_at hl 3 rfl) ?_
        refine lv_iconst (v := nI 2) hx hb dX1_step_21 (by decide +kernel) ?_
        refine lv_icmp_gt (tgt := 48) hx hb dX1_step_22 (by decide) (fun c22 => ?_) (fun c22 => ?_)
        · refine lv_iconst (v := nI 0) hx hb dX1_step_48 (by decide +kernel) ?_
          exact pe_zretR (b := false) hx hb hr hlocks dX1_step_49 (by show nI _ = nI _; rw [zHas_f (z_step_l (z_l_gt c22))])
        · have hst := z_step_in c5 c13 (z_l_in2 c17 c22)
          obtain ⟨i, j, k, hi, hj, hk, rfl, rfl, rfl⟩ := zStep_of hst
          refine lv_aload_n hx hb dX1_step_25 rfl (lv_at hl 0 rfl) ?_
          refine va_get (D := G) (ci := 1) (v := .ref (ad 1)) (C := RX1) (T := TX1) (N := 5) hx hb hts in_X1 hown hK hP 0 rfl rfl 0 (by decide) (hts _ q209) (fun _ h9 => h9) rfl dX1_step_26 ?_
          refine lv_bipush (v := nI 8) hx hb dX1_step_29 (by decide +kernel) ?_
          refine lv_iload_n hx hb dX1_step_31 rfl (lv_at hl 3 rfl) ?_
          refine pe_imul hx hb dX1_step_32 ?_
          refine lv_iload_n hx hb dX1_step_33 rfl (lv_at hl 1 rfl) ?_
          refine pe_iadd hx hb dX1_step_34 ?_
          refine pe_iald hx hb hK hP 1 0 rfl rfl dX1_step_35 (8 * k + i) (by omega) (by omega) (by decide) (v := (nI (nx (8 * k + i)))) rfl ?_
          refine lv_iload_n hx hb dX1_step_36 rfl (lv_at hl 2 rfl) ?_
          refine lv_ishr hx hb dX1_step_37 ?_
          refine lv_iconst (v := nI 1) hx hb dX1_step_38 (by decide +kernel) ?_
          refine pe_iandbit hx hb (by omega) dX1_step_39 ?_
          refine lv_iconst (v := nI 1) hx hb dX1_step_40 (by decide +kernel) ?_
          refine pe_icmp_neB hx hb 48 dX1_step_41 (by decide) (fun c41 => ?_) (fun c41 => ?_)
          · refine lv_iconst (v := nI 0) hx hb dX1_step_48 (by decide +kernel) ?_
            exact pe_zretR (b := false) hx hb hr hlocks dX1_step_49 (by show nI _ = nI _; rw [zHas_nI hi hj hk, c41])
          · refine lv_iconst (v := nI 1) hx hb dX1_step_44 (by decide +kernel) ?_
            refine lv_goto (tgt := 49) hx hb dX1_step_45 (by decide) ?_
            exact pe_zretR (b := true) hx hb hr hlocks dX1_step_49 (by show nI _ = nI _; rw [zHas_nI hi hj hk, c41])
theorem hd_X1_join : yX1_join.cls ≠ "java/lang/invoke/MethodHandle" ∧ yX1_join.cls ≠ "java/lang/invoke/VarHandle" ∧ (parseMethodDescriptor yX1_join.desc).map (fun d => d.parameters.length) = some 3 := by decide +kernel
set_option maxHeartbeats 4000000 in
theorem m_X1_join (l : Launch) (G : va_G) (ad : Nat → Nat) (cI cZ : ClassId) (nx fr : Nat → Nat) (td kp : Nat → Int32) (af : Nat → Bool) (A : Nat → Prop) (hA : yD A ad) (x y z : Int32) : Met l yX1_join (ws_ yX1_join cX1_join 4 (some .boolean)) ({ frames := 1, cells := 0, slots := 0, locals := 21 }) (va_Pc [.ref (ad 0), .int x, .int y, .int z] (pB G vwCl (yW ad cI cZ nx fr td kp af) (yT cI cZ))) (pQ A (fun v H => v = some (.int (nI (zStep x y z).toNat)) ∧ va_P G vwCl (yW ad cI cZ (zJoin nx x y z) fr td kp af) H)) 0 0 A := by
  refine pe_start (by decide) (Nat.le_of_ble_eq_true rfl) ?_
  intro p e s m below meth c hx hb hr hml hown hts hlocks hB ls hl
  have hown : s.vm.findClass RX1 = some m.cls := hown
  have S : CallFix p m c cX1_join 4 s _ lw_all RX1 := ⟨hx, hb, hml, hown, hts⟩
  have hP := hB.1
  have hK := hB.2
  have hS : va_S A s.heap s.heap [] := va_S.rf
  have hl : lv_has ls 4 [(0, .ref (ad 0)), (1, .int x), (2, .int y), (3, .int z)] := hl
  refine lv_aload_n hx hb dX1_join_0 rfl (lv_at hl 0 rfl) ?_
  refine lv_iload_n hx hb dX1_join_1 rfl (lv_at hl 1 rfl) ?_
  refine pe_cV (n := 1) (rest := []) S hK hP (m_X1_state l G ad cI cZ nx fr td kp af x) (ci := 1) rfl rfl rfl q231 q233 qs16 q33 q234 ⟨rfl, hd_X1_state⟩ rfl ⟨rfl, rfl⟩ ⟨Nat.le_of_ble_eq_true rfl, Nat.le_of_ble_eq_true rfl⟩ ⟨Nat.le_of_ble_eq_true rfl, Nat.le_of_ble_eq_true rfl⟩ hl.1 rfl (Nat.le_of_ble_eq_true rfl) dX1_join_2 (fun r hr_ => ?_)
  subst hr_
  refine pe_ifeqB hx hb 25 dX1_join_5 (by decide) (fun c5 => ?_) (fun c5 => ?_)
  · refine lv_iconst (v := nI 0) hx hb dX1_join_25 (by decide +kernel) ?_
    exact pe_zret (b := false) hx hb hr hlocks hS dX1_join_26 (⟨by rw [z_step_a c5], by rw [zJoin_f (z_step_a c5)]; exact hP⟩)
  · refine lv_aload_n hx hb dX1_join_8 rfl (lv_at hl 0 rfl) ?_
    refine lv_iload_n hx hb dX1_join_9 rfl (lv_at hl 2 rfl) ?_
    refine pe_cV (n := 1) (rest := []) S hK hP (m_X1_state l G ad cI cZ nx fr td kp af y) (ci := 1) rfl rfl rfl q231 q233 qs16 q33 q234 ⟨rfl, hd_X1_state⟩ rfl ⟨rfl, rfl⟩ ⟨Nat.le_of_ble_eq_true rfl, Nat.le_of_ble_eq_true rfl⟩ ⟨Nat.le_of_ble_eq_true rfl, Nat.le_of_ble_eq_true rfl⟩ hl.1 rfl (Nat.le_of_ble_eq_true rfl) dX1_join_10 (fun r hr_ => ?_)
    subst hr_
    refine pe_ifeqB hx hb 25 dX1_join_13 (by decide) (fun c13 => ?_) (fun c13 => ?_)
    · refine lv_iconst (v := nI 0) hx hb dX1_join_25 (by decide +kernel) ?_
      exact pe_zret (b := false) hx hb hr hlocks hS dX1_join_26 (⟨by rw [z_step_b c13], by rw [zJoin_f (z_step_b c13)]; exact hP⟩)
    · refine lv_iload_n hx hb dX1_join_16 rfl (lv_at hl 3 rfl) ?_
      refine lv_if_lt (tgt := 25) hx hb dX1_join_17 (by decide) (fun c17 => ?_) (fun c17 => ?_)
      · refine lv_iconst (v := nI 0) hx hb dX1_join_25 (by decide +kernel) ?_
        exact pe_zret (b := false) hx hb hr hlocks hS dX1_join_26 (⟨by rw [z_step_l (z_l_lt c17)], by rw [zJoin_f (z_step_l (z_l_lt c17))]; exact hP⟩)
      · refine lv_iload_n hx hb dX1_join_20 rfl (lv_at hl 3 rfl) ?_
        refine lv_iconst (v := nI 2) hx hb dX1_join_21 (by decide +kernel) ?_
        refine lv_icmp_le (tgt := 27) hx hb dX1_join_22 (by decide) (fun c22 => ?_) (fun c22 => ?_)
        · have hst := z_step_in c5 c13 (z_l_in2 c17 (z_le_ngt c22))
          obtain ⟨i, j, k, hi, hj, hk, rfl, rfl, rfl⟩ := zStep_of hst
          refine lv_aload_n hx hb dX1_join_27 rfl (lv_at hl 0 rfl) ?_
          refine va_get (D := G) (ci := 1) (v := .ref (ad 1)) (C := RX1) (T := TX1) (N := 5) hx hb hts in_X1 hown hK hP 0 rfl rfl 0 (by decide) (hts _ q209) (fun _ h9 => h9) rfl dX1_join_28 ?_
          refine lv_bipush (v := nI 8) hx hb dX1_join_31 (by decide +kernel) ?_
          refine lv_iload_n hx hb dX1_join_33 rfl (lv_at hl 3 rfl) ?_
          refine pe_imul hx hb dX1_join_34 ?_
          refine lv_iload_n hx hb dX1_join_35 rfl (lv_at hl 1 rfl) ?_
          refine pe_iadd hx hb dX1_join_36 ?_
          refine lv_aload_n hx hb dX1_join_37 rfl (lv_at hl 0 rfl) ?_
          refine va_get (D := G) (ci := 1) (v := .ref (ad 1)) (C := RX1) (T := TX1) (N := 5) hx hb hts in_X1 hown hK hP 0 rfl rfl 0 (by decide) (hts _ q209) (fun _ h9 => h9) rfl dX1_join_38 ?_
          refine lv_bipush (v := nI 8) hx hb dX1_join_41 (by decide +kernel) ?_
          refine lv_iload_n hx hb dX1_join_43 rfl (lv_at hl 3 rfl) ?_
          refine pe_imul hx hb dX1_join_44 ?_
          refine lv_iload_n hx hb dX1_join_45 rfl (lv_at hl 1 rfl) ?_
          refine pe_iadd hx hb dX1_join_46 ?_
          refine pe_iald hx hb hK hP 1 0 rfl rfl dX1_join_47 (8 * k + i) (by omega) (by omega) (by decide) (v := (nI (nx (8 * k + i)))) rfl ?_
          refine lv_iconst (v := nI 1) hx hb dX1_join_48 (by decide +kernel) ?_
          refine lv_iload_n hx hb dX1_join_49 rfl (lv_at hl 2 rfl) ?_
          refine pe_shl hx hb (by omega) dX1_join_50 ?_
          refine pe_ior hx hb dX1_join_51 ?_
          refine pe_iast hx hb hK hP (hA.D _ _ _ _ _ _ _) hS 1 0 rfl rfl dX1_join_52 (8 * k + i) (by omega) (by omega) (by decide) (f' := fun j_ => nI ((va_up nx (8 * k + i) ((nx (8 * k + i)) ||| (2 ^ j))) j_)) (pe_up _ _ _) (fun H locs hP hS => ?_)
          have hP : va_P G vwCl (yW ad cI cZ (va_up nx (8 * k + i) ((nx (8 * k + i)) ||| (2 ^ j))) fr td kp af) H := hP
          refine lv_iconst (v := nI 1) hx hb dX1_join_53 (by decide +kernel) ?_
          exact pe_zret (b := true) hx hb hr hlocks hS dX1_join_54 (⟨by rw [hst], by rw [zJoin_nI hi hj hk]; exact hP⟩)
        · refine lv_iconst (v := nI 0) hx hb dX1_join_25 (by decide +kernel) ?_
          exact pe_zret (b := false) hx hb hr hlocks hS dX1_join_26 (⟨by rw [z_step_l (z_l_gt (z_le_gt c22))], by rw [zJoin_f (z_step_l (z_l_gt (z_le_gt c22)))]; exact hP⟩)
theorem hd_X1_cut : yX1_cut.cls ≠ "java/lang/invoke/MethodHandle" ∧ yX1_cut.cls ≠ "java/lang/invoke/VarHandle" ∧ (parseMethodDescriptor yX1_cut.desc).map (fun d => d.parameters.length) = some 3 := by decide +kernel
set_option maxHeartbeats 4000000 in
theorem m_X1_cut (l : Launch) (G : va_G) (ad : Nat → Nat) (cI cZ : ClassId) (nx fr : Nat → Nat) (td kp : Nat → Int32) (af : Nat → Bool) (A : Nat → Prop) (hA : yD A ad) (x y z : Int32) : Met l yX1_cut (ws_ yX1_cut cX1_cut 4 (some .boolean)) ({ frames := 2, cells := 0, slots := 0, locals := 44 }) (va_Pc [.ref (ad 0), .int x, .int y, .int z] (pB G vwCl (yW ad cI cZ nx fr td kp af) (yT cI cZ))) (pQ A (fun v H => v = some (.int (nI (zHas nx x y z).toNat)) ∧ va_P G vwCl (yW ad cI cZ (zCut nx x y z) fr td kp af) H)) 0 0 A := by
  refine pe_start (by decide) (Nat.le_of_ble_eq_true rfl) ?_
  intro p e s m below meth c hx hb hr hml hown hts hlocks hB ls hl
  have hown : s.vm.findClass RX1 = some m.cls := hown
  have S : CallFix p m c cX1_cut 4 s _ lw_all RX1 := ⟨hx, hb, hml, hown, hts⟩
  have hP := hB.1
  have hK := hB.2
  have hS : va_S A s.heap s.heap [] := va_S.rf
  have hl : lv_has ls 4 [(0, .ref (ad 0)), (1, .int x), (2, .int y), (3, .int z)] := hl
  refine lv_aload_n hx hb dX1_cut_0 rfl (lv_at hl 0 rfl) ?_
  refine lv_iload_n hx hb dX1_cut_1 rfl (lv_at hl 1 rfl) ?_
  refine lv_iload_n hx hb dX1_cut_2 rfl (lv_at hl 2 rfl) ?_
  refine lv_iload_n hx hb dX1_cut_3 rfl (lv_at hl 3 rfl) ?_
  refine pe_cV (n := 3) (rest := []) S hK hP (m_X1_step l G ad cI cZ nx fr td kp af x y z) (ci := 1) rfl rfl rfl q239 q241 qs17 q33 q242 ⟨rfl, hd_X1_step⟩ rfl ⟨rfl, rfl⟩ ⟨Nat.le_of_ble_eq_true rfl, Nat.le_of_ble_eq_true rfl⟩ ⟨Nat.le_of_ble_eq_true rfl, Nat.le_of_ble_eq_true rfl⟩ hl.1 rfl (Nat.le_of_ble_eq_true rfl) dX1_cut_4 (fun r hr_ => ?_)
  subst hr_
  refine pe_ifneB hx hb 12 dX1_cut_7 (by decide) (fun c7 => ?_) (fun c7 => ?_)
  · obtain ⟨i, j, k, hi, hj, hk, rfl, rfl, rfl⟩ := zStep_of (zHas_st c7)
    refine lv_aload_n hx hb dX1_cut_12 rfl (lv_at hl 0 rfl) ?_
    refine va_get (D := G) (ci := 1) (v := .ref (ad 1)) (C := RX1) (T := TX1) (N := 5) hx hb hts in_X1 hown hK hP 0 rfl rfl 0 (by decide) (hts _ q209) (fun _ h9 => h9) rfl dX1_cut_13 ?_
    refine lv_bipush (v := nI 8) hx hb dX1_cut_16 (by decide +kernel) ?_
    refine lv_iload_n hx hb dX1_cut_18 rfl (lv_at hl 3 rfl) ?_
    refine pe_imul hx hb dX1_cut_19 ?_
    refine lv_iload_n hx hb dX1_cut_20 rfl (lv_at hl 1 rfl) ?_
    refine pe_iadd hx hb dX1_cut_21 ?_
    refine lv_aload_n hx hb dX1_cut_22 rfl (lv_at hl 0 rfl) ?_
    refine va_get (D := G) (ci := 1) (v := .ref (ad 1)) (C := RX1) (T := TX1) (N := 5) hx hb hts in_X1 hown hK hP 0 rfl rfl 0 (by decide) (hts _ q209) (fun _ h9 => h9) rfl dX1_cut_23 ?_
    refine lv_bipush (v := nI 8) hx hb dX1_cut_26 (by decide +kernel) ?_
    refine lv_iload_n hx hb dX1_cut_28 rfl (lv_at hl 3 rfl) ?_
    refine pe_imul hx hb dX1_cut_29 ?_
    refine lv_iload_n hx hb dX1_cut_30 rfl (lv_at hl 1 rfl) ?_
    refine pe_iadd hx hb dX1_cut_31 ?_
    refine pe_iald hx hb hK hP 1 0 rfl rfl dX1_cut_32 (8 * k + i) (by omega) (by omega) (by decide) (v := (nI (nx (8 * k + i)))) rfl ?_
    refine lv_iconst (v := nI 1) hx hb dX1_cut_33 (by decide +kernel) ?_
    refine lv_iload_n hx hb dX1_cut_34 rfl (lv_at hl 2 rfl) ?_
    refine pe_shl hx hb (by omega) dX1_cut_35 ?_
    refine lv_iconst (v := -1) hx hb dX1_cut_36 (by decide +kernel) ?_
    refine lv_ixor hx hb dX1_cut_37 ?_
    refine lv_iand hx hb dX1_cut_38 ?_
    refine pe_top (z_andnot (by rw [← zHas_nI hi hj hk]; exact c7)) ?_
    refine pe_iast hx hb hK hP (hA.D _ _ _ _ _ _ _) hS 1 0 rfl rfl dX1_cut_39 (8 * k + i) (by omega) (by omega) (by decide) (f' := fun j_ => nI ((va_up nx (8 * k + i) (nx (8 * k + i) ^^^ 2 ^ j)) j_)) (pe_up _ _ _) (fun H locs hP hS => ?_)
    have hP : va_P G vwCl (yW ad cI cZ (va_up nx (8 * k + i) (nx (8 * k + i) ^^^ 2 ^ j)) fr td kp af) H := hP
    refine lv_iconst (v := nI 1) hx hb dX1_cut_40 (by decide +kernel) ?_
    exact pe_zret (b := true) hx hb hr hlocks hS dX1_cut_41 (⟨by rw [c7], by rw [zCut_nI hi hj hk c7]; exact hP⟩)
  · refine lv_iconst (v := nI 0) hx hb dX1_cut_10 (by decide +kernel) ?_
    exact pe_zret (b := false) hx hb hr hlocks hS dX1_cut_11 (⟨by rw [c7], by rw [zCut_f c7]; exact hP⟩)
theorem hd_X1_steps : yX1_steps.cls ≠ "java/lang/invoke/MethodHandle" ∧ yX1_steps.cls ≠ "java/lang/invoke/VarHandle" ∧ (parseMethodDescriptor yX1_steps.desc).map (fun d => d.parameters.length) = some 0 := by decide +kernel
set_option maxHeartbeats 4000000 in
theorem m_X1_steps (l : Launch) (G : va_G) (ad : Nat → Nat) (cI cZ : ClassId) (nx fr : Nat → Nat) (td kp : Nat → Int32) (af : Nat → Bool)  : Met l yX1_steps (ws_ yX1_steps cX1_steps 3 (some .int)) ({ frames := 0, cells := 0, slots := 0, locals := 0 }) (va_Pc [.ref (ad 0)] (pB G vwCl (yW ad cI cZ nx fr td kp af) (yT cI cZ))) (vp_Si (fun r => r = nI (smF (fun j => ((nx (j / 8)).testBit (j % 8)).toNat) 192))) 0 0 (fun _ => False) := by
  refine pe_start (by decide) (Nat.le_of_ble_eq_true rfl) ?_
  intro p e s m below meth c hx hb hr hml hown hts hlocks hB ls hl
  have hown : s.vm.findClass RX1 = some m.cls := hown
  have S : CallFix p m c cX1_steps 3 s _ lw_all RX1 := ⟨hx, hb, hml, hown, hts⟩
  have hP := hB.1
  have hK := hB.2
  have hl : lv_has ls 3 [(0, .ref (ad 0))] := hl
  refine lv_iconst (v := nI 0) hx hb dX1_steps_0 (by decide +kernel) ?_
  refine lv_istore_n (lv' := [(1, .int (nI 0)), (0, .ref (ad 0))]) hx hb dX1_steps_1 rfl hl (by decide) rfl (fun ls hl => ?_)
  refine lv_iconst (v := nI 0) hx hb dX1_steps_2 (by decide +kernel) ?_
  refine lv_istore_n (lv' := [(2, .int (nI 0)), (1, .int (nI 0)), (0, .ref (ad 0))]) hx hb dX1_steps_3 rfl hl (by decide) rfl (fun ls hl => ?_)
  refine pe_loopR (192) 4 (fun i ls => lv_has ls 3 [(0, .ref (ad 0)), (1, .int (nI (smF (fun j => ((nx (j / 8)).testBit (j % 8)).toNat) (i)))), (2, .int (nI i))]) (fun i hi_i ih_i ls hl => ?_) (0) (by omega) ls (lv_sub hl [2, 1, 0] rfl)
  refine lv_iload_n hx hb dX1_steps_4 rfl (lv_at hl 2 rfl) ?_
  refine lv_sipush (v := nI 192) hx hb dX1_steps_5 (by decide +kernel) ?_
  refine pe_icmp_ge hx hb 36 dX1_steps_8 (by decide) (by omega) (by omega) (fun c8 => ?_) (fun c8 => ?_)
  · obtain rfl : i = 192 := by omega
    refine lv_iload_n hx hb dX1_steps_36 rfl (lv_at hl 1 rfl) ?_
    exact pe_iretR (v := (nI (smF (fun j => ((nx (j / 8)).testBit (j % 8)).toNat) (192)))) hx hb hr hlocks dX1_steps_37 (by first | rfl | simp [c8])
  · refine lv_iload_n hx hb dX1_steps_11 rfl (lv_at hl 1 rfl) ?_
    refine lv_aload_n hx hb dX1_steps_12 rfl (lv_at hl 0 rfl) ?_
    refine va_get (D := G) (ci := 1) (v := .ref (ad 1)) (C := RX1) (T := TX1) (N := 5) hx hb hts in_X1 hown hK hP 0 rfl rfl 0 (by decide) (hts _ q209) (fun _ h9 => h9) rfl dX1_steps_13 ?_
    refine lv_iload_n hx hb dX1_steps_16 rfl (lv_at hl 2 rfl) ?_
    refine lv_bipush (v := nI 8) hx hb dX1_steps_17 (by decide +kernel) ?_
    refine pe_idiv hx hb (by omega) (by omega) (by omega) dX1_steps_19 ?_
    refine pe_iald hx hb hK hP 1 0 rfl rfl dX1_steps_20 (i / 8) (rfl) (by omega) (by decide) (v := (nI (nx (i / 8)))) rfl ?_
    refine lv_iload_n hx hb dX1_steps_21 rfl (lv_at hl 2 rfl) ?_
    refine lv_bipush (v := nI 8) hx hb dX1_steps_22 (by decide +kernel) ?_
    refine pe_irem hx hb (by omega) (by omega) (by omega) dX1_steps_24 ?_
    refine lv_ishr hx hb dX1_steps_25 ?_
    refine lv_iconst (v := nI 1) hx hb dX1_steps_26 (by decide +kernel) ?_
    refine pe_iandbit hx hb (by omega) dX1_steps_27 ?_
    refine pe_iadd hx hb dX1_steps_28 ?_
    refine lv_istore_n (lv' := [(1, .int (nI ((smF (fun j => ((nx (j / 8)).testBit (j % 8)).toNat) (i)) + (((nx (i / 8)).testBit (i % 8)).toNat)))), (0, .ref (ad 0)), (2, .int (nI i))]) hx hb dX1_steps_29 rfl hl (by decide) rfl (fun ls hl => ?_)
    refine pe_inc (k := 2) (a := i) (lv' := [(2, .int (nI (i + 1))), (1, .int (nI ((smF (fun j => ((nx (j / 8)).testBit (j % 8)).toNat) (i)) + (((nx (i / 8)).testBit (i % 8)).toNat)))), (0, .ref (ad 0))]) hx hb dX1_steps_30 hl rfl (by decide) rfl (fun ls hl => ?_)
    refine lv_goto (tgt := 4) hx hb dX1_steps_33 (by decide) ?_
    exact ih_i (by omega) ls (lv_sub hl [2, 1, 0] rfl)
theorem hd_X1_after : yX1_after.cls ≠ "java/lang/invoke/MethodHandle" ∧ yX1_after.cls ≠ "java/lang/invoke/VarHandle" ∧ (parseMethodDescriptor yX1_after.desc).map (fun d => d.parameters.length) = some 2 := by decide +kernel
set_option maxHeartbeats 4000000 in
theorem m_X1_after (l : Launch) (G : va_G) (ad : Nat → Nat) (cI cZ : ClassId) (nx fr : Nat → Nat) (td kp : Nat → Int32) (af : Nat → Bool) (x y : Int32) : Met l yX1_after (ws_ yX1_after cX1_after 3 (some .int)) ({ frames := 1, cells := 0, slots := 0, locals := 21 }) (va_Pc [.ref (ad 0), .int x, .int y] (pB G vwCl (yW ad cI cZ nx fr td kp af) (yT cI cZ))) (vp_Si (fun r => r = nI (zAft nx x y))) 0 0 (fun _ => False) := by
  refine pe_start (by decide) (Nat.le_of_ble_eq_true rfl) ?_
  intro p e s m below meth c hx hb hr hml hown hts hlocks hB ls hl
  have hown : s.vm.findClass RX1 = some m.cls := hown
  have S : CallFix p m c cX1_after 3 s _ lw_all RX1 := ⟨hx, hb, hml, hown, hts⟩
  have hP := hB.1
  have hK := hB.2
  have hl : lv_has ls 3 [(0, .ref (ad 0)), (1, .int x), (2, .int y)] := hl
  refine lv_aload_n hx hb dX1_after_0 rfl (lv_at hl 0 rfl) ?_
  refine lv_iload_n hx hb dX1_after_1 rfl (lv_at hl 1 rfl) ?_
  refine pe_cV (n := 1) (rest := []) S hK hP (m_X1_state l G ad cI cZ nx fr td kp af x) (ci := 1) rfl rfl rfl q231 q233 qs16 q33 q234 ⟨rfl, hd_X1_state⟩ rfl ⟨rfl, rfl⟩ ⟨Nat.le_of_ble_eq_true rfl, Nat.le_of_ble_eq_true rfl⟩ ⟨Nat.le_of_ble_eq_true rfl, Nat.le_of_ble_eq_true rfl⟩ hl.1 rfl (Nat.le_of_ble_eq_true rfl) dX1_after_2 (fun r hr_ => ?_)
  subst hr_
  refine pe_ifeqB hx hb 31 dX1_after_5 (by decide) (fun c5 => ?_) (fun c5 => ?_)
  · refine lv_iconst (v := nI 0) hx hb dX1_after_31 (by decide +kernel) ?_
    exact pe_iretR (v := (nI 0)) hx hb hr hlocks dX1_after_32 (by show nI _ = nI _; unfold zAft; rw [z_step_a c5]; rfl)
  · refine lv_iload_n hx hb dX1_after_8 rfl (lv_at hl 2 rfl) ?_
    refine lv_if_lt (tgt := 31) hx hb dX1_after_9 (by decide) (fun c9 => ?_) (fun c9 => ?_)
    · refine lv_iconst (v := nI 0) hx hb dX1_after_31 (by decide +kernel) ?_
      exact pe_iretR (v := (nI 0)) hx hb hr hlocks dX1_after_32 (by show nI _ = nI _; unfold zAft; rw [z_step_l (z_l_lt c9)]; rfl)
    · refine lv_iload_n hx hb dX1_after_12 rfl (lv_at hl 2 rfl) ?_
      refine lv_iconst (v := nI 2) hx hb dX1_after_13 (by decide +kernel) ?_
      refine lv_icmp_gt (tgt := 31) hx hb dX1_after_14 (by decide) (fun c14 => ?_) (fun c14 => ?_)
      · refine lv_iconst (v := nI 0) hx hb dX1_after_31 (by decide +kernel) ?_
        exact pe_iretR (v := (nI 0)) hx hb hr hlocks dX1_after_32 (by show nI _ = nI _; unfold zAft; rw [z_step_l (z_l_gt c14)]; rfl)
      · have hst := z_step_in (b := nI 0) c5 (by decide) (z_l_in2 c9 c14)
        obtain ⟨i, j, k, hi, hj, hk, rfl, -, rfl⟩ := zStep_of hst
        refine lv_aload_n hx hb dX1_after_17 rfl (lv_at hl 0 rfl) ?_
        refine va_get (D := G) (ci := 1) (v := .ref (ad 1)) (C := RX1) (T := TX1) (N := 5) hx hb hts in_X1 hown hK hP 0 rfl rfl 0 (by decide) (hts _ q209) (fun _ h9 => h9) rfl dX1_after_18 ?_
        refine lv_bipush (v := nI 8) hx hb dX1_after_21 (by decide +kernel) ?_
        refine lv_iload_n hx hb dX1_after_23 rfl (lv_at hl 2 rfl) ?_
        refine pe_imul hx hb dX1_after_24 ?_
        refine lv_iload_n hx hb dX1_after_25 rfl (lv_at hl 1 rfl) ?_
        refine pe_iadd hx hb dX1_after_26 ?_
        refine pe_iald hx hb hK hP 1 0 rfl rfl dX1_after_27 (8 * k + i) (by omega) (by omega) (by decide) (v := (nI (nx (8 * k + i)))) rfl ?_
        refine lv_goto (tgt := 32) hx hb dX1_after_28 (by decide) ?_
        exact pe_iretR (v := (nI (nx (8 * k + i)))) hx hb hr hlocks dX1_after_32 (by show nI _ = nI _; unfold zAft; rw [if_pos hst, tn, tn, nI_clamp (by omega), nI_clamp (by omega)])
theorem hd_X1_useSteps : yX1_useSteps.cls ≠ "java/lang/invoke/MethodHandle" ∧ yX1_useSteps.cls ≠ "java/lang/invoke/VarHandle" ∧ (parseMethodDescriptor yX1_useSteps.desc).map (fun d => d.parameters.length) = some 0 := by decide +kernel
set_option maxHeartbeats 4000000 in
theorem m_X1_useSteps (l : Launch) (G : va_G) (ad : Nat → Nat) (cI cZ : ClassId) (nx fr : Nat → Nat) (td kp : Nat → Int32) (af : Nat → Bool) (A : Nat → Prop) (hA : yD A ad)  : Met l yX1_useSteps (ws_ yX1_useSteps cX1_useSteps 2 none) ({ frames := 0, cells := 0, slots := 0, locals := 0 }) (va_Pc [.ref (ad 0)] (pB G vwCl (yW ad cI cZ nx fr td kp af) (yT cI cZ))) (pQ A (fun v H => v = none ∧ va_P G vwCl (yW ad cI cZ nx nx td kp af) H)) 0 0 A := by
  refine pe_start (by decide) (Nat.le_of_ble_eq_true rfl) ?_
  intro p e s m below meth c hx hb hr hml hown hts hlocks hB ls hl
  have hown : s.vm.findClass RX1 = some m.cls := hown
  have S : CallFix p m c cX1_useSteps 2 s _ lw_all RX1 := ⟨hx, hb, hml, hown, hts⟩
  have hP := hB.1
  have hK := hB.2
  have hS : va_S A s.heap s.heap [] := va_S.rf
  have hl : lv_has ls 2 [(0, .ref (ad 0))] := hl
  refine lv_iconst (v := nI 0) hx hb dX1_useSteps_0 (by decide +kernel) ?_
  refine lv_istore_n (lv' := [(1, .int (nI 0)), (0, .ref (ad 0))]) hx hb dX1_useSteps_1 rfl hl (by decide) rfl (fun ls hl => ?_)
  refine pe_loop (24) 2 (fun i H locs ls => va_P G vwCl (yW ad cI cZ nx (pe_fl nx i fr) td kp af) H ∧ va_S A s.heap H locs ∧ lv_has ls 2 [(0, .ref (ad 0)), (1, .int (nI i))]) (fun i hi_i ih_i H locs ls hl => ?_) (0) (by omega) _ _ ls (⟨by rw [pe_fl_0]; exact hP, hS, lv_sub hl [1, 0] rfl⟩)
  obtain ⟨hP, hS, hl⟩ := hl
  refine lv_iload_n hx hb dX1_useSteps_2 rfl (lv_at hl 1 rfl) ?_
  refine lv_bipush (v := nI 24) hx hb dX1_useSteps_3 (by decide +kernel) ?_
  refine pe_icmp_ge hx hb 26 dX1_useSteps_5 (by decide) (by omega) (by omega) (fun c5 => ?_) (fun c5 => ?_)
  · obtain rfl : i = 24 := by omega
    exact pe_vret hx hb hr hlocks hS dX1_useSteps_26 (⟨rfl, pe_cong hP 2 rfl (fun j => nI (nx j)) (fun j hj => by show nI _ = nI _; rw [pe_fl_lt _ _ hj])⟩)
  · refine lv_aload_n hx hb dX1_useSteps_8 rfl (lv_at hl 0 rfl) ?_
    refine va_get (D := G) (ci := 1) (v := .ref (ad 2)) (C := RX1) (T := TX1) (N := 5) hx hb hts in_X1 hown hK hP 0 rfl rfl 1 (by decide) (hts _ q210) (fun _ h9 => h9) rfl dX1_useSteps_9 ?_
    refine lv_iload_n hx hb dX1_useSteps_12 rfl (lv_at hl 1 rfl) ?_
    refine lv_aload_n hx hb dX1_useSteps_13 rfl (lv_at hl 0 rfl) ?_
    refine va_get (D := G) (ci := 1) (v := .ref (ad 1)) (C := RX1) (T := TX1) (N := 5) hx hb hts in_X1 hown hK hP 0 rfl rfl 0 (by decide) (hts _ q209) (fun _ h9 => h9) rfl dX1_useSteps_14 ?_
    refine lv_iload_n hx hb dX1_useSteps_17 rfl (lv_at hl 1 rfl) ?_
    refine pe_iald hx hb hK hP 1 0 rfl rfl dX1_useSteps_18 i (rfl) (by omega) (by decide) (v := (nI (nx i))) rfl ?_
    refine pe_iast hx hb hK hP (hA.D _ _ _ _ _ _ _) hS 2 0 rfl rfl dX1_useSteps_19 i (rfl) (by omega) (by decide) (f' := fun j_ => nI ((va_up (pe_fl nx i fr) i (nx i)) j_)) (pe_up _ _ _) (fun H locs hP hS => ?_)
    have hP : va_P G vwCl (yW ad cI cZ nx (va_up (pe_fl nx i fr) i (nx i)) td kp af) H := hP
    refine pe_inc (k := 1) (a := i) (lv' := [(1, .int (nI (i + 1))), (0, .ref (ad 0))]) hx hb dX1_useSteps_20 hl rfl (by decide) rfl (fun ls hl => ?_)
    refine lv_goto (tgt := 2) hx hb dX1_useSteps_23 (by decide) ?_
    exact ih_i (by omega) _ _ ls (⟨by rw [← pe_fl_up]; exact hP, hS, lv_sub hl [1, 0] rfl⟩)
theorem hd_X1_onward : yX1_onward.cls ≠ "java/lang/invoke/MethodHandle" ∧ yX1_onward.cls ≠ "java/lang/invoke/VarHandle" ∧ (parseMethodDescriptor yX1_onward.desc).map (fun d => d.parameters.length) = some 2 := by decide +kernel
set_option maxHeartbeats 4000000 in
theorem m_X1_onward (l : Launch) (G : va_G) (ad : Nat → Nat) (cI cZ : ClassId) (nx fr : Nat → Nat) (td kp : Nat → Int32) (af : Nat → Bool) (x q : Nat) (h1 : q < 3) : Met l yX1_onward (ws_ yX1_onward cX1_onward 5 (some .int)) ({ frames := 0, cells := 0, slots := 0, locals := 0 }) (va_Pc [.ref (ad 0), .int (nI x), .int (nI q)] (pB G vwCl (yW ad cI cZ nx fr td kp af) (yT cI cZ))) (vp_Si (fun r => r = nI (zOn nx x q))) 0 0 (fun _ => False) := by
  refine pe_start (by decide) (Nat.le_of_ble_eq_true rfl) ?_
  intro p e s m below meth c hx hb hr hml hown hts hlocks hB ls hl
  have hown : s.vm.findClass RX1 = some m.cls := hown
  have S : CallFix p m c cX1_onward 5 s _ lw_all RX1 := ⟨hx, hb, hml, hown, hts⟩
  have hP := hB.1
  have hK := hB.2
  have hl : lv_has ls 5 [(0, .ref (ad 0)), (1, .int (nI x)), (2, .int (nI q))] := hl
  refine lv_iload_n hx hb dX1_onward_0 rfl (lv_at hl 1 rfl) ?_
  refine lv_istore_n (lv' := [(3, .int (nI x)), (0, .ref (ad 0)), (1, .int (nI x)), (2, .int (nI q))]) hx hb dX1_onward_1 rfl hl (by decide) rfl (fun ls hl => ?_)
  refine lv_iconst (v := nI 0) hx hb dX1_onward_2 (by decide +kernel) ?_
  refine lv_istore (lv' := [(4, .int (nI 0)), (3, .int (nI x)), (0, .ref (ad 0)), (1, .int (nI x)), (2, .int (nI q))]) hx hb dX1_onward_3 hl (by decide) rfl (fun ls hl => ?_)
  refine pe_loopR (8) 5 (fun i ls => lv_has ls 5 [(0, .ref (ad 0)), (1, .int (nI x)), (2, .int (nI q)), (3, .int (nI (orF x (fun j => if x.testBit j then nx (8 * q + j) else 0) (i)))), (4, .int (nI i))]) (fun i hi_i ih_i ls hl => ?_) (0) (by omega) ls (lv_sub hl [2, 3, 4, 1, 0] rfl)
  refine lv_iload hx hb dX1_onward_5 (lv_at hl 4 rfl) ?_
  refine lv_bipush (v := nI 8) hx hb dX1_onward_7 (by decide +kernel) ?_
  refine pe_icmp_ge hx hb 47 dX1_onward_9 (by decide) (by omega) (by omega) (fun c9 => ?_) (fun c9 => ?_)
  · obtain rfl : i = 8 := by omega
    refine lv_iload_n hx hb dX1_onward_47 rfl (lv_at hl 3 rfl) ?_
    exact pe_iretR (v := (nI (orF x (fun j => if x.testBit j then nx (8 * q + j) else 0) (8)))) hx hb hr hlocks dX1_onward_48 (by first | rfl | simp [c9])
  · refine lv_iload_n hx hb dX1_onward_12 rfl (lv_at hl 1 rfl) ?_
    refine lv_iload hx hb dX1_onward_13 (lv_at hl 4 rfl) ?_
    refine lv_ishr hx hb dX1_onward_15 ?_
    refine lv_iconst (v := nI 1) hx hb dX1_onward_16 (by decide +kernel) ?_
    refine pe_iandbit hx hb (by omega) dX1_onward_17 ?_
    refine lv_iconst (v := nI 1) hx hb dX1_onward_18 (by decide +kernel) ?_
    refine pe_join 40 (.int (nI (orF x (fun j => if x.testBit j then nx (8 * q + j) else 0) i ||| (if x.testBit i then nx (8 * q + i) else 0)))) [] (fun K40 => ?_) ?_
    · refine pe_icmp_neB hx hb 39 dX1_onward_19 (by decide) (fun c19 => ?_) (fun c19 => ?_)
      · refine lv_iload_n hx hb dX1_onward_39 rfl (lv_at hl 3 rfl) ?_
        exact pe_top (by first | rfl | simp [c19]) K40
      · refine lv_iload_n hx hb dX1_onward_22 rfl (lv_at hl 3 rfl) ?_
        refine lv_aload_n hx hb dX1_onward_23 rfl (lv_at hl 0 rfl) ?_
        refine va_get (D := G) (ci := 1) (v := .ref (ad 1)) (C := RX1) (T := TX1) (N := 5) hx hb hts in_X1 hown hK hP 0 rfl rfl 0 (by decide) (hts _ q209) (fun _ h9 => h9) rfl dX1_onward_24 ?_
        refine lv_bipush (v := nI 8) hx hb dX1_onward_27 (by decide +kernel) ?_
        refine lv_iload_n hx hb dX1_onward_29 rfl (lv_at hl 2 rfl) ?_
        refine pe_imul hx hb dX1_onward_30 ?_
        refine lv_iload hx hb dX1_onward_31 (lv_at hl 4 rfl) ?_
        refine pe_iadd hx hb dX1_onward_33 ?_
        refine pe_iald hx hb hK hP 1 0 rfl rfl dX1_onward_34 (8 * q + i) (by omega) (by omega) (by decide) (v := (nI (nx (8 * q + i)))) rfl ?_
        refine pe_ior hx hb dX1_onward_35 ?_
        refine lv_goto (tgt := 40) hx hb dX1_onward_36 (by decide) ?_
        exact pe_top (by first | rfl | simp [c19]) K40
    · refine lv_istore_n (lv' := [(3, .int (nI (orF x (fun j => if x.testBit j then nx (8 * q + j) else 0) i ||| (if x.testBit i then nx (8 * q + i) else 0)))), (0, .ref (ad 0)), (1, .int (nI x)), (2, .int (nI q)), (4, .int (nI i))]) hx hb dX1_onward_40 rfl hl (by decide) rfl (fun ls hl => ?_)
      refine pe_inc (k := 4) (a := i) (lv' := [(4, .int (nI (i + 1))), (3, .int (nI (orF x (fun j => if x.testBit j then nx (8 * q + j) else 0) i ||| (if x.testBit i then nx (8 * q + i) else 0)))), (0, .ref (ad 0)), (1, .int (nI x)), (2, .int (nI q))]) hx hb dX1_onward_41 hl rfl (by decide) rfl (fun ls hl => ?_)
      refine lv_goto (tgt := 5) hx hb dX1_onward_44 (by decide) ?_
      exact ih_i (by omega) ls (lv_sub hl [2, 3, 4, 1, 0] rfl)
theorem hd_X1_quietly : yX1_quietly.cls ≠ "java/lang/invoke/MethodHandle" ∧ yX1_quietly.cls ≠ "java/lang/invoke/VarHandle" ∧ (parseMethodDescriptor yX1_quietly.desc).map (fun d => d.parameters.length) = some 1 := by decide +kernel
set_option maxHeartbeats 4000000 in
theorem m_X1_quietly (l : Launch) (G : va_G) (ad : Nat → Nat) (cI cZ : ClassId) (nx fr : Nat → Nat) (td kp : Nat → Int32) (af : Nat → Bool) (a : Nat) (h1 : a < 8) : Met l yX1_quietly (ws_ yX1_quietly cX1_quietly 4 (some .int)) ({ frames := 1, cells := 0, slots := 0, locals := 24 }) (va_Pc [.ref (ad 0), .int (nI a)] (pB G vwCl (yW ad cI cZ nx fr td kp af) (yT cI cZ))) (vp_Si (fun r => r = nI (zQ nx a 8))) 0 0 (fun _ => False) := by
  refine pe_start (by decide) (Nat.le_of_ble_eq_true rfl) ?_
  intro p e s m below meth c hx hb hr hml hown hts hlocks hB ls hl
  have hown : s.vm.findClass RX1 = some m.cls := hown
  have S : CallFix p m c cX1_quietly 4 s _ lw_all RX1 := ⟨hx, hb, hml, hown, hts⟩
  have hP := hB.1
  have hK := hB.2
  have hl : lv_has ls 4 [(0, .ref (ad 0)), (1, .int (nI a))] := hl
  refine lv_iconst (v := nI 1) hx hb dX1_quietly_0 (by decide +kernel) ?_
  refine lv_iload_n hx hb dX1_quietly_1 rfl (lv_at hl 1 rfl) ?_
  refine pe_shl hx hb (by omega) dX1_quietly_2 ?_
  refine lv_istore_n (lv' := [(2, .int (nI (2 ^ a))), (0, .ref (ad 0)), (1, .int (nI a))]) hx hb dX1_quietly_3 rfl hl (by decide) rfl (fun ls hl => ?_)
  refine lv_iconst (v := nI 0) hx hb dX1_quietly_4 (by decide +kernel) ?_
  refine lv_istore_n (lv' := [(3, .int (nI 0)), (2, .int (nI (2 ^ a))), (0, .ref (ad 0)), (1, .int (nI a))]) hx hb dX1_quietly_5 rfl hl (by decide) rfl (fun ls hl => ?_)
  refine pe_loopR (8) 6 (fun i ls => lv_has ls 4 [(0, .ref (ad 0)), (1, .int (nI a)), (2, .int (nI (zQ nx a (i)))), (3, .int (nI i))]) (fun i hi_i ih_i ls hl => ?_) (0) (by omega) ls (lv_sub hl [2, 3, 1, 0] rfl)
  refine lv_iload_n hx hb dX1_quietly_6 rfl (lv_at hl 3 rfl) ?_
  refine lv_bipush (v := nI 8) hx hb dX1_quietly_7 (by decide +kernel) ?_
  refine pe_icmp_ge hx hb 25 dX1_quietly_9 (by decide) (by omega) (by omega) (fun c9 => ?_) (fun c9 => ?_)
  · obtain rfl : i = 8 := by omega
    refine lv_iload_n hx hb dX1_quietly_25 rfl (lv_at hl 2 rfl) ?_
    exact pe_iretR (v := (nI (zQ nx a (8)))) hx hb hr hlocks dX1_quietly_26 (by first | rfl | simp [c9])
  · refine lv_aload_n hx hb dX1_quietly_12 rfl (lv_at hl 0 rfl) ?_
    refine lv_iload_n hx hb dX1_quietly_13 rfl (lv_at hl 2 rfl) ?_
    refine lv_iconst (v := nI 0) hx hb dX1_quietly_14 (by decide +kernel) ?_
    refine pe_cV (n := 2) (rest := []) S hK hP (m_X1_onward l G ad cI cZ nx fr td kp af (zQ nx a (i)) 0 (by omega)) (ci := 1) rfl rfl rfl q311 q313 qs27 q33 q314 ⟨rfl, hd_X1_onward⟩ rfl ⟨rfl, rfl⟩ ⟨Nat.le_of_ble_eq_true rfl, Nat.le_of_ble_eq_true rfl⟩ ⟨Nat.le_of_ble_eq_true rfl, Nat.le_of_ble_eq_true rfl⟩ hl.1 rfl (Nat.le_of_ble_eq_true rfl) dX1_quietly_15 (fun r hr_ => ?_)
    subst hr_
    refine lv_istore_n (lv' := [(2, .int (nI (zOn nx (zQ nx a (i)) 0))), (0, .ref (ad 0)), (1, .int (nI a)), (3, .int (nI i))]) hx hb dX1_quietly_18 rfl hl (by decide) rfl (fun ls hl => ?_)
    refine pe_inc (k := 3) (a := i) (lv' := [(3, .int (nI (i + 1))), (2, .int (nI (zOn nx (zQ nx a (i)) 0))), (0, .ref (ad 0)), (1, .int (nI a))]) hx hb dX1_quietly_19 hl rfl (by decide) rfl (fun ls hl => ?_)
    refine lv_goto (tgt := 6) hx hb dX1_quietly_22 (by decide) ?_
    exact ih_i (by omega) ls (lv_sub hl [2, 3, 1, 0] rfl)
theorem hd_X1_labelled : yX1_labelled.cls ≠ "java/lang/invoke/MethodHandle" ∧ yX1_labelled.cls ≠ "java/lang/invoke/VarHandle" ∧ (parseMethodDescriptor yX1_labelled.desc).map (fun d => d.parameters.length) = some 2 := by decide +kernel
set_option maxHeartbeats 4000000 in
theorem m_X1_labelled (l : Launch) (G : va_G) (ad : Nat → Nat) (cI cZ : ClassId) (nx fr : Nat → Nat) (td kp : Nat → Int32) (af : Nat → Bool) (a q : Nat) (h1 : a < 8) (h2 : q < 3) : Met l yX1_labelled (ws_ yX1_labelled cX1_labelled 7 (some .int)) ({ frames := 2, cells := 0, slots := 0, locals := 47 }) (va_Pc [.ref (ad 0), .int (nI a), .int (nI q)] (pB G vwCl (yW ad cI cZ nx fr td kp af) (yT cI cZ))) (vp_Si (fun r => r = nI (zLong (fun j => zQ nx j 8) nx a q))) 0 0 (fun _ => False) := by
  refine pe_start (by decide) (Nat.le_of_ble_eq_true rfl) ?_
  intro p e s m below meth c hx hb hr hml hown hts hlocks hB ls hl
  have hown : s.vm.findClass RX1 = some m.cls := hown
  have S : CallFix p m c cX1_labelled 7 s _ lw_all RX1 := ⟨hx, hb, hml, hown, hts⟩
  have hP := hB.1
  have hK := hB.2
  have hl : lv_has ls 7 [(0, .ref (ad 0)), (1, .int (nI a)), (2, .int (nI q))] := hl
  refine lv_aload_n hx hb dX1_labelled_0 rfl (lv_at hl 0 rfl) ?_
  refine lv_iload_n hx hb dX1_labelled_1 rfl (lv_at hl 1 rfl) ?_
  refine pe_cV (n := 1) (rest := []) S hK hP (m_X1_quietly l G ad cI cZ nx fr td kp af a (by omega)) (ci := 1) rfl rfl rfl q307 q309 qs26 q33 q310 ⟨rfl, hd_X1_quietly⟩ rfl ⟨rfl, rfl⟩ ⟨Nat.le_of_ble_eq_true rfl, Nat.le_of_ble_eq_true rfl⟩ ⟨Nat.le_of_ble_eq_true rfl, Nat.le_of_ble_eq_true rfl⟩ hl.1 rfl (Nat.le_of_ble_eq_true rfl) dX1_labelled_2 (fun r hr_ => ?_)
  subst hr_
  refine lv_istore_n (lv' := [(3, .int (nI (zQ nx a 8))), (0, .ref (ad 0)), (1, .int (nI a)), (2, .int (nI q))]) hx hb dX1_labelled_5 rfl hl (by decide) rfl (fun ls hl => ?_)
  refine lv_iconst (v := nI 0) hx hb dX1_labelled_6 (by decide +kernel) ?_
  refine lv_istore (lv' := [(4, .int (nI 0)), (3, .int (nI (zQ nx a 8))), (0, .ref (ad 0)), (1, .int (nI a)), (2, .int (nI q))]) hx hb dX1_labelled_7 hl (by decide) rfl (fun ls hl => ?_)
  refine lv_iconst (v := nI 0) hx hb dX1_labelled_9 (by decide +kernel) ?_
  refine lv_istore (lv' := [(5, .int (nI 0)), (4, .int (nI 0)), (3, .int (nI (zQ nx a 8))), (0, .ref (ad 0)), (1, .int (nI a)), (2, .int (nI q))]) hx hb dX1_labelled_10 hl (by decide) rfl (fun ls hl => ?_)
  refine pe_loopR (8) 12 (fun i ls => lv_has ls 7 [(0, .ref (ad 0)), (1, .int (nI a)), (2, .int (nI q)), (3, .int (nI (zQ nx a 8))), (4, .int (nI (orF 0 (fun j => if (zQ nx a 8).testBit j then nx (8 * q + j) else 0) (i)))), (5, .int (nI i))]) (fun i hi_i ih_i ls hl => ?_) (0) (by omega) ls (lv_sub hl [3, 4, 5, 2, 1, 0] rfl)
  refine lv_iload hx hb dX1_labelled_12 (lv_at hl 5 rfl) ?_
  refine lv_bipush (v := nI 8) hx hb dX1_labelled_14 (by decide +kernel) ?_
  refine pe_icmp_ge hx hb 57 dX1_labelled_16 (by decide) (by omega) (by omega) (fun c16 => ?_) (fun c16 => ?_)
  · obtain rfl : i = 8 := by omega
    refine lv_iconst (v := nI 0) hx hb dX1_labelled_57 (by decide +kernel) ?_
    refine lv_istore (lv' := [(5, .int (nI 0)), (0, .ref (ad 0)), (1, .int (nI a)), (2, .int (nI q)), (3, .int (nI (zQ nx a 8))), (4, .int (nI (orF 0 (fun j => if (zQ nx a 8).testBit j then nx (8 * q + j) else 0) (8))))]) hx hb dX1_labelled_58 hl (by decide) rfl (fun ls hl => ?_)
    refine lv_iconst (v := nI 0) hx hb dX1_labelled_60 (by decide +kernel) ?_
    refine lv_istore (lv' := [(6, .int (nI 0)), (5, .int (nI 0)), (0, .ref (ad 0)), (1, .int (nI a)), (2, .int (nI q)), (3, .int (nI (zQ nx a 8))), (4, .int (nI (orF 0 (fun j => if (zQ nx a 8).testBit j then nx (8 * q + j) else 0) (8))))]) hx hb dX1_labelled_61 hl (by decide) rfl (fun ls hl => ?_)
    refine pe_loopR (8) 63 (fun i2 ls => lv_has ls 7 [(0, .ref (ad 0)), (1, .int (nI a)), (2, .int (nI q)), (3, .int (nI (zQ nx a 8))), (4, .int (nI (orF 0 (fun j => if (zQ nx a 8).testBit j then nx (8 * q + j) else 0) 8))), (5, .int (nI (orF 0 (fun j => if (orF 0 (fun j => if (zQ nx a 8).testBit j then nx (8 * q + j) else 0) 8).testBit j then zQ nx j 8 else 0) (i2)))), (6, .int (nI i2))]) (fun i2 hi_i2 ih_i2 ls hl => ?_) (0) (by omega) ls (lv_sub hl [2, 3, 4, 5, 6, 1, 0] rfl)
    refine lv_iload hx hb dX1_labelled_63 (lv_at hl 6 rfl) ?_
    refine lv_bipush (v := nI 8) hx hb dX1_labelled_65 (by decide +kernel) ?_
    refine pe_icmp_ge hx hb 103 dX1_labelled_67 (by decide) (by omega) (by omega) (fun c67 => ?_) (fun c67 => ?_)
    · obtain rfl : i2 = 8 := by omega
      refine lv_iload hx hb dX1_labelled_103 (lv_at hl 5 rfl) ?_
      exact pe_iretR (v := (nI (orF 0 (fun j => if (orF 0 (fun j => if (zQ nx a 8).testBit j then nx (8 * q + j) else 0) 8).testBit j then zQ nx j 8 else 0) (8)))) hx hb hr hlocks dX1_labelled_105 (by first | rfl | simp [c16, c67])
    · refine lv_iload hx hb dX1_labelled_70 (lv_at hl 4 rfl) ?_
      refine lv_iload hx hb dX1_labelled_72 (lv_at hl 6 rfl) ?_
      refine lv_ishr hx hb dX1_labelled_74 ?_
      refine lv_iconst (v := nI 1) hx hb dX1_labelled_75 (by decide +kernel) ?_
      refine pe_iandbit hx hb (by omega) dX1_labelled_76 ?_
      refine lv_iconst (v := nI 1) hx hb dX1_labelled_77 (by decide +kernel) ?_
      refine pe_join 95 (.int (nI (orF 0 (fun j => if (orF 0 (fun j => if (zQ nx a 8).testBit j then nx (8 * q + j) else 0) 8).testBit j then zQ nx j 8 else 0) i2 ||| (if (orF 0 (fun j => if (zQ nx a 8).testBit j then nx (8 * q + j) else 0) 8).testBit i2 then zQ nx i2 8 else 0)))) [] (fun K95 => ?_) ?_
      · refine pe_icmp_neB hx hb 93 dX1_labelled_78 (by decide) (fun c78 => ?_) (fun c78 => ?_)
        · refine lv_iload hx hb dX1_labelled_93 (lv_at hl 5 rfl) ?_
          exact pe_top (by first | rfl | simp [c78]) K95
        · refine lv_iload hx hb dX1_labelled_81 (lv_at hl 5 rfl) ?_
          refine lv_aload_n hx hb dX1_labelled_83 rfl (lv_at hl 0 rfl) ?_
          refine lv_iload hx hb dX1_labelled_84 (lv_at hl 6 rfl) ?_
          refine pe_cV (n := 1) (rest := [.int (nI (orF 0 (fun j => if (orF 0 (fun j => if (zQ nx a 8).testBit j then nx (8 * q + j) else 0) 8).testBit j then zQ nx j 8 else 0) (i2)))]) S hK hP (m_X1_quietly l G ad cI cZ nx fr td kp af i2 (by omega)) (ci := 1) rfl rfl rfl q307 q309 qs26 q33 q310 ⟨rfl, hd_X1_quietly⟩ rfl ⟨rfl, rfl⟩ ⟨Nat.le_of_ble_eq_true rfl, Nat.le_of_ble_eq_true rfl⟩ ⟨Nat.le_of_ble_eq_true rfl, Nat.le_of_ble_eq_true rfl⟩ hl.1 rfl (Nat.le_of_ble_eq_true rfl) dX1_labelled_86 (fun r hr_ => ?_)
          subst hr_
          refine pe_ior hx hb dX1_labelled_89 ?_
          refine lv_goto (tgt := 95) hx hb dX1_labelled_90 (by decide) ?_
          exact pe_top (by first | rfl | simp [c78]) K95
      · refine lv_istore (lv' := [(5, .int (nI (orF 0 (fun j => if (orF 0 (fun j => if (zQ nx a 8).testBit j then nx (8 * q + j) else 0) 8).testBit j then zQ nx j 8 else 0) i2 ||| (if (orF 0 (fun j => if (zQ nx a 8).testBit j then nx (8 * q + j) else 0) 8).testBit i2 then zQ nx i2 8 else 0)))), (0, .ref (ad 0)), (1, .int (nI a)), (2, .int (nI q)), (3, .int (nI (zQ nx a 8))), (4, .int (nI (orF 0 (fun j => if (zQ nx a 8).testBit j then nx (8 * q + j) else 0) 8))), (6, .int (nI i2))]) hx hb dX1_labelled_95 hl (by decide) rfl (fun ls hl => ?_)
        refine pe_inc (k := 6) (a := i2) (lv' := [(6, .int (nI (i2 + 1))), (5, .int (nI (orF 0 (fun j => if (orF 0 (fun j => if (zQ nx a 8).testBit j then nx (8 * q + j) else 0) 8).testBit j then zQ nx j 8 else 0) i2 ||| (if (orF 0 (fun j => if (zQ nx a 8).testBit j then nx (8 * q + j) else 0) 8).testBit i2 then zQ nx i2 8 else 0)))), (0, .ref (ad 0)), (1, .int (nI a)), (2, .int (nI q)), (3, .int (nI (zQ nx a 8))), (4, .int (nI (orF 0 (fun j => if (zQ nx a 8).testBit j then nx (8 * q + j) else 0) 8)))]) hx hb dX1_labelled_97 hl rfl (by decide) rfl (fun ls hl => ?_)
        refine lv_goto (tgt := 63) hx hb dX1_labelled_100 (by decide) ?_
        exact ih_i2 (by omega) ls (lv_sub hl [2, 3, 4, 5, 6, 1, 0] rfl)
  · refine lv_iload_n hx hb dX1_labelled_19 rfl (lv_at hl 3 rfl) ?_
    refine lv_iload hx hb dX1_labelled_20 (lv_at hl 5 rfl) ?_
    refine lv_ishr hx hb dX1_labelled_22 ?_
    refine lv_iconst (v := nI 1) hx hb dX1_labelled_23 (by decide +kernel) ?_
    refine pe_iandbit hx hb (by omega) dX1_labelled_24 ?_
    refine lv_iconst (v := nI 1) hx hb dX1_labelled_25 (by decide +kernel) ?_
    refine pe_join 49 (.int (nI (orF 0 (fun j => if (zQ nx a 8).testBit j then nx (8 * q + j) else 0) i ||| (if (zQ nx a 8).testBit i then nx (8 * q + i) else 0)))) [] (fun K49 => ?_) ?_
    · refine pe_icmp_neB hx hb 47 dX1_labelled_26 (by decide) (fun c26 => ?_) (fun c26 => ?_)
      · refine lv_iload hx hb dX1_labelled_47 (lv_at hl 4 rfl) ?_
        exact pe_top (by first | rfl | simp [c26]) K49
      · refine lv_iload hx hb dX1_labelled_29 (lv_at hl 4 rfl) ?_
        refine lv_aload_n hx hb dX1_labelled_31 rfl (lv_at hl 0 rfl) ?_
        refine va_get (D := G) (ci := 1) (v := .ref (ad 1)) (C := RX1) (T := TX1) (N := 5) hx hb hts in_X1 hown hK hP 0 rfl rfl 0 (by decide) (hts _ q209) (fun _ h9 => h9) rfl dX1_labelled_32 ?_
        refine lv_bipush (v := nI 8) hx hb dX1_labelled_35 (by decide +kernel) ?_
        refine lv_iload_n hx hb dX1_labelled_37 rfl (lv_at hl 2 rfl) ?_
        refine pe_imul hx hb dX1_labelled_38 ?_
        refine lv_iload hx hb dX1_labelled_39 (lv_at hl 5 rfl) ?_
        refine pe_iadd hx hb dX1_labelled_41 ?_
        refine pe_iald hx hb hK hP 1 0 rfl rfl dX1_labelled_42 (8 * q + i) (by omega) (by omega) (by decide) (v := (nI (nx (8 * q + i)))) rfl ?_
        refine pe_ior hx hb dX1_labelled_43 ?_
        refine lv_goto (tgt := 49) hx hb dX1_labelled_44 (by decide) ?_
        exact pe_top (by first | rfl | simp [c26]) K49
    · refine lv_istore (lv' := [(4, .int (nI (orF 0 (fun j => if (zQ nx a 8).testBit j then nx (8 * q + j) else 0) i ||| (if (zQ nx a 8).testBit i then nx (8 * q + i) else 0)))), (0, .ref (ad 0)), (1, .int (nI a)), (2, .int (nI q)), (3, .int (nI (zQ nx a 8))), (5, .int (nI i))]) hx hb dX1_labelled_49 hl (by decide) rfl (fun ls hl => ?_)
      refine pe_inc (k := 5) (a := i) (lv' := [(5, .int (nI (i + 1))), (4, .int (nI (orF 0 (fun j => if (zQ nx a 8).testBit j then nx (8 * q + j) else 0) i ||| (if (zQ nx a 8).testBit i then nx (8 * q + i) else 0)))), (0, .ref (ad 0)), (1, .int (nI a)), (2, .int (nI q)), (3, .int (nI (zQ nx a 8)))]) hx hb dX1_labelled_51 hl rfl (by decide) rfl (fun ls hl => ?_)
      refine lv_goto (tgt := 12) hx hb dX1_labelled_54 (by decide) ?_
      exact ih_i (by omega) ls (lv_sub hl [2, 3, 4, 5, 1, 0] rfl)
theorem hd_X1_useLongSteps : yX1_useLongSteps.cls ≠ "java/lang/invoke/MethodHandle" ∧ yX1_useLongSteps.cls ≠ "java/lang/invoke/VarHandle" ∧ (parseMethodDescriptor yX1_useLongSteps.desc).map (fun d => d.parameters.length) = some 0 := by decide +kernel
set_option maxHeartbeats 4000000 in
theorem m_X1_useLongSteps (l : Launch) (G : va_G) (ad : Nat → Nat) (cI cZ : ClassId) (nx fr : Nat → Nat) (td kp : Nat → Int32) (af : Nat → Bool) (A : Nat → Prop) (hA : yD A ad)  : Met l yX1_useLongSteps (ws_ yX1_useLongSteps cX1_useLongSteps 2 none) ({ frames := 3, cells := 0, slots := 0, locals := 73 }) (va_Pc [.ref (ad 0)] (pB G vwCl (yW ad cI cZ nx fr td kp af) (yT cI cZ))) (pQ A (fun v H => v = none ∧ va_P G vwCl (yW ad cI cZ nx (zLx (fun j => zQ nx j 8) nx) td kp af) H)) 0 0 A := by
  refine pe_start (by decide) (Nat.le_of_ble_eq_true rfl) ?_
  intro p e s m below meth c hx hb hr hml hown hts hlocks hB ls hl
  have hown : s.vm.findClass RX1 = some m.cls := hown
  have S : CallFix p m c cX1_useLongSteps 2 s _ lw_all RX1 := ⟨hx, hb, hml, hown, hts⟩
  have hP := hB.1
  have hK := hB.2
  have hS : va_S A s.heap s.heap [] := va_S.rf
  have hl : lv_has ls 2 [(0, .ref (ad 0))] := hl
  refine lv_iconst (v := nI 0) hx hb dX1_useLongSteps_0 (by decide +kernel) ?_
  refine lv_istore_n (lv' := [(1, .int (nI 0)), (0, .ref (ad 0))]) hx hb dX1_useLongSteps_1 rfl hl (by decide) rfl (fun ls hl => ?_)
  refine pe_loop (8) 2 (fun i H locs ls => ∃ f2 : Nat → Nat, va_P G vwCl (yW ad cI cZ nx f2 td kp af) H ∧ va_S A s.heap H locs ∧ lv_has ls 2 [(0, .ref (ad 0)), (1, .int (nI i))] ∧ ∀ j, j < 24 → j % 8 < i → f2 j = zLx (fun j => zQ nx j 8) nx j) (fun i hi_i ih_i H locs ls hl => ?_) (0) (by omega) _ _ ls (⟨fr, hP, hS, lv_sub hl [1, 0] rfl, fun j _ h => absurd h (by omega)⟩)
  obtain ⟨f2, hP, hS, hl, hf⟩ := hl
  refine lv_iload_n hx hb dX1_useLongSteps_2 rfl (lv_at hl 1 rfl) ?_
  refine lv_bipush (v := nI 8) hx hb dX1_useLongSteps_3 (by decide +kernel) ?_
  refine pe_icmp_ge hx hb 55 dX1_useLongSteps_5 (by decide) (by omega) (by omega) (fun c5 => ?_) (fun c5 => ?_)
  · obtain rfl : i = 8 := by omega
    exact pe_vret hx hb hr hlocks hS dX1_useLongSteps_55 (⟨rfl, pe_cong hP 2 rfl (fun j => nI (zLx (fun j => zQ nx j 8) nx j)) (fun j hj => by show nI _ = nI _; rw [hf j hj (by omega)])⟩)
  · refine lv_aload_n hx hb dX1_useLongSteps_8 rfl (lv_at hl 0 rfl) ?_
    refine va_get (D := G) (ci := 1) (v := .ref (ad 2)) (C := RX1) (T := TX1) (N := 5) hx hb hts in_X1 hown hK hP 0 rfl rfl 1 (by decide) (hts _ q210) (fun _ h9 => h9) rfl dX1_useLongSteps_9 ?_
    refine lv_iload_n hx hb dX1_useLongSteps_12 rfl (lv_at hl 1 rfl) ?_
    refine lv_aload_n hx hb dX1_useLongSteps_13 rfl (lv_at hl 0 rfl) ?_
    refine lv_iload_n hx hb dX1_useLongSteps_14 rfl (lv_at hl 1 rfl) ?_
    refine pe_cV (n := 1) (rest := [.int (nI i), .ref (ad 2)]) S hK hP (m_X1_quietly l G ad cI cZ nx f2 td kp af i (by omega)) (ci := 1) rfl rfl rfl q307 q309 qs26 q33 q310 ⟨rfl, hd_X1_quietly⟩ rfl ⟨rfl, rfl⟩ ⟨Nat.le_of_ble_eq_true rfl, Nat.le_of_ble_eq_true rfl⟩ ⟨Nat.le_of_ble_eq_true rfl, Nat.le_of_ble_eq_true rfl⟩ hl.1 rfl (Nat.le_of_ble_eq_true rfl) dX1_useLongSteps_15 (fun r hr_ => ?_)
    subst hr_
    refine pe_iast hx hb hK hP (hA.D _ _ _ _ _ _ _) hS 2 0 rfl rfl dX1_useLongSteps_18 i (rfl) (by omega) (by decide) (f' := fun j_ => nI ((va_up f2 i (zQ nx i 8)) j_)) (pe_up _ _ _) (fun H locs hP hS => ?_)
    have hP : va_P G vwCl (yW ad cI cZ nx (va_up f2 i (zQ nx i 8)) td kp af) H := hP
    refine lv_aload_n hx hb dX1_useLongSteps_19 rfl (lv_at hl 0 rfl) ?_
    refine va_get (D := G) (ci := 1) (v := .ref (ad 2)) (C := RX1) (T := TX1) (N := 5) hx hb hts in_X1 hown hK hP 0 rfl rfl 1 (by decide) (hts _ q210) (fun _ h9 => h9) rfl dX1_useLongSteps_20 ?_
    refine lv_bipush (v := nI 8) hx hb dX1_useLongSteps_23 (by decide +kernel) ?_
    refine lv_iload_n hx hb dX1_useLongSteps_25 rfl (lv_at hl 1 rfl) ?_
    refine pe_iadd hx hb dX1_useLongSteps_26 ?_
    refine lv_aload_n hx hb dX1_useLongSteps_27 rfl (lv_at hl 0 rfl) ?_
    refine lv_iload_n hx hb dX1_useLongSteps_28 rfl (lv_at hl 1 rfl) ?_
    refine lv_iconst (v := nI 1) hx hb dX1_useLongSteps_29 (by decide +kernel) ?_
    refine pe_cV (n := 2) (rest := [.int (nI (8 + i)), .ref (ad 2)]) S hK hP (m_X1_labelled l G ad cI cZ nx (va_up f2 i (zQ nx i 8)) td kp af i 1 (by omega) (by omega)) (ci := 1) rfl rfl rfl q315 q317 qs28 q33 q318 ⟨rfl, hd_X1_labelled⟩ rfl ⟨rfl, rfl⟩ ⟨Nat.le_of_ble_eq_true rfl, Nat.le_of_ble_eq_true rfl⟩ ⟨Nat.le_of_ble_eq_true rfl, Nat.le_of_ble_eq_true rfl⟩ hl.1 rfl (Nat.le_of_ble_eq_true rfl) dX1_useLongSteps_30 (fun r hr_ => ?_)
    subst hr_
    refine pe_iast hx hb hK hP (hA.D _ _ _ _ _ _ _) hS 2 0 rfl rfl dX1_useLongSteps_33 (8 + i) (rfl) (by omega) (by decide) (f' := fun j_ => nI ((va_up (va_up f2 i (zQ nx i 8)) (8 + i) (zLong (fun j => zQ nx j 8) nx i 1)) j_)) (pe_up _ _ _) (fun H locs hP hS => ?_)
    have hP : va_P G vwCl (yW ad cI cZ nx (va_up (va_up f2 i (zQ nx i 8)) (8 + i) (zLong (fun j => zQ nx j 8) nx i 1)) td kp af) H := hP
    refine lv_aload_n hx hb dX1_useLongSteps_34 rfl (lv_at hl 0 rfl) ?_
    refine va_get (D := G) (ci := 1) (v := .ref (ad 2)) (C := RX1) (T := TX1) (N := 5) hx hb hts in_X1 hown hK hP 0 rfl rfl 1 (by decide) (hts _ q210) (fun _ h9 => h9) rfl dX1_useLongSteps_35 ?_
    refine lv_bipush (v := nI 16) hx hb dX1_useLongSteps_38 (by decide +kernel) ?_
    refine lv_iload_n hx hb dX1_useLongSteps_40 rfl (lv_at hl 1 rfl) ?_
    refine pe_iadd hx hb dX1_useLongSteps_41 ?_
    refine lv_aload_n hx hb dX1_useLongSteps_42 rfl (lv_at hl 0 rfl) ?_
    refine lv_iload_n hx hb dX1_useLongSteps_43 rfl (lv_at hl 1 rfl) ?_
    refine lv_iconst (v := nI 2) hx hb dX1_useLongSteps_44 (by decide +kernel) ?_
    refine pe_cV (n := 2) (rest := [.int (nI (16 + i)), .ref (ad 2)]) S hK hP (m_X1_labelled l G ad cI cZ nx (va_up (va_up f2 i (zQ nx i 8)) (8 + i) (zLong (fun j => zQ nx j 8) nx i 1)) td kp af i 2 (by omega) (by omega)) (ci := 1) rfl rfl rfl q315 q317 qs28 q33 q318 ⟨rfl, hd_X1_labelled⟩ rfl ⟨rfl, rfl⟩ ⟨Nat.le_of_ble_eq_true rfl, Nat.le_of_ble_eq_true rfl⟩ ⟨Nat.le_of_ble_eq_true rfl, Nat.le_of_ble_eq_true rfl⟩ hl.1 rfl (Nat.le_of_ble_eq_true rfl) dX1_useLongSteps_45 (fun r hr_ => ?_)
    subst hr_
    refine pe_iast hx hb hK hP (hA.D _ _ _ _ _ _ _) hS 2 0 rfl rfl dX1_useLongSteps_48 (16 + i) (rfl) (by omega) (by decide) (f' := fun j_ => nI ((va_up (va_up (va_up f2 i (zQ nx i 8)) (8 + i) (zLong (fun j => zQ nx j 8) nx i 1)) (16 + i) (zLong (fun j => zQ nx j 8) nx i 2)) j_)) (pe_up _ _ _) (fun H locs hP hS => ?_)
    have hP : va_P G vwCl (yW ad cI cZ nx (va_up (va_up (va_up f2 i (zQ nx i 8)) (8 + i) (zLong (fun j => zQ nx j 8) nx i 1)) (16 + i) (zLong (fun j => zQ nx j 8) nx i 2)) td kp af) H := hP
    refine pe_inc (k := 1) (a := i) (lv' := [(1, .int (nI (i + 1))), (0, .ref (ad 0))]) hx hb dX1_useLongSteps_49 hl rfl (by decide) rfl (fun ls hl => ?_)
    refine lv_goto (tgt := 2) hx hb dX1_useLongSteps_52 (by decide) ?_
    exact ih_i (by omega) _ _ ls (⟨va_up (va_up (va_up f2 i (zQ nx i 8)) (8 + i) (zLong (fun j => zQ nx j 8) nx i 1)) (16 + i) (zLong (fun j => zQ nx j 8) nx i 2), hP, hS, lv_sub hl [1, 0] rfl, zLx_up (sl := (fun j => zQ nx j 8)) (by omega) hf⟩)
theorem hd_X1_lonely : yX1_lonely.cls ≠ "java/lang/invoke/MethodHandle" ∧ yX1_lonely.cls ≠ "java/lang/invoke/VarHandle" ∧ (parseMethodDescriptor yX1_lonely.desc).map (fun d => d.parameters.length) = some 3 := by decide +kernel
set_option maxHeartbeats 4000000 in
theorem m_X1_lonely (l : Launch) (G : va_G) (ad : Nat → Nat) (cI cZ : ClassId) (nx fr : Nat → Nat) (td kp : Nat → Int32) (af : Nat → Bool) (k x rd : Nat) (h1 : k < 8) : Met l yX1_lonely (ws_ yX1_lonely cX1_lonely 7 (some .boolean)) ({ frames := 0, cells := 0, slots := 0, locals := 0 }) (va_Pc [.ref (ad 0), .int (nI k), .int (nI x), .int (nI rd)] (pB G vwCl (yW ad cI cZ nx fr td kp af) (yT cI cZ))) (vp_Si (fun r => r = nI (zLon td (nI rd) k x).toNat)) 0 0 (fun _ => False) := by
  refine pe_start (by decide) (Nat.le_of_ble_eq_true rfl) ?_
  intro p e s m below meth c hx hb hr hml hown hts hlocks hB ls hl
  have hown : s.vm.findClass RX1 = some m.cls := hown
  have S : CallFix p m c cX1_lonely 7 s _ lw_all RX1 := ⟨hx, hb, hml, hown, hts⟩
  have hP := hB.1
  have hK := hB.2
  have hl : lv_has ls 7 [(0, .ref (ad 0)), (1, .int (nI k)), (2, .int (nI x)), (3, .int (nI rd))] := hl
  refine lv_iconst (v := nI 1) hx hb dX1_lonely_0 (by decide +kernel) ?_
  refine lv_istore (lv' := [(4, .int (nI 1)), (0, .ref (ad 0)), (1, .int (nI k)), (2, .int (nI x)), (3, .int (nI rd))]) hx hb dX1_lonely_1 hl (by decide) rfl (fun ls hl => ?_)
  refine lv_iconst (v := nI 0) hx hb dX1_lonely_3 (by decide +kernel) ?_
  refine lv_istore (lv' := [(5, .int (nI 0)), (4, .int (nI 1)), (0, .ref (ad 0)), (1, .int (nI k)), (2, .int (nI x)), (3, .int (nI rd))]) hx hb dX1_lonely_4 hl (by decide) rfl (fun ls hl => ?_)
  refine pe_loopR (8) 6 (fun i ls => lv_has ls 7 [(0, .ref (ad 0)), (1, .int (nI k)), (2, .int (nI x)), (3, .int (nI rd)), (4, .int (nI (alF (fun j => !x.testBit j || zApt td (nI rd) (8 * k + j)) (i)).toNat)), (5, .int (nI i))]) (fun i hi_i ih_i ls hl => ?_) (0) (by omega) ls (lv_sub hl [2, 3, 4, 5, 1, 0] rfl)
  refine lv_iload hx hb dX1_lonely_6 (lv_at hl 5 rfl) ?_
  refine lv_bipush (v := nI 8) hx hb dX1_lonely_8 (by decide +kernel) ?_
  refine pe_icmp_ge hx hb 83 dX1_lonely_10 (by decide) (by omega) (by omega) (fun c10 => ?_) (fun c10 => ?_)
  · obtain rfl : i = 8 := by omega
    refine lv_iload hx hb dX1_lonely_83 (lv_at hl 4 rfl) ?_
    exact pe_zretR (b := (alF (fun j => !x.testBit j || zApt td (nI rd) (8 * k + j)) (8))) hx hb hr hlocks dX1_lonely_85 (by first | rfl | simp [c10])
  · refine lv_aload_n hx hb dX1_lonely_13 rfl (lv_at hl 0 rfl) ?_
    refine va_get (D := G) (ci := 1) (v := .ref (ad 3)) (C := RX1) (T := TX1) (N := 5) hx hb hts in_X1 hown hK hP 0 rfl rfl 2 (by decide) (hts _ q211) (fun _ h9 => h9) rfl dX1_lonely_14 ?_
    refine lv_bipush (v := nI 8) hx hb dX1_lonely_17 (by decide +kernel) ?_
    refine lv_iload_n hx hb dX1_lonely_19 rfl (lv_at hl 1 rfl) ?_
    refine pe_imul hx hb dX1_lonely_20 ?_
    refine lv_iload hx hb dX1_lonely_21 (lv_at hl 5 rfl) ?_
    refine pe_iadd hx hb dX1_lonely_23 ?_
    refine pe_iald hx hb hK hP 3 0 rfl rfl dX1_lonely_24 (8 * k + i) (by omega) (by omega) (by decide) (v := (td (8 * k + i))) rfl ?_
    refine pe_join 49 (.int (nI (zApt td (nI rd) (8 * k + i)).toNat)) [] (fun K49 => ?_) ?_
    · refine lv_if_lt (tgt := 48) hx hb dX1_lonely_25 (by decide) (fun c25 => ?_) (fun c25 => ?_)
      · refine lv_iconst (v := nI 0) hx hb dX1_lonely_48 (by decide +kernel) ?_
        exact pe_top (by rw [z_apt_lt c25]; rfl) K49
      · refine lv_aload_n hx hb dX1_lonely_28 rfl (lv_at hl 0 rfl) ?_
        refine va_get (D := G) (ci := 1) (v := .ref (ad 3)) (C := RX1) (T := TX1) (N := 5) hx hb hts in_X1 hown hK hP 0 rfl rfl 2 (by decide) (hts _ q211) (fun _ h9 => h9) rfl dX1_lonely_29 ?_
        refine lv_bipush (v := nI 8) hx hb dX1_lonely_32 (by decide +kernel) ?_
        refine lv_iload_n hx hb dX1_lonely_34 rfl (lv_at hl 1 rfl) ?_
        refine pe_imul hx hb dX1_lonely_35 ?_
        refine lv_iload hx hb dX1_lonely_36 (lv_at hl 5 rfl) ?_
        refine pe_iadd hx hb dX1_lonely_38 ?_
        refine pe_iald hx hb hK hP 3 0 rfl rfl dX1_lonely_39 (8 * k + i) (by omega) (by omega) (by decide) (v := (td (8 * k + i))) rfl ?_
        refine lv_iload_n hx hb dX1_lonely_40 rfl (lv_at hl 3 rfl) ?_
        refine lv_icmp_ge (tgt := 48) hx hb dX1_lonely_41 (by decide) (fun c41 => ?_) (fun c41 => ?_)
        · refine lv_iconst (v := nI 0) hx hb dX1_lonely_48 (by decide +kernel) ?_
          exact pe_top (by rw [z_apt_ge c41]; rfl) K49
        · refine lv_iconst (v := nI 1) hx hb dX1_lonely_44 (by decide +kernel) ?_
          refine lv_goto (tgt := 49) hx hb dX1_lonely_45 (by decide) ?_
          exact pe_top (by rw [z_apt_in c25 c41]; rfl) K49
    · refine lv_istore (lv' := [(6, .int (nI (zApt td (nI rd) (8 * k + i)).toNat)), (0, .ref (ad 0)), (1, .int (nI k)), (2, .int (nI x)), (3, .int (nI rd)), (4, .int (nI (alF (fun j => !x.testBit j || zApt td (nI rd) (8 * k + j)) (i)).toNat)), (5, .int (nI i))]) hx hb dX1_lonely_49 hl (by decide) rfl (fun ls hl => ?_)
      refine lv_iload hx hb dX1_lonely_51 (lv_at hl 5 rfl) ?_
      refine pe_join 75 (.int (nI (alF (fun j => !x.testBit j || zApt td (nI rd) (8 * k + j)) i && (!x.testBit i || zApt td (nI rd) (8 * k + i))).toNat)) [] (fun K75 => ?_) ?_
      · refine pe_ifeqB hx hb 74 dX1_lonely_53 (by decide) (fun c53 => ?_) (fun c53 => ?_)
        · refine lv_iconst (v := nI 0) hx hb dX1_lonely_74 (by decide +kernel) ?_
          exact pe_top (by first | rfl | simp [c53]) K75
        · refine lv_iload_n hx hb dX1_lonely_56 rfl (lv_at hl 3 rfl) ?_
          refine lv_iload hx hb dX1_lonely_57 (lv_at hl 6 rfl) ?_
          refine lv_ishr hx hb dX1_lonely_59 ?_
          refine lv_iconst (v := nI 1) hx hb dX1_lonely_60 (by decide +kernel) ?_
          refine pe_iandbit hx hb (by omega) dX1_lonely_61 ?_
          refine pe_ifeqB hx hb 70 dX1_lonely_62 (by decide) (fun c62 => ?_) (fun c62 => ?_)
          · refine lv_iconst (v := nI 1) hx hb dX1_lonely_70 (by decide +kernel) ?_
            refine lv_goto (tgt := 75) hx hb dX1_lonely_71 (by decide) ?_
            exact pe_top (by first | rfl | simp [c53, c62]) K75
          · refine lv_iload hx hb dX1_lonely_65 (lv_at hl 0 rfl) ?_
            refine pe_ifeqB hx hb 74 dX1_lonely_67 (by decide) (fun c67 => ?_) (fun c67 => ?_)
            · refine lv_iconst (v := nI 0) hx hb dX1_lonely_74 (by decide +kernel) ?_
              exact pe_top (by first | rfl | simp [c53, c62, c67]) K75
            · refine lv_iconst (v := nI 1) hx hb dX1_lonely_70 (by decide +kernel) ?_
              refine lv_goto (tgt := 75) hx hb dX1_lonely_71 (by decide) ?_
              exact pe_top (by first | rfl | simp [c53, c62, c67]) K75
      · refine lv_istore (lv' := [(4, .int (nI (alF (fun j => !x.testBit j || zApt td (nI rd) (8 * k + j)) i && (!x.testBit i || zApt td (nI rd) (8 * k + i))).toNat)), (6, .int (nI (zApt td (nI rd) (8 * k + i)).toNat)), (0, .ref (ad 0)), (1, .int (nI k)), (2, .int (nI x)), (3, .int (nI rd)), (5, .int (nI i))]) hx hb dX1_lonely_75 hl (by decide) rfl (fun ls hl => ?_)
        refine pe_inc (k := 6) (a := i) (lv' := [(5, .int (nI (i + 1))), (4, .int (nI (alF (fun j => !x.testBit j || zApt td (nI rd) (8 * k + j)) i && (!x.testBit i || zApt td (nI rd) (8 * k + i))).toNat)), (6, .int (nI (zApt td (nI rd) (8 * k + i)).toNat)), (0, .ref (ad 0)), (1, .int (nI k)), (2, .int (nI x)), (3, .int (nI rd))]) hx hb dX1_lonely_77 hl rfl (by decide) rfl (fun ls hl => ?_)
        refine lv_goto (tgt := 6) hx hb dX1_lonely_80 (by decide) ?_
        exact ih_i (by omega) ls (lv_sub hl [3, 4, 5, 6, 1, 0] rfl)
theorem hd_X1_differs : yX1_differs.cls ≠ "java/lang/invoke/MethodHandle" ∧ yX1_differs.cls ≠ "java/lang/invoke/VarHandle" ∧ (parseMethodDescriptor yX1_differs.desc).map (fun d => d.parameters.length) = some 3 := by decide +kernel
set_option maxHeartbeats 4000000 in
theorem m_X1_differs (l : Launch) (G : va_G) (ad : Nat → Nat) (cI cZ : ClassId) (nx fr : Nat → Nat) (td kp : Nat → Int32) (af : Nat → Bool) (a b rd : Nat) (h1 : a < 8) (h2 : b < 8) : Met l yX1_differs (ws_ yX1_differs cX1_differs 8 (some .boolean)) ({ frames := 1, cells := 0, slots := 0, locals := 26 }) (va_Pc [.ref (ad 0), .int (nI a), .int (nI b), .int (nI rd)] (pB G vwCl (yW ad cI cZ nx fr td kp af) (yT cI cZ))) (vp_Si (fun r => r = nI (zDf fr td (nI rd) a b).toNat)) 0 0 (fun _ => False) := by
  refine pe_start (by decide) (Nat.le_of_ble_eq_true rfl) ?_
  intro p e s m below meth c hx hb hr hml hown hts hlocks hB ls hl
  have hown : s.vm.findClass RX1 = some m.cls := hown
  have S : CallFix p m c cX1_differs 8 s _ lw_all RX1 := ⟨hx, hb, hml, hown, hts⟩
  have hP := hB.1
  have hK := hB.2
  have hl : lv_has ls 8 [(0, .ref (ad 0)), (1, .int (nI a)), (2, .int (nI b)), (3, .int (nI rd))] := hl
  refine lv_iconst (v := nI 0) hx hb dX1_differs_0 (by decide +kernel) ?_
  refine lv_istore (lv' := [(4, .int (nI 0)), (0, .ref (ad 0)), (1, .int (nI a)), (2, .int (nI b)), (3, .int (nI rd))]) hx hb dX1_differs_1 hl (by decide) rfl (fun ls hl => ?_)
  refine lv_iconst (v := nI 0) hx hb dX1_differs_3 (by decide +kernel) ?_
  refine lv_istore (lv' := [(5, .int (nI 0)), (4, .int (nI 0)), (0, .ref (ad 0)), (1, .int (nI a)), (2, .int (nI b)), (3, .int (nI rd))]) hx hb dX1_differs_4 hl (by decide) rfl (fun ls hl => ?_)
  refine pe_loopR (24) 6 (fun i ls => lv_has ls 8 [(0, .ref (ad 0)), (1, .int (nI a)), (2, .int (nI b)), (3, .int (nI rd)), (4, .int (nI (anF (fun j => (fr (8 * (j / 8) + a)).testBit (j % 8) && zLon td (nI rd) (j % 8) (fr (8 * (j / 8) + b))) (i)).toNat)), (5, .int (nI i))]) (fun i hi_i ih_i ls hl => ?_) (0) (by omega) ls (lv_sub hl [2, 3, 4, 5, 1, 0] rfl)
  refine lv_iload hx hb dX1_differs_6 (lv_at hl 5 rfl) ?_
  refine lv_bipush (v := nI 24) hx hb dX1_differs_8 (by decide +kernel) ?_
  refine pe_icmp_ge hx hb 88 dX1_differs_10 (by decide) (by omega) (by omega) (fun c10 => ?_) (fun c10 => ?_)
  · obtain rfl : i = 24 := by omega
    refine lv_iload hx hb dX1_differs_88 (lv_at hl 4 rfl) ?_
    exact pe_zretR (b := (anF (fun j => (fr (8 * (j / 8) + a)).testBit (j % 8) && zLon td (nI rd) (j % 8) (fr (8 * (j / 8) + b))) (24))) hx hb hr hlocks dX1_differs_90 (by first | rfl | simp [c10])
  · refine lv_iload hx hb dX1_differs_13 (lv_at hl 5 rfl) ?_
    refine lv_bipush (v := nI 8) hx hb dX1_differs_15 (by decide +kernel) ?_
    refine pe_idiv hx hb (by omega) (by omega) (by omega) dX1_differs_17 ?_
    refine lv_istore (lv' := [(6, .int (nI (i / 8))), (0, .ref (ad 0)), (1, .int (nI a)), (2, .int (nI b)), (3, .int (nI rd)), (4, .int (nI (anF (fun j => (fr (8 * (j / 8) + a)).testBit (j % 8) && zLon td (nI rd) (j % 8) (fr (8 * (j / 8) + b))) (i)).toNat)), (5, .int (nI i))]) hx hb dX1_differs_18 hl (by decide) rfl (fun ls hl => ?_)
    refine lv_iload hx hb dX1_differs_20 (lv_at hl 6 rfl) ?_
    refine lv_bipush (v := nI 8) hx hb dX1_differs_22 (by decide +kernel) ?_
    refine pe_irem hx hb (by omega) (by omega) (by omega) dX1_differs_24 ?_
    refine lv_istore (lv' := [(7, .int (nI (i % 8))), (6, .int (nI (i / 8))), (0, .ref (ad 0)), (1, .int (nI a)), (2, .int (nI b)), (3, .int (nI rd)), (4, .int (nI (anF (fun j => (fr (8 * (j / 8) + a)).testBit (j % 8) && zLon td (nI rd) (j % 8) (fr (8 * (j / 8) + b))) (i)).toNat)), (5, .int (nI i))]) hx hb dX1_differs_25 hl (by decide) rfl (fun ls hl => ?_)
    refine lv_iload hx hb dX1_differs_27 (lv_at hl 6 rfl) ?_
    refine pe_join 80 (.int (nI (anF (fun j => (fr (8 * (j / 8) + a)).testBit (j % 8) && zLon td (nI rd) (j % 8) (fr (8 * (j / 8) + b))) i || ((fr (8 * (i / 8) + a)).testBit (i % 8) && zLon td (nI rd) (i % 8) (fr (8 * (i / 8) + b)))).toNat)) [] (fun K80 => ?_) ?_
    · refine pe_ifneB hx hb 75 dX1_differs_29 (by decide) (fun c29 => ?_) (fun c29 => ?_)
      · refine lv_iconst (v := nI 1) hx hb dX1_differs_75 (by decide +kernel) ?_
        refine lv_goto (tgt := 80) hx hb dX1_differs_76 (by decide) ?_
        exact pe_top (by first | rfl | simp [c29]) K80
      · refine lv_aload_n hx hb dX1_differs_32 rfl (lv_at hl 2 rfl) ?_
        refine va_get (D := G) (ci := 1) (v := .ref (ad 2)) (C := RX1) (T := TX1) (N := 5) hx hb hts in_X1 hown hK hP 0 rfl rfl 1 (by decide) (hts _ q210) (fun _ h9 => h9) rfl dX1_differs_33 ?_
        refine lv_bipush (v := nI 8) hx hb dX1_differs_36 (by decide +kernel) ?_
        refine lv_iload hx hb dX1_differs_38 (lv_at hl 1 rfl) ?_
        refine pe_imul hx hb dX1_differs_40 ?_
        refine lv_iload_n hx hb dX1_differs_41 rfl (lv_at hl 3 rfl) ?_
        refine pe_iadd hx hb dX1_differs_42 ?_
        refine pe_iald hx hb hK hP 2 0 rfl rfl dX1_differs_43 (8 * (i / 8) + a) (by omega) (by omega) (by decide) (v := (nI (fr (8 * (i / 8) + a)))) rfl ?_
        refine lv_iload hx hb dX1_differs_44 (lv_at hl 0 rfl) ?_
        refine lv_ishr hx hb dX1_differs_46 ?_
        refine lv_iconst (v := nI 1) hx hb dX1_differs_47 (by decide +kernel) ?_
        refine pe_iandbit hx hb (by omega) dX1_differs_48 ?_
        refine lv_iconst (v := nI 1) hx hb dX1_differs_49 (by decide +kernel) ?_
        refine pe_icmp_neB hx hb 79 dX1_differs_50 (by decide) (fun c50 => ?_) (fun c50 => ?_)
        · refine lv_iconst (v := nI 0) hx hb dX1_differs_79 (by decide +kernel) ?_
          exact pe_top (by first | rfl | simp [c29, c50]) K80
        · refine lv_aload_n hx hb dX1_differs_53 rfl (lv_at hl 2 rfl) ?_
          refine lv_iload hx hb dX1_differs_54 (lv_at hl 0 rfl) ?_
          refine lv_aload_n hx hb dX1_differs_56 rfl (lv_at hl 2 rfl) ?_
          refine va_get (D := G) (ci := 1) (v := .ref (ad 2)) (C := RX1) (T := TX1) (N := 5) hx hb hts in_X1 hown hK hP 0 rfl rfl 1 (by decide) (hts _ q210) (fun _ h9 => h9) rfl dX1_differs_57 ?_
          refine lv_bipush (v := nI 8) hx hb dX1_differs_60 (by decide +kernel) ?_
          refine lv_iload hx hb dX1_differs_62 (lv_at hl 1 rfl) ?_
          refine pe_imul hx hb dX1_differs_64 ?_
          refine lv_iload_n hx hb dX1_differs_65 rfl (lv_at hl 4 rfl) ?_
          refine pe_iadd hx hb dX1_differs_66 ?_
          refine pe_iald hx hb hK hP 2 0 rfl rfl dX1_differs_67 (8 * (i / 8) + b) (by omega) (by omega) (by decide) (v := (nI (fr (8 * (i / 8) + b)))) rfl ?_
          refine lv_iload_n hx hb dX1_differs_68 rfl (lv_at hl 5 rfl) ?_
          refine pe_cV (n := 3) (rest := []) S hK hP (m_X1_lonely l G ad cI cZ nx fr td kp af (i % 8) (fr (8 * (i / 8) + b)) rd (by omega)) (ci := 1) rfl rfl rfl q271 q273 qs22 q33 q274 ⟨rfl, hd_X1_lonely⟩ rfl ⟨rfl, rfl⟩ ⟨Nat.le_of_ble_eq_true rfl, Nat.le_of_ble_eq_true rfl⟩ ⟨Nat.le_of_ble_eq_true rfl, Nat.le_of_ble_eq_true rfl⟩ hl.1 rfl (Nat.le_of_ble_eq_true rfl) dX1_differs_69 (fun r hr_ => ?_)
          subst hr_
          refine pe_ifeqB hx hb 79 dX1_differs_72 (by decide) (fun c72 => ?_) (fun c72 => ?_)
          · refine lv_iconst (v := nI 0) hx hb dX1_differs_79 (by decide +kernel) ?_
            exact pe_top (by first | rfl | simp [c29, c50, c72]) K80
          · refine lv_iconst (v := nI 1) hx hb dX1_differs_75 (by decide +kernel) ?_
            refine lv_goto (tgt := 80) hx hb dX1_differs_76 (by decide) ?_
            exact pe_top (by first | rfl | simp [c29, c50, c72]) K80
    · refine lv_istore (lv' := [(4, .int (nI (anF (fun j => (fr (8 * (j / 8) + a)).testBit (j % 8) && zLon td (nI rd) (j % 8) (fr (8 * (j / 8) + b))) i || ((fr (8 * (i / 8) + a)).testBit (i % 8) && zLon td (nI rd) (i % 8) (fr (8 * (i / 8) + b)))).toNat)), (7, .int (nI (i % 8))), (6, .int (nI (i / 8))), (0, .ref (ad 0)), (1, .int (nI a)), (2, .int (nI b)), (3, .int (nI rd)), (5, .int (nI i))]) hx hb dX1_differs_80 hl (by decide) rfl (fun ls hl => ?_)
      refine pe_inc (k := 7) (a := i) (lv' := [(5, .int (nI (i + 1))), (4, .int (nI (anF (fun j => (fr (8 * (j / 8) + a)).testBit (j % 8) && zLon td (nI rd) (j % 8) (fr (8 * (j / 8) + b))) i || ((fr (8 * (i / 8) + a)).testBit (i % 8) && zLon td (nI rd) (i % 8) (fr (8 * (i / 8) + b)))).toNat)), (7, .int (nI (i % 8))), (6, .int (nI (i / 8))), (0, .ref (ad 0)), (1, .int (nI a)), (2, .int (nI b)), (3, .int (nI rd))]) hx hb dX1_differs_82 hl rfl (by decide) rfl (fun ls hl => ?_)
      refine lv_goto (tgt := 6) hx hb dX1_differs_85 (by decide) ?_
      exact ih_i (by omega) ls (lv_sub hl [4, 5, 6, 7, 1, 0] rfl)
theorem hd_X1_count : yX1_count.cls ≠ "java/lang/invoke/MethodHandle" ∧ yX1_count.cls ≠ "java/lang/invoke/VarHandle" ∧ (parseMethodDescriptor yX1_count.desc).map (fun d => d.parameters.length) = some 0 := by decide +kernel
set_option maxHeartbeats 4000000 in
theorem m_X1_count (l : Launch) (G : va_G) (ad : Nat → Nat) (cI cZ : ClassId) (nx fr : Nat → Nat) (td kp : Nat → Int32) (af : Nat → Bool)  : Met l yX1_count (ws_ yX1_count cX1_count 5 (some .int)) ({ frames := 0, cells := 0, slots := 0, locals := 0 }) (va_Pc [.ref (ad 0)] (pB G vwCl (yW ad cI cZ nx fr td kp af) (yT cI cZ))) (vp_Si (fun r => r = nI (smF (fun k => (alF (fun j => decide (0 ≤ td (8 * k + j))) k).toNat) 8))) 0 0 (fun _ => False) := by
  refine pe_start (by decide) (Nat.le_of_ble_eq_true rfl) ?_
  intro p e s m below meth c hx hb hr hml hown hts hlocks hB ls hl
  have hown : s.vm.findClass RX1 = some m.cls := hown
  have S : CallFix p m c cX1_count 5 s _ lw_all RX1 := ⟨hx, hb, hml, hown, hts⟩
  have hP := hB.1
  have hK := hB.2
  have hl : lv_has ls 5 [(0, .ref (ad 0))] := hl
  refine lv_iconst (v := nI 0) hx hb dX1_count_0 (by decide +kernel) ?_
  refine lv_istore_n (lv' := [(1, .int (nI 0)), (0, .ref (ad 0))]) hx hb dX1_count_1 rfl hl (by decide) rfl (fun ls hl => ?_)
  refine lv_iconst (v := nI 0) hx hb dX1_count_2 (by decide +kernel) ?_
  refine lv_istore_n (lv' := [(2, .int (nI 0)), (1, .int (nI 0)), (0, .ref (ad 0))]) hx hb dX1_count_3 rfl hl (by decide) rfl (fun ls hl => ?_)
  refine pe_loopR (8) 4 (fun i ls => lv_has ls 5 [(0, .ref (ad 0)), (1, .int (nI (smF (fun k => (alF (fun j => decide (0 ≤ td (8 * k + j))) k).toNat) (i)))), (2, .int (nI i))]) (fun i hi_i ih_i ls hl => ?_) (0) (by omega) ls (lv_sub hl [2, 1, 0] rfl)
  refine lv_iload_n hx hb dX1_count_4 rfl (lv_at hl 2 rfl) ?_
  refine lv_bipush (v := nI 8) hx hb dX1_count_5 (by decide +kernel) ?_
  refine pe_icmp_ge hx hb 70 dX1_count_7 (by decide) (by omega) (by omega) (fun c7 => ?_) (fun c7 => ?_)
  · obtain rfl : i = 8 := by omega
    refine lv_iload_n hx hb dX1_count_70 rfl (lv_at hl 1 rfl) ?_
    exact pe_iretR (v := (nI (smF (fun k => (alF (fun j => decide (0 ≤ td (8 * k + j))) k).toNat) (8)))) hx hb hr hlocks dX1_count_71 (by first | rfl | simp [c7])
  · refine lv_iconst (v := nI 1) hx hb dX1_count_10 (by decide +kernel) ?_
    refine lv_istore_n (lv' := [(3, .int (nI 1)), (0, .ref (ad 0)), (1, .int (nI (smF (fun k => (alF (fun j => decide (0 ≤ td (8 * k + j))) k).toNat) (i)))), (2, .int (nI i))]) hx hb dX1_count_11 rfl hl (by decide) rfl (fun ls hl => ?_)
    refine lv_iconst (v := nI 0) hx hb dX1_count_12 (by decide +kernel) ?_
    refine lv_istore (lv' := [(4, .int (nI 0)), (3, .int (nI 1)), (0, .ref (ad 0)), (1, .int (nI (smF (fun k => (alF (fun j => decide (0 ≤ td (8 * k + j))) k).toNat) (i)))), (2, .int (nI i))]) hx hb dX1_count_13 hl (by decide) rfl (fun ls hl => ?_)
    refine pe_loopR (i) 15 (fun d ls => lv_has ls 5 [(0, .ref (ad 0)), (1, .int (nI (smF (fun k => (alF (fun j => decide (0 ≤ td (8 * k + j))) k).toNat) i))), (2, .int (nI i)), (3, .int (nI (alF (fun j => decide (0 ≤ td (8 * i + j))) (d)).toNat)), (4, .int (nI d))]) (fun d hi_d ih_d ls hl => ?_) (0) (by omega) ls (lv_sub hl [2, 3, 4, 1, 0] rfl)
    refine lv_iload hx hb dX1_count_15 (lv_at hl 4 rfl) ?_
    refine lv_iload_n hx hb dX1_count_17 rfl (lv_at hl 2 rfl) ?_
    refine pe_icmp_ge hx hb 52 dX1_count_18 (by decide) (by omega) (by omega) (fun c18 => ?_) (fun c18 => ?_)
    · have e_d : d = i := by omega
      rw [e_d] at hl
      refine lv_iload_n hx hb dX1_count_52 rfl (lv_at hl 3 rfl) ?_
      refine pe_join 63 (.int (nI (smF (fun k => (alF (fun j => decide (0 ≤ td (8 * k + j))) k).toNat) i + (alF (fun j => decide (0 ≤ td (8 * i + j))) i).toNat))) [] (fun K63 => ?_) ?_
      · refine pe_ifeqB hx hb 62 dX1_count_53 (by decide) (fun c53 => ?_) (fun c53 => ?_)
        · refine lv_iload_n hx hb dX1_count_62 rfl (lv_at hl 1 rfl) ?_
          exact pe_top (by first | rfl | simp [c53]) K63
        · refine lv_iload_n hx hb dX1_count_56 rfl (lv_at hl 1 rfl) ?_
          refine lv_iconst (v := nI 1) hx hb dX1_count_57 (by decide +kernel) ?_
          refine pe_iadd hx hb dX1_count_58 ?_
          refine lv_goto (tgt := 63) hx hb dX1_count_59 (by decide) ?_
          exact pe_top (by first | rfl | simp [c53]) K63
      · refine lv_istore_n (lv' := [(1, .int (nI (smF (fun k => (alF (fun j => decide (0 ≤ td (8 * k + j))) k).toNat) i + (alF (fun j => decide (0 ≤ td (8 * i + j))) i).toNat))), (0, .ref (ad 0)), (2, .int (nI i)), (3, .int (nI (alF (fun j => decide (0 ≤ td (8 * i + j))) (i)).toNat)), (4, .int (nI i))]) hx hb dX1_count_63 rfl hl (by decide) rfl (fun ls hl => ?_)
        refine pe_inc (k := 2) (a := i) (lv' := [(2, .int (nI (i + 1))), (1, .int (nI (smF (fun k => (alF (fun j => decide (0 ≤ td (8 * k + j))) k).toNat) i + (alF (fun j => decide (0 ≤ td (8 * i + j))) i).toNat))), (0, .ref (ad 0)), (3, .int (nI (alF (fun j => decide (0 ≤ td (8 * i + j))) (i)).toNat)), (4, .int (nI i))]) hx hb dX1_count_64 hl rfl (by decide) rfl (fun ls hl => ?_)
        refine lv_goto (tgt := 4) hx hb dX1_count_67 (by decide) ?_
        exact ih_i (by omega) ls (lv_sub hl [2, 1, 0] rfl)
    · refine lv_iload_n hx hb dX1_count_21 rfl (lv_at hl 3 rfl) ?_
      refine pe_join 45 (.int (nI (alF (fun j => decide (0 ≤ td (8 * i + j))) d && decide (0 ≤ td (8 * i + d))).toNat)) [] (fun K45 => ?_) ?_
      · refine pe_ifeqB hx hb 44 dX1_count_22 (by decide) (fun c22 => ?_) (fun c22 => ?_)
        · refine lv_iconst (v := nI 0) hx hb dX1_count_44 (by decide +kernel) ?_
          exact pe_top (by rw [c22]; rfl) K45
        · refine lv_aload_n hx hb dX1_count_25 rfl (lv_at hl 0 rfl) ?_
          refine va_get (D := G) (ci := 1) (v := .ref (ad 3)) (C := RX1) (T := TX1) (N := 5) hx hb hts in_X1 hown hK hP 0 rfl rfl 2 (by decide) (hts _ q211) (fun _ h9 => h9) rfl dX1_count_26 ?_
          refine lv_bipush (v := nI 8) hx hb dX1_count_29 (by decide +kernel) ?_
          refine lv_iload_n hx hb dX1_count_31 rfl (lv_at hl 2 rfl) ?_
          refine pe_imul hx hb dX1_count_32 ?_
          refine lv_iload hx hb dX1_count_33 (lv_at hl 4 rfl) ?_
          refine pe_iadd hx hb dX1_count_35 ?_
          refine pe_iald hx hb hK hP 3 0 rfl rfl dX1_count_36 (8 * i + d) (by omega) (by omega) (by decide) (v := (td (8 * i + d))) rfl ?_
          refine lv_if_lt (tgt := 44) hx hb dX1_count_37 (by decide) (fun c37 => ?_) (fun c37 => ?_)
          · refine lv_iconst (v := nI 0) hx hb dX1_count_44 (by decide +kernel) ?_
            exact pe_top (by rw [z_dec_lt c37, Bool.and_false]; rfl) K45
          · refine lv_iconst (v := nI 1) hx hb dX1_count_40 (by decide +kernel) ?_
            refine lv_goto (tgt := 45) hx hb dX1_count_41 (by decide) ?_
            exact pe_top (by rw [c22, z_dec_ge c37]; rfl) K45
      · refine lv_istore_n (lv' := [(3, .int (nI (alF (fun j => decide (0 ≤ td (8 * i + j))) d && decide (0 ≤ td (8 * i + d))).toNat)), (0, .ref (ad 0)), (1, .int (nI (smF (fun k => (alF (fun j => decide (0 ≤ td (8 * k + j))) k).toNat) i))), (2, .int (nI i)), (4, .int (nI d))]) hx hb dX1_count_45 rfl hl (by decide) rfl (fun ls hl => ?_)
        refine pe_inc (k := 4) (a := d) (lv' := [(4, .int (nI (d + 1))), (3, .int (nI (alF (fun j => decide (0 ≤ td (8 * i + j))) d && decide (0 ≤ td (8 * i + d))).toNat)), (0, .ref (ad 0)), (1, .int (nI (smF (fun k => (alF (fun j => decide (0 ≤ td (8 * k + j))) k).toNat) i))), (2, .int (nI i))]) hx hb dX1_count_46 hl rfl (by decide) rfl (fun ls hl => ?_)
        refine lv_goto (tgt := 15) hx hb dX1_count_49 (by decide) ?_
        exact ih_d (by omega) ls (lv_sub hl [2, 3, 4, 1, 0] rfl)
theorem hd_X1_answers : yX1_answers.cls ≠ "java/lang/invoke/MethodHandle" ∧ yX1_answers.cls ≠ "java/lang/invoke/VarHandle" ∧ (parseMethodDescriptor yX1_answers.desc).map (fun d => d.parameters.length) = some 2 := by decide +kernel
set_option maxHeartbeats 4000000 in
theorem m_X1_answers (l : Launch) (G : va_G) (ad : Nat → Nat) (cI cZ : ClassId) (nx fr : Nat → Nat) (td kp : Nat → Int32) (af : Nat → Bool) (b a : Nat) (h1 : b < 8) (h2 : a < 8) : Met l yX1_answers (ws_ yX1_answers cX1_answers 9 (some .boolean)) ({ frames := 0, cells := 0, slots := 0, locals := 0 }) (va_Pc [.ref (ad 0), .int (nI b), .int (nI a)] (pB G vwCl (yW ad cI cZ nx fr td kp af) (yT cI cZ))) (vp_Si (fun r => r = nI (zAns nx af b a).toNat)) 0 0 (fun _ => False) := by
  refine pe_start (by decide) (Nat.le_of_ble_eq_true rfl) ?_
  intro p e s m below meth c hx hb hr hml hown hts hlocks hB ls hl
  have hown : s.vm.findClass RX1 = some m.cls := hown
  have S : CallFix p m c cX1_answers 9 s _ lw_all RX1 := ⟨hx, hb, hml, hown, hts⟩
  have hP := hB.1
  have hK := hB.2
  have hl : lv_has ls 9 [(0, .ref (ad 0)), (1, .int (nI b)), (2, .int (nI a))] := hl
  refine lv_iconst (v := nI 1) hx hb dX1_answers_0 (by decide +kernel) ?_
  refine lv_istore_n (lv' := [(3, .int (nI 1)), (0, .ref (ad 0)), (1, .int (nI b)), (2, .int (nI a))]) hx hb dX1_answers_1 rfl hl (by decide) rfl (fun ls hl => ?_)
  refine lv_iconst (v := nI 0) hx hb dX1_answers_2 (by decide +kernel) ?_
  refine lv_istore (lv' := [(4, .int (nI 0)), (3, .int (nI 1)), (0, .ref (ad 0)), (1, .int (nI b)), (2, .int (nI a))]) hx hb dX1_answers_3 hl (by decide) rfl (fun ls hl => ?_)
  refine pe_loopR (24) 5 (fun i ls => lv_has ls 9 [(0, .ref (ad 0)), (1, .int (nI b)), (2, .int (nI a)), (3, .int (nI (alF (fun k => !(nx (8 * (k / 8) + a)).testBit (k % 8) || zAnsF nx af b k) (i)).toNat)), (4, .int (nI i))]) (fun i hi_i ih_i ls hl => ?_) (0) (by omega) ls (lv_sub hl [2, 3, 4, 1, 0] rfl)
  refine lv_iload hx hb dX1_answers_5 (lv_at hl 4 rfl) ?_
  refine lv_bipush (v := nI 24) hx hb dX1_answers_7 (by decide +kernel) ?_
  refine pe_icmp_ge hx hb 147 dX1_answers_9 (by decide) (by omega) (by omega) (fun c9 => ?_) (fun c9 => ?_)
  · obtain rfl : i = 24 := by omega
    refine lv_iload_n hx hb dX1_answers_147 rfl (lv_at hl 3 rfl) ?_
    exact pe_zretR (b := (alF (fun k => !(nx (8 * (k / 8) + a)).testBit (k % 8) || zAnsF nx af b k) (24))) hx hb hr hlocks dX1_answers_148 (by first | rfl | simp [c9])
  · refine lv_iload hx hb dX1_answers_12 (lv_at hl 4 rfl) ?_
    refine lv_bipush (v := nI 8) hx hb dX1_answers_14 (by decide +kernel) ?_
    refine pe_idiv hx hb (by omega) (by omega) (by omega) dX1_answers_16 ?_
    refine lv_istore (lv' := [(5, .int (nI (i / 8))), (0, .ref (ad 0)), (1, .int (nI b)), (2, .int (nI a)), (3, .int (nI (alF (fun k => !(nx (8 * (k / 8) + a)).testBit (k % 8) || zAnsF nx af b k) (i)).toNat)), (4, .int (nI i))]) hx hb dX1_answers_17 hl (by decide) rfl (fun ls hl => ?_)
    refine lv_aload_n hx hb dX1_answers_19 rfl (lv_at hl 1 rfl) ?_
    refine va_get (D := G) (ci := 1) (v := .ref (ad 1)) (C := RX1) (T := TX1) (N := 5) hx hb hts in_X1 hown hK hP 0 rfl rfl 0 (by decide) (hts _ q209) (fun _ h9 => h9) rfl dX1_answers_20 ?_
    refine lv_bipush (v := nI 8) hx hb dX1_answers_23 (by decide +kernel) ?_
    refine lv_iload hx hb dX1_answers_25 (lv_at hl 0 rfl) ?_
    refine pe_imul hx hb dX1_answers_27 ?_
    refine lv_iload_n hx hb dX1_answers_28 rfl (lv_at hl 3 rfl) ?_
    refine pe_iadd hx hb dX1_answers_29 ?_
    refine pe_iald hx hb hK hP 1 0 rfl rfl dX1_answers_30 (8 * (i / 8) + a) (by omega) (by omega) (by decide) (v := (nI (nx (8 * (i / 8) + a)))) rfl ?_
    refine lv_iload hx hb dX1_answers_31 (lv_at hl 5 rfl) ?_
    refine lv_bipush (v := nI 8) hx hb dX1_answers_33 (by decide +kernel) ?_
    refine pe_irem hx hb (by omega) (by omega) (by omega) dX1_answers_35 ?_
    refine lv_ishr hx hb dX1_answers_36 ?_
    refine lv_iconst (v := nI 1) hx hb dX1_answers_37 (by decide +kernel) ?_
    refine pe_iandbit hx hb (by omega) dX1_answers_38 ?_
    refine lv_iconst (v := nI 1) hx hb dX1_answers_39 (by decide +kernel) ?_
    refine pe_join 48 (.int (nI ((nx (8 * (i / 8) + a)).testBit (i % 8)).toNat)) [] (fun K48 => ?_) ?_
    · refine pe_icmp_neB hx hb 47 dX1_answers_40 (by decide) (fun c40 => ?_) (fun c40 => ?_)
      · refine lv_iconst (v := nI 0) hx hb dX1_answers_47 (by decide +kernel) ?_
        exact pe_top (by first | rfl | simp [c40]) K48
      · refine lv_iconst (v := nI 1) hx hb dX1_answers_43 (by decide +kernel) ?_
        refine lv_goto (tgt := 48) hx hb dX1_answers_44 (by decide) ?_
        exact pe_top (by first | rfl | simp [c40]) K48
    · refine lv_istore (lv' := [(6, .int (nI ((nx (8 * (i / 8) + a)).testBit (i % 8)).toNat)), (5, .int (nI (i / 8))), (0, .ref (ad 0)), (1, .int (nI b)), (2, .int (nI a)), (3, .int (nI (alF (fun k => !(nx (8 * (k / 8) + a)).testBit (k % 8) || zAnsF nx af b k) (i)).toNat)), (4, .int (nI i))]) hx hb dX1_answers_48 hl (by decide) rfl (fun ls hl => ?_)
      refine lv_iconst (v := nI 0) hx hb dX1_answers_50 (by decide +kernel) ?_
      refine lv_istore (lv' := [(7, .int (nI 0)), (6, .int (nI ((nx (8 * (i / 8) + a)).testBit (i % 8)).toNat)), (5, .int (nI (i / 8))), (0, .ref (ad 0)), (1, .int (nI b)), (2, .int (nI a)), (3, .int (nI (alF (fun k => !(nx (8 * (k / 8) + a)).testBit (k % 8) || zAnsF nx af b k) (i)).toNat)), (4, .int (nI i))]) hx hb dX1_answers_51 hl (by decide) rfl (fun ls hl => ?_)
      refine lv_iconst (v := nI 0) hx hb dX1_answers_53 (by decide +kernel) ?_
      refine lv_istore (lv' := [(8, .int (nI 0)), (7, .int (nI 0)), (6, .int (nI ((nx (8 * (i / 8) + a)).testBit (i % 8)).toNat)), (5, .int (nI (i / 8))), (0, .ref (ad 0)), (1, .int (nI b)), (2, .int (nI a)), (3, .int (nI (alF (fun k => !(nx (8 * (k / 8) + a)).testBit (k % 8) || zAnsF nx af b k) (i)).toNat)), (4, .int (nI i))]) hx hb dX1_answers_54 hl (by decide) rfl (fun ls hl => ?_)
      refine pe_loopR (8) 56 (fun d ls => lv_has ls 9 [(0, .ref (ad 0)), (1, .int (nI b)), (2, .int (nI a)), (3, .int (nI (alF (fun k => !(nx (8 * (k / 8) + a)).testBit (k % 8) || zAnsF nx af b k) i).toNat)), (4, .int (nI i)), (5, .int (nI (i / 8))), (6, .int (nI ((nx (8 * (i / 8) + a)).testBit (i % 8)).toNat)), (7, .int (nI (anF (fun j => (nx (8 * (i / 8) + b)).testBit j && af (8 * j + i % 8)) (d)).toNat)), (8, .int (nI d))]) (fun d hi_d ih_d ls hl => ?_) (0) (by omega) ls (lv_sub hl [4, 5, 6, 7, 8, 3, 2, 1, 0] rfl)
      refine lv_iload hx hb dX1_answers_56 (lv_at hl 8 rfl) ?_
      refine lv_bipush (v := nI 8) hx hb dX1_answers_58 (by decide +kernel) ?_
      refine pe_icmp_ge hx hb 121 dX1_answers_60 (by decide) (by omega) (by omega) (fun c60 => ?_) (fun c60 => ?_)
      · obtain rfl : d = 8 := by omega
        refine lv_iload_n hx hb dX1_answers_121 rfl (lv_at hl 3 rfl) ?_
        refine pe_join 140 (.int (nI (alF (fun k => !(nx (8 * (k / 8) + a)).testBit (k % 8) || zAnsF nx af b k) i && (!(nx (8 * (i / 8) + a)).testBit (i % 8) || anF (fun j => (nx (8 * (i / 8) + b)).testBit j && af (8 * j + i % 8)) 8)).toNat)) [] (fun K140 => ?_) ?_
        · refine pe_ifeqB hx hb 139 dX1_answers_122 (by decide) (fun c122 => ?_) (fun c122 => ?_)
          · refine lv_iconst (v := nI 0) hx hb dX1_answers_139 (by decide +kernel) ?_
            exact pe_top (by first | rfl | simp [c122]) K140
          · refine lv_iload hx hb dX1_answers_125 (lv_at hl 6 rfl) ?_
            refine pe_ifeqB hx hb 135 dX1_answers_127 (by decide) (fun c127 => ?_) (fun c127 => ?_)
            · refine lv_iconst (v := nI 1) hx hb dX1_answers_135 (by decide +kernel) ?_
              refine lv_goto (tgt := 140) hx hb dX1_answers_136 (by decide) ?_
              exact pe_top (by first | rfl | simp [c122, c127]) K140
            · refine lv_iload hx hb dX1_answers_130 (lv_at hl 7 rfl) ?_
              refine pe_ifeqB hx hb 139 dX1_answers_132 (by decide) (fun c132 => ?_) (fun c132 => ?_)
              · refine lv_iconst (v := nI 0) hx hb dX1_answers_139 (by decide +kernel) ?_
                exact pe_top (by first | rfl | simp [c122, c127, c132]) K140
              · refine lv_iconst (v := nI 1) hx hb dX1_answers_135 (by decide +kernel) ?_
                refine lv_goto (tgt := 140) hx hb dX1_answers_136 (by decide) ?_
                exact pe_top (by first | rfl | simp [c122, c127, c132]) K140
        · refine lv_istore_n (lv' := [(3, .int (nI (alF (fun k => !(nx (8 * (k / 8) + a)).testBit (k % 8) || zAnsF nx af b k) i && (!(nx (8 * (i / 8) + a)).testBit (i % 8) || anF (fun j => (nx (8 * (i / 8) + b)).testBit j && af (8 * j + i % 8)) 8)).toNat)), (0, .ref (ad 0)), (1, .int (nI b)), (2, .int (nI a)), (4, .int (nI i)), (5, .int (nI (i / 8))), (6, .int (nI ((nx (8 * (i / 8) + a)).testBit (i % 8)).toNat)), (7, .int (nI (anF (fun j => (nx (8 * (i / 8) + b)).testBit j && af (8 * j + i % 8)) (8)).toNat)), (8, .int (nI 8))]) hx hb dX1_answers_140 rfl hl (by decide) rfl (fun ls hl => ?_)
          refine pe_inc (k := 4) (a := i) (lv' := [(4, .int (nI (i + 1))), (3, .int (nI (alF (fun k => !(nx (8 * (k / 8) + a)).testBit (k % 8) || zAnsF nx af b k) i && (!(nx (8 * (i / 8) + a)).testBit (i % 8) || anF (fun j => (nx (8 * (i / 8) + b)).testBit j && af (8 * j + i % 8)) 8)).toNat)), (0, .ref (ad 0)), (1, .int (nI b)), (2, .int (nI a)), (5, .int (nI (i / 8))), (6, .int (nI ((nx (8 * (i / 8) + a)).testBit (i % 8)).toNat)), (7, .int (nI (anF (fun j => (nx (8 * (i / 8) + b)).testBit j && af (8 * j + i % 8)) (8)).toNat)), (8, .int (nI 8))]) hx hb dX1_answers_141 hl rfl (by decide) rfl (fun ls hl => ?_)
          refine lv_goto (tgt := 5) hx hb dX1_answers_144 (by decide) ?_
          exact ih_i (by omega) ls (lv_sub hl [2, 3, 4, 1, 0] rfl)
      · refine lv_iload hx hb dX1_answers_63 (lv_at hl 7 rfl) ?_
        refine pe_join 113 (.int (nI (anF (fun j => (nx (8 * (i / 8) + b)).testBit j && af (8 * j + i % 8)) d || ((nx (8 * (i / 8) + b)).testBit d && af (8 * d + i % 8))).toNat)) [] (fun K113 => ?_) ?_
        · refine pe_ifneB hx hb 108 dX1_answers_65 (by decide) (fun c65 => ?_) (fun c65 => ?_)
          · refine lv_iconst (v := nI 1) hx hb dX1_answers_108 (by decide +kernel) ?_
            refine lv_goto (tgt := 113) hx hb dX1_answers_109 (by decide) ?_
            exact pe_top (by first | rfl | simp [c65]) K113
          · refine lv_aload_n hx hb dX1_answers_68 rfl (lv_at hl 0 rfl) ?_
            refine va_get (D := G) (ci := 1) (v := .ref (ad 1)) (C := RX1) (T := TX1) (N := 5) hx hb hts in_X1 hown hK hP 0 rfl rfl 0 (by decide) (hts _ q209) (fun _ h9 => h9) rfl dX1_answers_69 ?_
            refine lv_bipush (v := nI 8) hx hb dX1_answers_72 (by decide +kernel) ?_
            refine lv_iload hx hb dX1_answers_74 (lv_at hl 5 rfl) ?_
            refine pe_imul hx hb dX1_answers_76 ?_
            refine lv_iload_n hx hb dX1_answers_77 rfl (lv_at hl 1 rfl) ?_
            refine pe_iadd hx hb dX1_answers_78 ?_
            refine pe_iald hx hb hK hP 1 0 rfl rfl dX1_answers_79 (8 * (i / 8) + b) (by omega) (by omega) (by decide) (v := (nI (nx (8 * (i / 8) + b)))) rfl ?_
            refine lv_iload hx hb dX1_answers_80 (lv_at hl 8 rfl) ?_
            refine lv_ishr hx hb dX1_answers_82 ?_
            refine lv_iconst (v := nI 1) hx hb dX1_answers_83 (by decide +kernel) ?_
            refine pe_iandbit hx hb (by omega) dX1_answers_84 ?_
            refine lv_iconst (v := nI 1) hx hb dX1_answers_85 (by decide +kernel) ?_
            refine pe_icmp_neB hx hb 112 dX1_answers_86 (by decide) (fun c86 => ?_) (fun c86 => ?_)
            · refine lv_iconst (v := nI 0) hx hb dX1_answers_112 (by decide +kernel) ?_
              exact pe_top (by first | rfl | simp [c65, c86]) K113
            · refine lv_aload_n hx hb dX1_answers_89 rfl (lv_at hl 0 rfl) ?_
              refine va_get (D := G) (ci := 1) (v := .ref (ad 5)) (C := RX1) (T := TX1) (N := 5) hx hb hts in_X1 hown hK hP 0 rfl rfl 4 (by decide) (hts _ q213) (fun _ h9 => h9) rfl dX1_answers_90 ?_
              refine lv_bipush (v := nI 8) hx hb dX1_answers_93 (by decide +kernel) ?_
              refine lv_iload hx hb dX1_answers_95 (lv_at hl 8 rfl) ?_
              refine pe_imul hx hb dX1_answers_97 ?_
              refine lv_iload hx hb dX1_answers_98 (lv_at hl 4 rfl) ?_
              refine lv_bipush (v := nI 8) hx hb dX1_answers_100 (by decide +kernel) ?_
              refine pe_irem hx hb (by omega) (by omega) (by omega) dX1_answers_102 ?_
              refine pe_iadd hx hb dX1_answers_103 ?_
              refine pe_zald hx hb hK hP 5 1 rfl rfl dX1_answers_104 (8 * d + i % 8) (by omega) (by omega) (by decide) (v := (nI (af (8 * d + i % 8)).toNat)) rfl ?_
              refine pe_ifeqB hx hb 112 dX1_answers_105 (by decide) (fun c105 => ?_) (fun c105 => ?_)
              · refine lv_iconst (v := nI 0) hx hb dX1_answers_112 (by decide +kernel) ?_
                exact pe_top (by first | rfl | simp [c65, c86, c105]) K113
              · refine lv_iconst (v := nI 1) hx hb dX1_answers_108 (by decide +kernel) ?_
                refine lv_goto (tgt := 113) hx hb dX1_answers_109 (by decide) ?_
                exact pe_top (by first | rfl | simp [c65, c86, c105]) K113
        · refine lv_istore (lv' := [(7, .int (nI (anF (fun j => (nx (8 * (i / 8) + b)).testBit j && af (8 * j + i % 8)) d || ((nx (8 * (i / 8) + b)).testBit d && af (8 * d + i % 8))).toNat)), (0, .ref (ad 0)), (1, .int (nI b)), (2, .int (nI a)), (3, .int (nI (alF (fun k => !(nx (8 * (k / 8) + a)).testBit (k % 8) || zAnsF nx af b k) i).toNat)), (4, .int (nI i)), (5, .int (nI (i / 8))), (6, .int (nI ((nx (8 * (i / 8) + a)).testBit (i % 8)).toNat)), (8, .int (nI d))]) hx hb dX1_answers_113 hl (by decide) rfl (fun ls hl => ?_)
          refine pe_inc (k := 8) (a := d) (lv' := [(8, .int (nI (d + 1))), (7, .int (nI (anF (fun j => (nx (8 * (i / 8) + b)).testBit j && af (8 * j + i % 8)) d || ((nx (8 * (i / 8) + b)).testBit d && af (8 * d + i % 8))).toNat)), (0, .ref (ad 0)), (1, .int (nI b)), (2, .int (nI a)), (3, .int (nI (alF (fun k => !(nx (8 * (k / 8) + a)).testBit (k % 8) || zAnsF nx af b k) i).toNat)), (4, .int (nI i)), (5, .int (nI (i / 8))), (6, .int (nI ((nx (8 * (i / 8) + a)).testBit (i % 8)).toNat))]) hx hb dX1_answers_115 hl rfl (by decide) rfl (fun ls hl => ?_)
          refine lv_goto (tgt := 56) hx hb dX1_answers_118 (by decide) ?_
          exact ih_d (by omega) ls (lv_sub hl [2, 3, 4, 5, 6, 7, 8, 1, 0] rfl)
theorem hd_X1_silently : yX1_silently.cls ≠ "java/lang/invoke/MethodHandle" ∧ yX1_silently.cls ≠ "java/lang/invoke/VarHandle" ∧ (parseMethodDescriptor yX1_silently.desc).map (fun d => d.parameters.length) = some 1 := by decide +kernel
set_option maxHeartbeats 4000000 in
theorem m_X1_silently (l : Launch) (G : va_G) (ad : Nat → Nat) (cI cZ : ClassId) (nx fr : Nat → Nat) (td kp : Nat → Int32) (af : Nat → Bool) (x : Int32) : Met l yX1_silently (ws_ yX1_silently cX1_silently 2 (some .int)) ({ frames := 2, cells := 0, slots := 0, locals := 47 }) (va_Pc [.ref (ad 0), .int x] (pB G vwCl (yW ad cI cZ nx fr td kp af) (yT cI cZ))) (vp_Si (fun r => r = nI (if zSt x then zQ nx (tn x) 8 else 0))) 0 0 (fun _ => False) := by
  refine pe_start (by decide) (Nat.le_of_ble_eq_true rfl) ?_
  intro p e s m below meth c hx hb hr hml hown hts hlocks hB ls hl
  have hown : s.vm.findClass RX1 = some m.cls := hown
  have S : CallFix p m c cX1_silently 2 s _ lw_all RX1 := ⟨hx, hb, hml, hown, hts⟩
  have hP := hB.1
  have hK := hB.2
  have hl : lv_has ls 2 [(0, .ref (ad 0)), (1, .int x)] := hl
  refine lv_aload_n hx hb dX1_silently_0 rfl (lv_at hl 0 rfl) ?_
  refine lv_iload_n hx hb dX1_silently_1 rfl (lv_at hl 1 rfl) ?_
  refine pe_cV (n := 1) (rest := []) S hK hP (m_X1_state l G ad cI cZ nx fr td kp af x) (ci := 1) rfl rfl rfl q231 q233 qs16 q33 q234 ⟨rfl, hd_X1_state⟩ rfl ⟨rfl, rfl⟩ ⟨Nat.le_of_ble_eq_true rfl, Nat.le_of_ble_eq_true rfl⟩ ⟨Nat.le_of_ble_eq_true rfl, Nat.le_of_ble_eq_true rfl⟩ hl.1 rfl (Nat.le_of_ble_eq_true rfl) dX1_silently_2 (fun r hr_ => ?_)
  subst hr_
  refine pe_ifeqB hx hb 16 dX1_silently_5 (by decide) (fun c5 => ?_) (fun c5 => ?_)
  · refine lv_iconst (v := nI 0) hx hb dX1_silently_16 (by decide +kernel) ?_
    exact pe_iretR (v := (nI 0)) hx hb hr hlocks dX1_silently_17 (by show nI _ = nI _; rw [c5]; rfl)
  · obtain ⟨i, hi, rfl⟩ := zSt_of c5
    refine lv_aload_n hx hb dX1_silently_8 rfl (lv_at hl 0 rfl) ?_
    refine lv_iload_n hx hb dX1_silently_9 rfl (lv_at hl 1 rfl) ?_
    refine pe_cV (n := 1) (rest := []) S hK hP (m_X1_quietly l G ad cI cZ nx fr td kp af i (by omega)) (ci := 1) rfl rfl rfl q307 q309 qs26 q33 q310 ⟨rfl, hd_X1_quietly⟩ rfl ⟨rfl, rfl⟩ ⟨Nat.le_of_ble_eq_true rfl, Nat.le_of_ble_eq_true rfl⟩ ⟨Nat.le_of_ble_eq_true rfl, Nat.le_of_ble_eq_true rfl⟩ hl.1 rfl (Nat.le_of_ble_eq_true rfl) dX1_silently_10 (fun r hr_ => ?_)
    subst hr_
    refine lv_goto (tgt := 17) hx hb dX1_silently_13 (by decide) ?_
    exact pe_iretR (v := (nI (zQ nx i 8))) hx hb hr hlocks dX1_silently_17 (by show nI _ = nI _; rw [if_pos c5, tn, nI_clamp (by omega)])
end
section
/-! THEORY, no program in sight: pairs told apart round by round -/
def zD (tg : Nat → Nat) (E : Nat → Nat → Bool) (a b : Nat) : Bool := anF (fun c => (tg (8 * (c / 8) + a)).testBit (c % 8) && alF (fun d => !(tg (8 * (c / 8) + b)).testBit d || !E (c % 8) d) 8) 24
/-- not told apart after k rounds -/
def zE (tg : Nat → Nat) : Nat → Nat → Nat → Bool
  | 0 => fun _ _ => true
  | k + 1 => fun a b => zE tg k a b && !zD tg (zE tg k) a b && !zD tg (zE tg k) b a
def zH (tg : Nat → Nat) (E : Nat → Nat → Bool) (a b : Nat) : Prop := ∀ l c, l < 3 → c < 8 → (tg (8 * l + a)).testBit c = true → ∃ d, d < 8 ∧ (tg (8 * l + b)).testBit d = true ∧ E c d = true
theorem zD_iff (tg : Nat → Nat) (E : Nat → Nat → Bool) (a b : Nat) : zD tg E a b = false ↔ zH tg E a b := by
  constructor
  · intro h l c hl hc ht
    apply Classical.byContradiction
    intro hn
    have h1 : zD tg E a b = true := by
      refine (anF_iff _ _).mpr ⟨8 * l + c, by omega, ?_⟩
      have e1 : (8 * l + c) / 8 = l := by omega
      have e2 : (8 * l + c) % 8 = c := by omega
      show ((tg (8 * ((8 * l + c) / 8) + a)).testBit ((8 * l + c) % 8) && alF (fun d => !(tg (8 * ((8 * l + c) / 8) + b)).testBit d || !E ((8 * l + c) % 8) d) 8) = true
      rw [e1, e2, ht, Bool.true_and]
      refine (alF_iff _ _).mpr (fun d hd => ?_)
      show (!(tg (8 * l + b)).testBit d || !E c d) = true
      cases h2 : (tg (8 * l + b)).testBit d with
      | false => rfl
      | true =>
        cases h3 : E c d with
        | false => rfl
        | true => exact absurd ⟨d, hd, h2, h3⟩ hn
    rw [h] at h1
    cases h1
  · intro h
    apply Bool.eq_false_iff.mpr
    intro h1
    obtain ⟨c, hc, h2⟩ := (anF_iff _ _).mp h1
    rw [Bool.and_eq_true] at h2
    obtain ⟨d, hd, h3, h4⟩ := h (c / 8) (c % 8) (by omega) (by omega) h2.1
    have h5 := (alF_iff _ _).mp h2.2 d hd
    rw [h3, h4] at h5
    cases h5
theorem zE_succ (tg : Nat → Nat) (k a b : Nat) : zE tg (k + 1) a b = true ↔ zE tg k a b = true ∧ zH tg (zE tg k) a b ∧ zH tg (zE tg k) b a := by
  show (zE tg k a b && !zD tg (zE tg k) a b && !zD tg (zE tg k) b a) = true ↔ _
  rw [Bool.and_eq_true, Bool.and_eq_true, Bool.not_eq_true', Bool.not_eq_true', zD_iff, zD_iff]
  exact ⟨fun h => ⟨h.1.1, h.1.2, h.2⟩, fun h => ⟨⟨h.1, h.2.1⟩, h.2.2⟩⟩
theorem zE_refl (tg : Nat → Nat) (k : Nat) : ∀ a, zE tg k a a = true := by
  induction k with
  | zero => intro a; rfl
  | succ k ih =>
    intro a
    have h : zH tg (zE tg k) a a := fun l c _ hc ht => ⟨c, hc, ht, ih c⟩
    exact (zE_succ tg k a a).mpr ⟨ih a, h, h⟩
theorem zE_symm {tg : Nat → Nat} {k a b : Nat} (h : zE tg k a b = true) : zE tg k b a = true := by
  induction k generalizing a b with
  | zero => rfl
  | succ k ih =>
    obtain ⟨h1, h2, h3⟩ := (zE_succ tg k a b).mp h
    exact (zE_succ tg k b a).mpr ⟨ih h1, h3, h2⟩
theorem zE_trans {tg : Nat → Nat} {k a b c : Nat} (h : zE tg k a b = true) (h' : zE tg k b c = true) : zE tg k a c = true := by
  induction k generalizing a b c with
  | zero => rfl
  | succ k ih =>
    obtain ⟨h1, h2, h3⟩ := (zE_succ tg k a b).mp h
    obtain ⟨g1, g2, g3⟩ := (zE_succ tg k b c).mp h'
    have tr : ∀ {x y z : Nat}, zH tg (zE tg k) x y → zH tg (zE tg k) y z → zH tg (zE tg k) x z := by
      intro x y z hx hy l d hl hd ht
      obtain ⟨d1, a1, a2, a3⟩ := hx l d hl hd ht
      obtain ⟨d2, b1, b2, b3⟩ := hy l d1 hl a1 a2
      exact ⟨d2, b1, b2, ih a3 b3⟩
    exact (zE_succ tg k a c).mpr ⟨ih h1 g1, tr h2 g2, tr g3 h3⟩
theorem zE_mono {tg : Nat → Nat} {k a b : Nat} (h : zE tg (k + 1) a b = true) : zE tg k a b = true := ((zE_succ tg k a b).mp h).1
theorem zE_sy (tg : Nat → Nat) (k a b : Nat) : zE tg k a b = zE tg k b a := by
  cases h : zE tg k a b with
  | true => exact (zE_symm h).symm
  | false =>
    cases h2 : zE tg k b a with
    | false => rfl
    | true => rw [zE_symm h2] at h; cases h
/-- the least state of a's group after k rounds -/
def zG (tg : Nat → Nat) (k a : Nat) : Nat := fsF (fun b => zE tg k b a) a 0
theorem zG_le (tg : Nat → Nat) (k a : Nat) : zG tg k a ≤ a := by
  have h := (fsF_spec (fun b => zE tg k b a) a 0).2.1
  unfold zG; omega
theorem zG_in (tg : Nat → Nat) (k a : Nat) : zE tg k (zG tg k a) a = true := by
  have h := (fsF_spec (fun b => zE tg k b a) a 0).2.2.2
  by_cases e : zG tg k a < a
  · exact h (by unfold zG at e; omega)
  · have h2 := zG_le tg k a
    rw [show zG tg k a = a by omega]
    exact zE_refl tg k a
theorem zG_min {tg : Nat → Nat} {k a j : Nat} (h : j < zG tg k a) : zE tg k j a = false := (fsF_spec (fun b => zE tg k b a) a 0).2.2.1 j (by omega) h
theorem zG_eq (tg : Nat → Nat) (k a b : Nat) : zG tg k a = zG tg k b ↔ zE tg k a b = true := by
  constructor
  · intro h
    have h1 := zG_in tg k a
    have h2 := zG_in tg k b
    rw [← h] at h2
    exact zE_trans (zE_symm h1) h2
  · intro h
    have key : ∀ {x y : Nat}, zE tg k x y = true → zG tg k x ≤ zG tg k y := by
      intro x y hxy
      apply Nat.le_of_not_lt
      intro hlt
      have h1 := zG_min hlt
      rw [zE_trans (zG_in tg k y) (zE_symm hxy)] at h1
      cases h1
    exact Nat.le_antisymm (key h) (key (zE_symm h))
theorem zG_lt {tg : Nat → Nat} {k a : Nat} (h : a < 8) : zG tg k a < 8 := Nat.lt_of_le_of_lt (zG_le tg k a) h
theorem zG_zG (tg : Nat → Nat) (k a : Nat) : zG tg k (zG tg k a) = zG tg k a := (zG_eq tg k _ _).mpr (zG_in tg k a)
theorem fsF_uniq {P : Nat → Bool} {n r : Nat} (h1 : r ≤ n) (h2 : ∀ j, j < r → P j = false) (h3 : r < n → P r = true) : fsF P n 0 = r := by
  obtain ⟨-, a2, a3, a4⟩ := fsF_spec P n 0
  rcases Nat.lt_trichotomy (fsF P n 0) r with h | h | h
  · have := a4 (by omega); rw [h2 _ h] at this; cases this
  · exact h
  · have := a3 r (by omega) h; rw [h3 (by omega)] at this; cases this
theorem fsF_congr {P Q : Nat → Bool} {n : Nat} (h : ∀ j, j < n → P j = Q j) : fsF P n 0 = fsF Q n 0 := by
  obtain ⟨-, a2, a3, a4⟩ := fsF_spec Q n 0
  exact fsF_uniq (by omega) (fun j hj => by rw [h j (by omega)]; exact a3 j (by omega) hj) (fun hr => by rw [h _ hr]; exact a4 (by omega))
-- the groups that steps lead to
theorem zGa_tb (tg g : Nat → Nat) (a l k : Nat) : (zGa tg g a l).testBit k = true ↔ ∃ b, b < 8 ∧ (tg (8 * l + a)).testBit b = true ∧ g b = k := by
  unfold zGa
  rw [orF_tb]
  constructor
  · rintro (h | ⟨b, hb, h⟩)
    · rw [Nat.zero_testBit] at h; cases h
    · by_cases e : (tg (8 * l + a)).testBit b = true
      · rw [if_pos e, Nat.testBit_two_pow, decide_eq_true_eq] at h
        exact ⟨b, hb, e, h⟩
      · rw [if_neg e, Nat.zero_testBit] at h; cases h
  · rintro ⟨b, hb, h1, h2⟩
    refine Or.inr ⟨b, hb, ?_⟩
    rw [if_pos h1, Nat.testBit_two_pow, decide_eq_true_eq]
    exact h2
theorem zSt3_iff {tg g : Nat → Nat} {E : Nat → Nat → Bool} (hg : ∀ c d, c < 8 → d < 8 → (g c = g d ↔ E c d = true)) (a b : Nat) : zSt3 tg g a b = true ↔ zH tg E a b ∧ zH tg E b a := by
  unfold zSt3
  rw [alF_iff]
  have half : ∀ x y, (∀ l, l < 3 → ∀ k, (zGa tg g x l).testBit k = true → (zGa tg g y l).testBit k = true) ↔ zH tg E x y := by
    intro x y
    constructor
    · intro h l c hl hc ht
      obtain ⟨d, h1, h2, h3⟩ := (zGa_tb tg g y l (g c)).mp (h l hl (g c) ((zGa_tb tg g x l (g c)).mpr ⟨c, hc, ht, rfl⟩))
      exact ⟨d, h1, h2, (hg c d hc h1).mp h3.symm⟩
    · intro h l hl k hk
      obtain ⟨c, h1, h2, h3⟩ := (zGa_tb tg g x l k).mp hk
      obtain ⟨d, g1, g2, g3⟩ := h l c hl h1 h2
      exact (zGa_tb tg g y l k).mpr ⟨d, g1, g2, by rw [← h3]; exact ((hg c d h1 g1).mpr g3).symm⟩
  constructor
  · intro h
    refine ⟨(half a b).mp (fun l hl k hk => ?_), (half b a).mp (fun l hl k hk => ?_)⟩
    · rw [← of_decide_eq_true (h l hl)]; exact hk
    · rw [of_decide_eq_true (h l hl)]; exact hk
  · rintro ⟨h1, h2⟩ l hl
    apply decide_eq_true
    apply Nat.eq_of_testBit_eq
    intro k
    have p1 := (half a b).mpr h1 l hl k
    have p2 := (half b a).mpr h2 l hl k
    cases e1 : (zGa tg g a l).testBit k with
    | true => exact (p1 e1).symm
    | false =>
      cases e2 : (zGa tg g b l).testBit k with
      | false => rfl
      | true => rw [p2 e2] at e1; cases e1
/-- the place for a in the next round -/
theorem zPf_eq {tg g w : Nat → Nat} {k a : Nat} (ha : a < 8) (hg : ∀ j, j < 8 → g j = zG tg k j) (hw : ∀ j, j < a → w j = zG tg (k + 1) j) : zPf tg g w a = zG tg (k + 1) a := by
  have hE : ∀ c d, c < 8 → d < 8 → (g c = g d ↔ zE tg k c d = true) := fun c d hc hd => by rw [hg c hc, hg d hd]; exact zG_eq tg k c d
  have hP : ∀ b, b < a → ((decide (g b = g a) && decide (w b = b) && zSt3 tg g a b) = true ↔ zE tg (k + 1) b a = true ∧ zG tg (k + 1) b = b) := by
    intro b hb
    rw [Bool.and_eq_true, Bool.and_eq_true, decide_eq_true_eq, decide_eq_true_eq, hE b a (by omega) ha, zSt3_iff hE, hw b hb, zE_succ]
    exact ⟨fun h => ⟨⟨h.1.1, h.2.2, h.2.1⟩, h.1.2⟩, fun h => ⟨⟨h.1.1, h.2⟩, h.1.2.2, h.1.2.1⟩⟩
  unfold zPf
  refine fsF_uniq (zG_le tg (k + 1) a) (fun j hj => ?_) (fun hr => ?_)
  · apply Bool.eq_false_iff.mpr
    intro h
    have h1 := ((hP j (Nat.lt_of_lt_of_le hj (zG_le tg (k + 1) a))).mp h).1
    rw [zG_min hj] at h1
    cases h1
  · exact (hP _ hr).mpr ⟨zG_in tg (k + 1) a, zG_zG tg (k + 1) a⟩
-- the round in which a pair is told apart
def zT (tg : Nat → Nat) : Nat → Nat → Int32
  | 0 => fun _ => -1
  | k + 1 => fun j => if zE tg k (j / 8) (j % 8) && !zE tg (k + 1) (j / 8) (j % 8) then nI (k + 1) else zT tg k j
theorem zT_y {tg : Nat → Nat} {k j : Nat} (h : zE tg k (j / 8) (j % 8) = true) : zT tg k j = -1 := by
  induction k with
  | zero => rfl
  | succ k ih =>
    show (if _ then _ else _) = _
    rw [h, Bool.not_true, Bool.and_false]
    exact ih (zE_mono h)
theorem zT_n {tg : Nat → Nat} {k j : Nat} (h : zE tg k (j / 8) (j % 8) = false) : ∃ r, 1 ≤ r ∧ r ≤ k ∧ zT tg k j = nI r := by
  induction k with
  | zero => cases h
  | succ k ih =>
    cases h2 : zE tg k (j / 8) (j % 8) with
    | true =>
      refine ⟨k + 1, by omega, by omega, ?_⟩
      show (if _ then _ else _) = _
      rw [h, h2]; rfl
    | false =>
      obtain ⟨r, h3, h4, h5⟩ := ih h2
      refine ⟨r, h3, by omega, ?_⟩
      show (if _ then _ else _) = _
      rw [h2, Bool.false_and]; exact h5
theorem zT_lt0 {tg : Nat → Nat} {k j : Nat} (hk : k < 1000) : zT tg k j < 0 ↔ zE tg k (j / 8) (j % 8) = true := by
  cases h : zE tg k (j / 8) (j % 8) with
  | true => rw [zT_y h]; exact ⟨fun _ => rfl, fun _ => by decide⟩
  | false =>
    obtain ⟨r, h1, h2, h3⟩ := zT_n h
    rw [h3]
    exact ⟨fun q => absurd q (nI_pos (by omega)), fun q => by cases q⟩
/-- inside a round what was told before it counts alone -/
theorem zApt_eq {tg : Nat → Nat} {td : Nat → Int32} {k j : Nat} (hk : k < 1000) (h : td j = zT tg k j ∨ td j = zT tg (k + 1) j) : zApt td (nI (k + 1)) j = !zE tg k (j / 8) (j % 8) := by
  cases e : zE tg k (j / 8) (j % 8) with
  | true =>
    rcases h with h | h
    · rw [Bool.not_true]; exact z_apt_lt (by rw [h, zT_y e]; decide)
    · rw [Bool.not_true]
      cases e2 : zE tg (k + 1) (j / 8) (j % 8) with
      | true => exact z_apt_lt (by rw [h, zT_y e2]; decide)
      | false =>
        apply z_apt_ge
        rw [h]
        show nI (k + 1) ≤ if (zE tg k (j / 8) (j % 8) && !zE tg (k + 1) (j / 8) (j % 8)) = true then nI (k + 1) else zT tg k j
        rw [e, e2]
        exact nI_le (Nat.le_refl _) (by omega)
  | false =>
    obtain ⟨r, h1, h2, h3⟩ := zT_n e
    have h4 : td j = nI r := by
      rcases h with h | h
      · rw [h, h3]
      · rw [h]
        show (if (zE tg k (j / 8) (j % 8) && !zE tg (k + 1) (j / 8) (j % 8)) = true then nI (k + 1) else zT tg k j) = _
        rw [e, Bool.false_and]; exact h3
    rw [Bool.not_false]
    exact z_apt_in (by rw [h4]; exact nI_pos (by omega)) (by rw [h4]; exact nI_ge (by omega) (by omega))
theorem zDf_eq {tg : Nat → Nat} {td : Nat → Int32} {k a b : Nat} (hk : k < 1000) (h : ∀ j, j < 64 → td j = zT tg k j ∨ td j = zT tg (k + 1) j) : zDf tg td (nI (k + 1)) a b = zD tg (zE tg k) a b := by
  unfold zDf zD zLon
  refine anF_congr (fun c hc => ?_)
  congr 1
  refine alF_congr (fun d hd => ?_)
  congr 1
  rw [zApt_eq hk (h _ (by omega)), show (8 * (c % 8) + d) / 8 = c % 8 by omega, show (8 * (c % 8) + d) % 8 = d by omega]
/-- whether the round after k moves anything -/
def zMv (tg : Nat → Nat) (k : Nat) : Bool := anF (fun a => anF (fun b => zE tg k a b && !zE tg (k + 1) a b) 8) 8
def zL (tg : Nat → Nat) : Nat → Nat
  | 0 => 0
  | k + 1 => if zMv tg k then k + 1 else zL tg k
theorem zMv_f {tg : Nat → Nat} {k : Nat} (h : zMv tg k = false) : ∀ a b, a < 8 → b < 8 → zE tg (k + 1) a b = zE tg k a b := by
  intro a b ha hb
  cases e : zE tg k a b with
  | false =>
    cases e2 : zE tg (k + 1) a b with
    | false => rfl
    | true => rw [zE_mono e2] at e; cases e
  | true =>
    cases e2 : zE tg (k + 1) a b with
    | true => rfl
    | false =>
      have : zMv tg k = true := (anF_iff _ _).mpr ⟨a, ha, (anF_iff _ _).mpr ⟨b, hb, by rw [e, e2]; rfl⟩⟩
      rw [h] at this; cases this
theorem zMv_t {tg : Nat → Nat} {k : Nat} (h : zMv tg k = true) : ∃ a b, a < 8 ∧ b < 8 ∧ zE tg k a b = true ∧ zE tg (k + 1) a b = false := by
  obtain ⟨a, ha, h1⟩ := (anF_iff _ _).mp h
  obtain ⟨b, hb, h2⟩ := (anF_iff _ _).mp h1
  rw [Bool.and_eq_true, Bool.not_eq_true'] at h2
  exact ⟨a, b, ha, hb, h2.1, h2.2⟩
theorem zMv_of {tg : Nat → Nat} {k : Nat} (h : ∀ a b, a < 8 → b < 8 → zE tg (k + 1) a b = zE tg k a b) : zMv tg k = false := by
  apply Bool.eq_false_iff.mpr
  intro q
  obtain ⟨a, b, ha, hb, h1, h2⟩ := zMv_t q
  rw [h a b ha hb, h1] at h2
  cases h2
theorem zH_congr {tg : Nat → Nat} {E E' : Nat → Nat → Bool} (h : ∀ a b, a < 8 → b < 8 → E a b = E' a b) {a b : Nat} (hh : zH tg E a b) : zH tg E' a b := by
  intro l c hl hc ht
  obtain ⟨d, h1, h2, h3⟩ := hh l c hl hc ht
  exact ⟨d, h1, h2, by rw [← h c d hc h1]; exact h3⟩
theorem zE_stab {tg : Nat → Nat} {k : Nat} (h : zMv tg k = false) : ∀ n a b, a < 8 → b < 8 → zE tg (k + n) a b = zE tg k a b := by
  have h0 := zMv_f h
  intro n
  induction n with
  | zero => intro a b _ _; rfl
  | succ n ih =>
    intro a b ha hb
    rw [← h0 a b ha hb]
    have hc := fun {x y : Nat} => @zH_congr tg (zE tg (k + n)) (zE tg k) ih x y
    have hc' := fun {x y : Nat} => @zH_congr tg (zE tg k) (zE tg (k + n)) (fun a b ha hb => (ih a b ha hb).symm) x y
    have hiff : zE tg (k + n + 1) a b = true ↔ zE tg (k + 1) a b = true := by
      rw [zE_succ, zE_succ, ih a b ha hb]
      exact ⟨fun q => ⟨q.1, hc q.2.1, hc q.2.2⟩, fun q => ⟨q.1, hc' q.2.1, hc' q.2.2⟩⟩
    show zE tg (k + n + 1) a b = _
    cases e : zE tg (k + 1) a b with
    | true => exact hiff.mpr e
    | false =>
      apply Bool.eq_false_iff.mpr
      intro q
      rw [hiff.mp q] at e; cases e
theorem zT_stab {tg : Nat → Nat} {k : Nat} (h : zMv tg k = false) : ∀ n j, j < 64 → zT tg (k + n) j = zT tg k j := by
  intro n
  induction n with
  | zero => intro j _; rfl
  | succ n ih =>
    intro j hj
    show (if (zE tg (k + n) (j / 8) (j % 8) && !zE tg (k + n + 1) (j / 8) (j % 8)) = true then nI (k + n + 1) else zT tg (k + n) j) = _
    have e2 : zE tg (k + n + 1) (j / 8) (j % 8) = zE tg k (j / 8) (j % 8) := zE_stab h (n + 1) (j / 8) (j % 8) (by omega) (by omega)
    rw [zE_stab h n (j / 8) (j % 8) (by omega) (by omega), e2]
    cases e : zE tg k (j / 8) (j % 8) <;> exact ih j hj
theorem zL_stab {tg : Nat → Nat} {k : Nat} (h : zMv tg k = false) : ∀ n, zL tg (k + n) = zL tg k := by
  intro n
  induction n with
  | zero => rfl
  | succ n ih =>
    show (if zMv tg (k + n) then _ else _) = _
    rw [zMv_of (k := k + n) (fun a b ha hb => by rw [show k + n + 1 = k + (n + 1) by omega, zE_stab h (n + 1) a b ha hb, zE_stab h n a b ha hb])]
    exact ih
-- counting: some round among the first eight moves nothing
theorem smF_mono {f g : Nat → Nat} {n : Nat} (h : ∀ b, b < n → f b ≤ g b) : smF f n ≤ smF g n := by
  induction n with
  | zero => exact Nat.le_refl _
  | succ n ih => exact Nat.add_le_add (ih (fun b hb => h b (by omega))) (h n (by omega))
theorem smF_lt {f g : Nat → Nat} {n i : Nat} (h : ∀ b, b < n → f b ≤ g b) (hi : i < n) (h2 : f i < g i) : smF f n < smF g n := by
  induction n with
  | zero => omega
  | succ n ih =>
    by_cases e : i = n
    · subst e
      exact Nat.add_lt_add_of_le_of_lt (smF_mono (fun b hb => h b (by omega))) h2
    · exact Nat.add_lt_add_of_lt_of_le (ih (fun b hb => h b (by omega)) (by omega)) (h n (by omega))
theorem z_bn {p q : Bool} (h : p = true → q = true) : p.toNat ≤ q.toNat := by
  cases p with
  | false => exact Nat.zero_le _
  | true => rw [h rfl]; exact Nat.le_refl _
theorem z_b1 (p : Bool) : p.toNat ≤ 1 := by cases p <;> decide
/-- any chain of sets of eight that grows, or stands still for ever, and begins with one: still within seven -/
theorem z_chain {P : Nat → Nat → Bool} (h0 : ∃ a, a < 8 ∧ P 0 a = true) (hm : ∀ k a, a < 8 → P k a = true → P (k + 1) a = true) : ∃ k, k ≤ 7 ∧ ∀ a, a < 8 → P (k + 1) a = P k a := by
  apply Classical.byContradiction
  intro hn
  have key : ∀ k, k ≤ 8 → k + 1 ≤ smF (fun a => (P k a).toNat) 8 := by
    intro k
    induction k with
    | zero =>
      intro _
      obtain ⟨a, ha, h1⟩ := h0
      have h2 := smF_lt (f := fun _ => 0) (g := fun a => (P 0 a).toNat) (n := 8) (i := a) (fun b _ => Nat.zero_le _) ha (by show 0 < (P 0 a).toNat; rw [h1]; decide)
      omega
    | succ k ih =>
      intro hk
      have h1 := ih (by omega)
      have h2 : ∃ a, a < 8 ∧ ¬ P (k + 1) a = P k a := by
        apply Classical.byContradiction
        intro q
        exact hn ⟨k, by omega, fun a ha => Classical.byContradiction fun z => q ⟨a, ha, z⟩⟩
      obtain ⟨a, ha, h3⟩ := h2
      have h4 : P k a = false := by
        cases e : P k a with
        | false => rfl
        | true => exact absurd ((hm k a ha e).trans e.symm) h3
      have h5 : P (k + 1) a = true := by
        cases e : P (k + 1) a with
        | true => rfl
        | false => exact absurd (e.trans h4.symm) h3
      have h6 := smF_lt (f := fun a => (P k a).toNat) (g := fun a => (P (k + 1) a).toNat) (n := 8) (i := a) (fun b hb => z_bn (hm k b hb)) ha (by show (P k a).toNat < (P (k + 1) a).toNat; rw [h4, h5]; decide)
      omega
  have h1 := key 8 (by omega)
  have h2 := smF_le (f := fun a => (P 8 a).toNat) (n := 8) (c := 1) (fun b _ => z_b1 _)
  omega
theorem zG_fix {tg : Nat → Nat} {k a : Nat} : zG tg k a = a ↔ ∀ j, j < a → zE tg k j a = false := by
  constructor
  · intro h j hj
    exact zG_min (by rw [h]; exact hj)
  · intro h
    apply Classical.byContradiction
    intro q
    have h1 := zG_le tg k a
    have h2 := zG_in tg k a
    rw [h _ (by omega)] at h2
    cases h2
theorem z_still (tg : Nat → Nat) : ∃ k, k ≤ 7 ∧ zMv tg k = false := by
  obtain ⟨k, hk, h⟩ := z_chain (P := fun k a => decide (zG tg k a = a)) ⟨0, by omega, decide_eq_true (by have := zG_le tg 0 0; omega)⟩ (by
    intro k a ha h
    have h1 := zG_fix.mp (of_decide_eq_true h)
    refine decide_eq_true (zG_fix.mpr (fun j hj => ?_))
    apply Bool.eq_false_iff.mpr
    intro q
    have h2 := h1 j hj
    rw [zE_mono q] at h2; cases h2)
  refine ⟨k, hk, Bool.eq_false_iff.mpr (fun q => ?_)⟩
  obtain ⟨a, b, ha, hb, h1, h2⟩ := zMv_t q
  have hr : ∀ x, x < 8 → zG tg (k + 1) x = x → zG tg k x = x := fun x hx e => by
    have := h x hx
    rw [decide_eq_true e] at this
    exact of_decide_eq_true this.symm
  have e1 := hr _ (zG_lt ha) (zG_zG tg (k + 1) a)
  have e2 := hr _ (zG_lt hb) (zG_zG tg (k + 1) b)
  have e3 : zG tg k (zG tg (k + 1) a) = zG tg k (zG tg (k + 1) b) := (zG_eq tg k _ _).mpr (zE_trans (zE_mono (zG_in tg (k + 1) a)) (zE_trans h1 (zE_symm (zE_mono (zG_in tg (k + 1) b)))))
  rw [e1, e2] at e3
  rw [(zG_eq tg (k + 1) a b).mp e3] at h2
  cases h2
/-- when the rounds may end -/
def zFin (tg : Nat → Nat) (k : Nat) : Prop := 8 ≤ k ∨ ∃ j, k = j + 1 ∧ zMv tg j = false
theorem zFin_at {tg : Nat → Nat} {k : Nat} (h : zFin tg k) : ∃ j, j ≤ k ∧ j ≤ 8 ∧ zMv tg j = false := by
  obtain ⟨j0, h0, h1⟩ := z_still tg
  rcases h with h | ⟨j, rfl, h2⟩
  · exact ⟨j0, by omega, by omega, h1⟩
  · by_cases q : j ≤ 8
    · exact ⟨j, by omega, q, h2⟩
    · exact ⟨j0, by omega, by omega, h1⟩
theorem zFin_E {tg : Nat → Nat} {k : Nat} (h : zFin tg k) : ∀ a b, a < 8 → b < 8 → zE tg k a b = zE tg 8 a b := by
  obtain ⟨j, h1, h2, h3⟩ := zFin_at h
  intro a b ha hb
  rw [show k = j + (k - j) by omega, zE_stab h3 _ a b ha hb, show 8 = j + (8 - j) by omega, zE_stab h3 _ a b ha hb]
theorem zFin_T {tg : Nat → Nat} {k : Nat} (h : zFin tg k) : ∀ i, i < 64 → zT tg k i = zT tg 8 i := by
  obtain ⟨j, h1, h2, h3⟩ := zFin_at h
  intro i hi
  rw [show k = j + (k - j) by omega, zT_stab h3 _ i hi, show 8 = j + (8 - j) by omega, zT_stab h3 _ i hi]
theorem zFin_L {tg : Nat → Nat} {k : Nat} (h : zFin tg k) : zL tg k = zL tg 8 := by
  obtain ⟨j, h1, h2, h3⟩ := zFin_at h
  rw [show k = j + (k - j) by omega, zL_stab h3 _, show 8 = j + (8 - j) by omega, zL_stab h3 _]
theorem zFin_G {tg : Nat → Nat} {k : Nat} (h : zFin tg k) : ∀ a, a < 8 → zG tg k a = zG tg 8 a := by
  intro a ha
  exact fsF_congr (fun j hj => zFin_E h j a (by omega) ha)
theorem zL_le (tg : Nat → Nat) (k : Nat) : zL tg k ≤ k := by
  induction k with
  | zero => exact Nat.le_refl _
  | succ k ih => show (if zMv tg k then k + 1 else zL tg k) ≤ k + 1; split <;> omega
-- the greatest of the rounds told
def zMx (td : Nat → Int32) : Nat → Int32
  | 0 => nI 0
  | n + 1 => if zMx td n < td n then td n else zMx td n
theorem zMx_spec (td : Nat → Int32) (n : Nat) : (∀ j, j < n → td j ≤ zMx td n) ∧ nI 0 ≤ zMx td n ∧ (zMx td n = nI 0 ∨ ∃ j, j < n ∧ zMx td n = td j) := by
  induction n with
  | zero => exact ⟨fun j h => absurd h (by omega), (by show nI 0 ≤ nI 0; decide), Or.inl rfl⟩
  | succ n ih =>
    obtain ⟨h1, h2, h3⟩ := ih
    by_cases e : zMx td n < td n
    · have e2 : zMx td (n + 1) = td n := if_pos e
      rw [e2]
      rw [Int32.lt_iff_toInt_lt] at e
      refine ⟨fun j hj => ?_, ?_, Or.inr ⟨n, by omega, rfl⟩⟩
      · by_cases q : j = n
        · subst q; rw [Int32.le_iff_toInt_le]; omega
        · have := h1 j (by omega)
          rw [Int32.le_iff_toInt_le] at this ⊢
          omega
      · rw [Int32.le_iff_toInt_le] at h2 ⊢; omega
    · have e2 : zMx td (n + 1) = zMx td n := if_neg e
      rw [e2]
      refine ⟨fun j hj => ?_, h2, ?_⟩
      · by_cases q : j = n
        · subst q; rw [Int32.lt_iff_toInt_lt] at e; rw [Int32.le_iff_toInt_le]; omega
        · exact h1 j (by omega)
      · rcases h3 with h3 | ⟨j, hj, h3⟩
        · exact Or.inl h3
        · exact Or.inr ⟨j, by omega, h3⟩
theorem zT_L (tg : Nat → Nat) (k : Nat) : (∀ j, j < 64 → zT tg k j = -1 ∨ ∃ r, r ≤ zL tg k ∧ zT tg k j = nI r) ∧ (zL tg k = 0 ∨ ∃ j, j < 64 ∧ zT tg k j = nI (zL tg k)) := by
  induction k with
  | zero => exact ⟨fun j _ => Or.inl rfl, Or.inl rfl⟩
  | succ k ih =>
    obtain ⟨h1, h2⟩ := ih
    have hu : ∀ j, zT tg (k + 1) j = if zE tg k (j / 8) (j % 8) && !zE tg (k + 1) (j / 8) (j % 8) then nI (k + 1) else zT tg k j := fun j => rfl
    cases e : zMv tg k with
    | true =>
      have el : zL tg (k + 1) = k + 1 := by show (if zMv tg k then _ else _) = _; rw [e]; rfl
      rw [el]
      have hle := zL_le tg k
      refine ⟨fun j hj => ?_, Or.inr ?_⟩
      · rw [hu]
        split
        · exact Or.inr ⟨k + 1, Nat.le_refl _, rfl⟩
        · rcases h1 j hj with q | ⟨r, q1, q2⟩
          · exact Or.inl q
          · exact Or.inr ⟨r, by omega, q2⟩
      · obtain ⟨a, b, ha, hb, g1, g2⟩ := zMv_t e
        refine ⟨8 * a + b, by omega, ?_⟩
        rw [hu, show (8 * a + b) / 8 = a by omega, show (8 * a + b) % 8 = b by omega, g1, g2]; rfl
    | false =>
      have el : zL tg (k + 1) = zL tg k := by show (if zMv tg k then _ else _) = _; rw [e]; rfl
      have et : ∀ j, j < 64 → zT tg (k + 1) j = zT tg k j := fun j hj => zT_stab e 1 j hj
      rw [el]
      refine ⟨fun j hj => by rw [et j hj]; exact h1 j hj, ?_⟩
      rcases h2 with h2 | ⟨j, hj, h2⟩
      · exact Or.inl h2
      · exact Or.inr ⟨j, hj, by rw [et j hj]; exact h2⟩
theorem zMx_L {tg : Nat → Nat} {td : Nat → Int32} (h : ∀ j, j < 64 → td j = zT tg 8 j) : zMx td 64 = nI (zL tg 8) := by
  obtain ⟨h1, h2, h3⟩ := zMx_spec td 64
  obtain ⟨g1, g2⟩ := zT_L tg 8
  have hl := zL_le tg 8
  -- at most
  have up : ∃ r, r ≤ zL tg 8 ∧ zMx td 64 = nI r := by
    rcases h3 with h3 | ⟨j, hj, h3⟩
    · exact ⟨0, by omega, h3⟩
    · rw [h j hj] at h3
      rcases g1 j hj with q | ⟨r, q1, q2⟩
      · rw [h3, q] at h2; exact absurd h2 (by decide)
      · exact ⟨r, q1, by rw [h3, q2]⟩
  obtain ⟨r, hr, e⟩ := up
  rcases g2 with g2 | ⟨j, hj, g2⟩
  · rw [e, show r = zL tg 8 by omega]
  · have h4 := h1 j hj
    rw [h j hj, g2, e] at h4
    have h5 := (nI_leI (by omega) (by omega)).mp h4
    rw [e, show r = zL tg 8 by omega]
end
section
/-! THEORY: silent steps, in place and at once, come to the same set; followers: the greatest relation -/
def zSub (x y : Nat) : Prop := ∀ k, x.testBit k = true → y.testBit k = true
theorem zSub.rf (x : Nat) : zSub x x := fun _ h => h
theorem zSub.tr {x y z : Nat} (h : zSub x y) (g : zSub y z) : zSub x z := fun k q => g k (h k q)
theorem zSub.as {x y : Nat} (h : zSub x y) (g : zSub y x) : x = y := by
  apply Nat.eq_of_testBit_eq
  intro k
  cases e : x.testBit k with
  | true => exact (h k e).symm
  | false =>
    cases e2 : y.testBit k with
    | false => rfl
    | true => rw [g k e2] at e; cases e
theorem z_tb8 {x k : Nat} (hx : x < 256) (h : x.testBit k = true) : k < 8 := by
  apply Classical.byContradiction
  intro q
  have h1 : x < 2 ^ k := Nat.lt_of_lt_of_le hx (show 2 ^ 8 ≤ 2 ^ k from Nat.pow_le_pow_right (by omega) (by omega))
  rw [Nat.testBit_lt_two_pow h1] at h
  cases h
theorem zOn_tb (nx : Nat → Nat) (x k : Nat) : (zOn nx x 0).testBit k = true ↔ x.testBit k = true ∨ ∃ b, b < 8 ∧ x.testBit b = true ∧ (nx b).testBit k = true := by
  unfold zOn
  rw [orF_tb]
  constructor
  · rintro (h | ⟨b, hb, h⟩)
    · exact Or.inl h
    · by_cases e : x.testBit b = true
      · rw [if_pos e, show 8 * 0 + b = b by omega] at h
        exact Or.inr ⟨b, hb, e, h⟩
      · rw [if_neg e, Nat.zero_testBit] at h; cases h
  · rintro (h | ⟨b, hb, h1, h2⟩)
    · exact Or.inl h
    · exact Or.inr ⟨b, hb, by rw [if_pos h1, show 8 * 0 + b = b by omega]; exact h2⟩
def zCl (nx : Nat → Nat) (x : Nat) : Prop := ∀ b, b < 8 → x.testBit b = true → zSub (nx b) x
theorem zIn_up (nx : Nat → Nat) (x n : Nat) : zSub x (zIn nx x n) := by
  induction n with
  | zero => exact zSub.rf x
  | succ n ih =>
    intro k h
    show (zIn nx x n ||| (if (zIn nx x n).testBit n then nx n else 0)).testBit k = true
    rw [Nat.testBit_or, ih k h]; rfl
theorem zIn_st (nx : Nat → Nat) (x : Nat) : ∀ n b, b < n → x.testBit b = true → zSub (nx b) (zIn nx x n) := by
  intro n
  induction n with
  | zero => intro b hb; omega
  | succ n ih =>
    intro b hb h k hk
    show (zIn nx x n ||| (if (zIn nx x n).testBit n then nx n else 0)).testBit k = true
    rw [Nat.testBit_or, Bool.or_eq_true]
    by_cases e : b = n
    · subst e
      right
      rw [if_pos (zIn_up nx x b b h)]; exact hk
    · exact Or.inl (ih b (by omega) h k hk)
theorem zIn_cl {nx : Nat → Nat} {x y n : Nat} (hn : n ≤ 8) (hy : zCl nx y) (h : zSub x y) : zSub (zIn nx x n) y := by
  induction n with
  | zero => exact h
  | succ n ih =>
    intro k hk
    have ih := ih (by omega)
    have hk : (zIn nx x n ||| (if (zIn nx x n).testBit n then nx n else 0)).testBit k = true := hk
    rw [Nat.testBit_or, Bool.or_eq_true] at hk
    rcases hk with hk | hk
    · exact ih k hk
    · by_cases e : (zIn nx x n).testBit n = true
      · rw [if_pos e] at hk
        exact hy n (by omega) (ih n e) k hk
      · rw [if_neg e, Nat.zero_testBit] at hk; cases hk
theorem zOn_mono {nx : Nat → Nat} {x y : Nat} (h : zSub x y) : zSub (zOn nx x 0) (zOn nx y 0) := by
  intro k hk
  rcases (zOn_tb nx x k).mp hk with q | ⟨b, hb, q1, q2⟩
  · exact (zOn_tb nx y k).mpr (Or.inl (h k q))
  · exact (zOn_tb nx y k).mpr (Or.inr ⟨b, hb, h b q1, q2⟩)
theorem zOn_zIn (nx : Nat → Nat) (x : Nat) : zSub (zOn nx x 0) (zIn nx x 8) := by
  intro k hk
  rcases (zOn_tb nx x k).mp hk with q | ⟨b, hb, q1, q2⟩
  · exact zIn_up nx x 8 k q
  · exact zIn_st nx x 8 b hb q1 k q2
theorem zQ_zS (nx : Nat → Nat) (a r : Nat) : zSub (zQ nx a r) (zS nx a r) := by
  induction r with
  | zero => exact zSub.rf _
  | succ r ih => exact (zOn_mono ih).tr (zOn_zIn nx _)
theorem zQ_up1 (nx : Nat → Nat) (a r : Nat) : zSub (zQ nx a r) (zQ nx a (r + 1)) := fun k h => (zOn_tb nx _ k).mpr (Or.inl h)
theorem zQ_up (nx : Nat → Nat) (a r n : Nat) : zSub (zQ nx a r) (zQ nx a (r + n)) := by
  induction n with
  | zero => exact zSub.rf _
  | succ n ih => exact ih.tr (zQ_up1 nx a (r + n))
theorem zQ_cl {nx : Nat → Nat} {a : Nat} (ha : a < 8) (hnx : ∀ j, j < 24 → nx j < 256) : zCl nx (zQ nx a 8) := by
  obtain ⟨k, hk, h⟩ := z_chain (P := fun r b => (zQ nx a r).testBit b) ⟨a, ha, by show (2 ^ a).testBit a = true; rw [Nat.testBit_two_pow_self]⟩ (fun r b _ h => zQ_up1 nx a r b h)
  have e1 : zQ nx a (k + 1) = zQ nx a k := by
    refine zSub.as (fun b hb => ?_) (zQ_up1 nx a k)
    have h8 := z_tb8 (zQ_lt (k + 1) ha hnx) hb
    rw [← h b h8]; exact hb
  have e2 : ∀ n, zQ nx a (k + n) = zQ nx a k := by
    intro n
    induction n with
    | zero => rfl
    | succ n ih =>
      show zOn nx (zQ nx a (k + n)) 0 = _
      rw [ih]; exact e1
  have e3 : zQ nx a 8 = zQ nx a k := by rw [show 8 = k + (8 - k) by omega]; exact e2 _
  have e4 : zOn nx (zQ nx a 8) 0 = zQ nx a 8 := by rw [e3]; exact e1
  intro b hb h j hj
  rw [← e4]
  exact (zOn_tb nx _ j).mpr (Or.inr ⟨b, hb, h, hj⟩)
/-- silent steps: both ways lead to the same set -/
theorem zS_eq {nx : Nat → Nat} {a : Nat} (ha : a < 8) (hnx : ∀ j, j < 24 → nx j < 256) : zS nx a 8 = zQ nx a 8 := by
  have hc := zQ_cl ha hnx
  have up : ∀ r, zSub (zS nx a r) (zQ nx a 8) := by
    intro r
    induction r with
    | zero =>
      have h0 := zQ_up nx a 0 8
      rw [Nat.zero_add] at h0
      exact h0
    | succ r ih => exact zIn_cl (by omega) hc ih
  exact (up 8).as (zQ_zS nx a 8)
theorem zMid_congr {sl sl' nx : Nat → Nat} {a l : Nat} (h : sl a = sl' a) : zMid sl nx a l = zMid sl' nx a l := by unfold zMid; rw [h]
theorem zLong_congr {sl sl' nx : Nat → Nat} {a l : Nat} (ha : a < 8) (h : ∀ j, j < 8 → sl j = sl' j) : zLong sl nx a l = zLong sl' nx a l := by
  unfold zLong
  rw [zMid_congr (h a ha)]
  refine orF_congr (fun b hb => ?_)
  rw [h b hb]
theorem zLx_congr {sl sl' nx : Nat → Nat} (h : ∀ j, j < 8 → sl j = sl' j) : ∀ j, j < 24 → zLx sl nx j = zLx sl' nx j := by
  intro j hj
  unfold zLx
  split
  · next q => exact h j q
  · exact zLong_congr (by omega) h
-- followers
def zSim (nx : Nat → Nat) (R : Nat → Nat → Prop) : Prop := ∀ b a, b < 8 → a < 8 → R b a → ∀ l c, l < 3 → c < 8 → (nx (8 * l + a)).testBit c = true → ∃ d, d < 8 ∧ (nx (8 * l + b)).testBit d = true ∧ R d c
def zGfp (nx : Nat → Nat) (b a : Nat) : Prop := ∃ R, zSim nx R ∧ R b a
theorem zGfp_sim (nx : Nat → Nat) : zSim nx (zGfp nx) := by
  rintro b a hb ha ⟨R, hR, h⟩ l c hl hc ht
  obtain ⟨d, h1, h2, h3⟩ := hR b a hb ha h l c hl hc ht
  exact ⟨d, h1, h2, R, hR, h3⟩
noncomputable def zFo (nx : Nat → Nat) (b a : Nat) : Bool := @decide (zGfp nx b a) (Classical.propDecidable _)
theorem zFo_iff (nx : Nat → Nat) (b a : Nat) : zFo nx b a = true ↔ zGfp nx b a := by unfold zFo; exact @decide_eq_true_iff _ (Classical.propDecidable _)
theorem z_bool {p q : Bool} (h : p = true ↔ q = true) : p = q := by
  cases p <;> cases q <;> simp_all
theorem zAns_iff (nx : Nat → Nat) (af : Nat → Bool) (b a : Nat) : zAns nx af b a = true ↔ ∀ l c, l < 3 → c < 8 → (nx (8 * l + a)).testBit c = true → ∃ d, d < 8 ∧ (nx (8 * l + b)).testBit d = true ∧ af (8 * d + c) = true := by
  unfold zAns
  rw [alF_iff]
  constructor
  · intro h l c hl hc ht
    have h1 := h (8 * l + c) (by omega)
    rw [show (8 * l + c) / 8 = l by omega, show (8 * l + c) % 8 = c by omega, ht] at h1
    have h2 : zAnsF nx af b (8 * l + c) = true := h1
    obtain ⟨d, hd, h3⟩ := (anF_iff _ _).mp h2
    rw [show (8 * l + c) / 8 = l by omega, show (8 * l + c) % 8 = c by omega, Bool.and_eq_true] at h3
    exact ⟨d, hd, h3.1, h3.2⟩
  · intro h k hk
    cases e : (nx (8 * (k / 8) + a)).testBit (k % 8) with
    | false => rfl
    | true =>
      obtain ⟨d, hd, h1, h2⟩ := h (k / 8) (k % 8) (by omega) (by omega) e
      show (!true || zAnsF nx af b k) = true
      rw [Bool.not_true, Bool.false_or]
      exact (anF_iff _ _).mpr ⟨d, hd, by rw [h1, h2]; rfl⟩
theorem zAns_congr {nx : Nat → Nat} {af af' : Nat → Bool} (h : ∀ j, j < 64 → af j = af' j) {b a : Nat} : zAns nx af b a = zAns nx af' b a := by
  apply z_bool
  rw [zAns_iff, zAns_iff]
  constructor
  · intro q l c hl hc ht
    obtain ⟨d, h1, h2, h3⟩ := q l c hl hc ht
    exact ⟨d, h1, h2, by rw [← h _ (by omega)]; exact h3⟩
  · intro q l c hl hc ht
    obtain ⟨d, h1, h2, h3⟩ := q l c hl hc ht
    exact ⟨d, h1, h2, by rw [h _ (by omega)]; exact h3⟩
/-- a table of pairs: c = 8 * b + a -/
def zSup (nx : Nat → Nat) (F : Nat → Bool) : Prop := ∀ c, c < 64 → zGfp nx (c / 8) (c % 8) → F c = true
def zFix (nx : Nat → Nat) (F : Nat → Bool) : Prop := ∀ c, c < 64 → F c = true → zAns nx F (c / 8) (c % 8) = true
theorem zSup_ans {nx : Nat → Nat} {F : Nat → Bool} (h : zSup nx F) {b a : Nat} (hb : b < 8) (ha : a < 8) (hg : zGfp nx b a) : zAns nx F b a = true := by
  refine (zAns_iff nx F b a).mpr (fun l c hl hc ht => ?_)
  obtain ⟨d, h1, h2, h3⟩ := zGfp_sim nx b a hb ha hg l c hl hc ht
  exact ⟨d, h1, h2, h _ (by omega) (by rw [show (8 * d + c) / 8 = d by omega, show (8 * d + c) % 8 = c by omega]; exact h3)⟩
theorem zFix_gfp {nx : Nat → Nat} {F : Nat → Bool} (h : zFix nx F) (hs : zSup nx F) : ∀ c, c < 64 → F c = zFo nx (c / 8) (c % 8) := by
  intro c hc
  apply z_bool
  rw [zFo_iff]
  refine ⟨fun q => ⟨fun b a => F (8 * b + a) = true, ?_, by show F (8 * (c / 8) + c % 8) = true; rw [show 8 * (c / 8) + c % 8 = c by omega]; exact q⟩, fun q => hs c hc q⟩
  intro b a hb ha hF l d hl hd ht
  have h1 := h _ (by omega) hF
  rw [show (8 * b + a) / 8 = b by omega, show (8 * b + a) % 8 = a by omega] at h1
  exact (zAns_iff nx F b a).mp h1 l d hl hd ht
def zMu (F : Nat → Bool) : Nat := smF (fun c => (F c).toNat) 64
theorem zMu_le (F : Nat → Bool) : zMu F ≤ 64 := by
  have := smF_le (f := fun c => (F c).toNat) (n := 64) (c := 1) (fun b _ => z_b1 _)
  unfold zMu; omega
theorem zMu_congr {F F' : Nat → Bool} (h : ∀ j, j < 64 → F j = F' j) : zMu F = zMu F' := smF_congr (fun b hb => by rw [h b hb])
theorem zMu_lt {F F' : Nat → Bool} (h : ∀ j, j < 64 → F' j = true → F j = true) {c : Nat} (hc : c < 64) (h1 : F c = true) (h2 : F' c = false) : zMu F' < zMu F :=
  smF_lt (fun b hb => z_bn (h b hb)) hc (by show (F' c).toNat < (F c).toNat; rw [h1, h2]; decide)
theorem zMu_mono {F F' : Nat → Bool} (h : ∀ j, j < 64 → F' j = true → F j = true) : zMu F' ≤ zMu F := smF_mono (fun b hb => z_bn (h b hb))
/-- one pass: what stands at place i; F0 the table at its start, F now, mo whether something went -/
def zPs (nx : Nat → Nat) (F0 F : Nat → Bool) (mo : Bool) (D : Nat → Prop) : Prop :=
  zSup nx F ∧ (∀ j, j < 64 → F j = true → F0 j = true) ∧ (mo = true → zMu F < zMu F0) ∧ (mo = false → (∀ j, j < 64 → F j = F0 j) ∧ ∀ j, j < 64 → D j → F0 j = true → zAns nx F0 (j / 8) (j % 8) = true)
theorem zPs_0 {nx : Nat → Nat} {F : Nat → Bool} {D : Nat → Prop} (h : zSup nx F) (hD : ∀ j, j < 64 → ¬ D j) : zPs nx F F false D :=
  ⟨h, fun _ _ q => q, fun q => (by cases q), fun _ => ⟨fun _ _ => rfl, fun j hj q => absurd q (hD j hj)⟩⟩
/-- the reference's step: the pair c goes if it has no answer -/
theorem zPs_s {nx : Nat → Nat} {F0 F : Nat → Bool} {mo : Bool} {c : Nat} (hc : c < 64) (h : zPs nx F0 F mo (fun j => j < c)) : zPs nx F0 (va_up F c (F c && !(F c && !zAns nx F (c / 8) (c % 8)))) (mo || (F c && !zAns nx F (c / 8) (c % 8))) (fun j => j < c + 1) := by
  obtain ⟨h1, h2, h3, h4⟩ := h
  have hin : ∀ j, va_up F c (F c && !(F c && !zAns nx F (c / 8) (c % 8))) j = true → F j = true := by
    intro j q
    unfold va_up at q
    split at q
    · next e => rw [Bool.and_eq_true] at q; rw [e]; exact q.1
    · exact q
  cases ho : (F c && !zAns nx F (c / 8) (c % 8)) with
  | true =>
    rw [Bool.and_eq_true, Bool.not_eq_true'] at ho
    rw [ho.1, ho.2] at hin
    rw [ho.1, Bool.not_true, Bool.and_false, Bool.or_true]
    have hin : ∀ j, va_up F c false j = true → F j = true := hin
    have hlt : zMu (va_up F c false) < zMu F := zMu_lt (fun j _ q => hin j q) hc ho.1 (va_up_self F c false)
    have hle : zMu F ≤ zMu F0 := zMu_mono h2
    refine ⟨fun j hj hg => ?_, fun j hj q => h2 j hj (hin j q), fun _ => by omega, fun q => by cases q⟩
    by_cases e : j = c
    · subst e
      have := zSup_ans h1 (by omega) (by omega) hg
      rw [ho.2] at this; cases this
    · rw [va_up_ne F false e]; exact h1 j hj hg
  | false =>
    rw [Bool.not_false, Bool.and_true, Bool.or_false]
    have hsame : ∀ j, va_up F c (F c) j = F j := by
      intro j; unfold va_up; split
      · next e => rw [e]
      · rfl
    refine ⟨fun j hj hg => by rw [hsame]; exact h1 j hj hg, fun j hj q => by rw [hsame] at q; exact h2 j hj q, fun q => ?_, fun q => ⟨fun j hj => by rw [hsame]; exact (h4 q).1 j hj, fun j hj hD hF => ?_⟩⟩
    · rw [zMu_congr (F' := F) (fun j _ => hsame j)]; exact h3 q
    · have hD : j < c + 1 := hD
      by_cases e : j = c
      · subst e
        rw [← (h4 q).1 j hj] at hF
        rw [hF, Bool.true_and, Bool.not_eq_false'] at ho
        rw [← zAns_congr (fun i hi => (h4 q).1 i hi)]; exact ho
      · exact (h4 q).2 j hj (show j < c by omega) hF
theorem zPs_end {nx : Nat → Nat} {F0 F : Nat → Bool} {D : Nat → Prop} (hD : ∀ j, j < 64 → D j) (h : zPs nx F0 F false D) : zFix nx F := by
  obtain ⟨h1, h2, h3, h4⟩ := h
  obtain ⟨h5, h6⟩ := h4 rfl
  intro c hc hF
  rw [zAns_congr h5]
  exact h6 c hc (hD c hc) (by rw [← h5 c hc]; exact hF)
-- the class's table of sets
def zTb (ff : Nat → Nat) : Nat → Bool := fun c => (ff (c % 8)).testBit (c / 8)
theorem z_and0 {x y : Nat} : (x &&& y) = 0 ↔ ¬ ∃ d, x.testBit d = true ∧ y.testBit d = true := by
  constructor
  · rintro h ⟨d, h1, h2⟩
    have h3 : (x &&& y).testBit d = true := by rw [Nat.testBit_and, h1, h2]; rfl
    rw [h, Nat.zero_testBit] at h3; cases h3
  · intro h
    apply Nat.eq_of_testBit_eq
    intro d
    rw [Nat.zero_testBit, Nat.testBit_and]
    apply Bool.eq_false_iff.mpr
    intro q
    rw [Bool.and_eq_true] at q
    exact h ⟨d, q.1, q.2⟩
theorem zBf_tb {nx : Nat → Nat} {l x b : Nat} (hb : b < 8) : (zBf nx l x).testBit b = true ↔ ∃ d, (nx (8 * l + b)).testBit d = true ∧ x.testBit d = true := by
  unfold zBf
  rw [orF_tb]
  constructor
  · rintro (h | ⟨b', hb', h⟩)
    · rw [Nat.zero_testBit] at h; cases h
    · by_cases e : (nx (8 * l + b') &&& x) = 0
      · rw [if_pos e, Nat.zero_testBit] at h; cases h
      · rw [if_neg e, Nat.testBit_two_pow, decide_eq_true_eq] at h
        subst h
        exact Classical.byContradiction fun q => e (z_and0.mpr q)
  · intro h
    refine Or.inr ⟨b, hb, ?_⟩
    rw [if_neg (fun e => z_and0.mp e h), Nat.testBit_two_pow_self]
theorem zAlI_tb {nx ff : Nat → Nat} {a l x b : Nat} (n : Nat) : (zAlI nx ff a l x n).testBit b = true ↔ x.testBit b = true ∧ ∀ c, c < n → (nx (8 * l + a)).testBit c = true → (zBf nx l (ff c)).testBit b = true := by
  induction n with
  | zero => exact ⟨fun h => ⟨h, fun c hc => absurd hc (by omega)⟩, fun h => h.1⟩
  | succ n ih =>
    show (if (nx (8 * l + a)).testBit n then zAlI nx ff a l x n &&& zBf nx l (ff n) else zAlI nx ff a l x n).testBit b = true ↔ _
    by_cases e : (nx (8 * l + a)).testBit n = true
    · rw [if_pos e, Nat.testBit_and, Bool.and_eq_true, ih]
      constructor
      · rintro ⟨⟨h1, h2⟩, h3⟩
        refine ⟨h1, fun c hc ht => ?_⟩
        by_cases q : c = n
        · subst q; exact h3
        · exact h2 c (by omega) ht
      · rintro ⟨h1, h2⟩
        exact ⟨⟨h1, fun c hc => h2 c (by omega)⟩, h2 n (by omega) e⟩
    · rw [if_neg e, ih]
      constructor
      · rintro ⟨h1, h2⟩
        refine ⟨h1, fun c hc ht => ?_⟩
        by_cases q : c = n
        · subst q; exact absurd ht e
        · exact h2 c (by omega) ht
      · rintro ⟨h1, h2⟩
        exact ⟨h1, fun c hc => h2 c (by omega)⟩
theorem zAl_tb {nx ff : Nat → Nat} {a b : Nat} (hb : b < 8) (n : Nat) : (zAl nx ff a n).testBit b = true ↔ ∀ l, l < n → ∀ c, c < 8 → (nx (8 * l + a)).testBit c = true → (zBf nx l (ff c)).testBit b = true := by
  induction n with
  | zero => exact ⟨fun _ l hl => absurd hl (by omega), fun _ => (by decide +kernel : ∀ b, b < 8 → (255 : Nat).testBit b = true) b hb⟩
  | succ n ih =>
    show (zAlI nx ff a n (zAl nx ff a n) 8).testBit b = true ↔ _
    rw [zAlI_tb, ih]
    constructor
    · rintro ⟨h1, h2⟩ l hl
      by_cases q : l = n
      · subst q; exact h2
      · exact h1 l (by omega)
    · intro h
      exact ⟨fun l hl => h l (by omega), h n (by omega)⟩
theorem zAl_ans {nx ff : Nat → Nat} (hnx : ∀ j, j < 24 → nx j < 256) {a b : Nat} (ha : a < 8) (hb : b < 8) : (zAl nx ff a 3).testBit b = zAns nx (zTb ff) b a := by
  apply z_bool
  rw [zAl_tb hb, zAns_iff]
  constructor
  · intro h l c hl hc ht
    obtain ⟨d, h1, h2⟩ := (zBf_tb hb).mp (h l hl c hc ht)
    refine ⟨d, z_tb8 (hnx _ (by omega)) h1, h1, ?_⟩
    have hd := z_tb8 (hnx (8 * l + b) (by omega)) h1
    show (ff ((8 * d + c) % 8)).testBit ((8 * d + c) / 8) = true
    rw [show (8 * d + c) / 8 = d by omega, show (8 * d + c) % 8 = c by omega]; exact h2
  · intro h l hl c hc ht
    obtain ⟨d, hd, h1, h2⟩ := h l c hl hc ht
    have h2 : (ff ((8 * d + c) % 8)).testBit ((8 * d + c) / 8) = true := h2
    rw [show (8 * d + c) / 8 = d by omega, show (8 * d + c) % 8 = c by omega] at h2
    exact (zBf_tb hb).mpr ⟨d, h1, h2⟩
/-- the class's step: a's set is cut to those allowed -/
theorem zPs_x {nx ff : Nat → Nat} {F0 : Nat → Bool} {mo : Bool} {a : Nat} (hnx : ∀ j, j < 24 → nx j < 256) (ha : a < 8) (hff : ff a < 256) (h : zPs nx F0 (zTb ff) mo (fun j => j % 8 < a)) : zPs nx F0 (zTb (va_up ff a (ff a &&& zAl nx ff a 3))) (mo || !decide ((ff a &&& zAl nx ff a 3) = ff a)) (fun j => j % 8 < a + 1) := by
  obtain ⟨h1, h2, h3, h4⟩ := h
  have hin : ∀ j, zTb (va_up ff a (ff a &&& zAl nx ff a 3)) j = true → zTb ff j = true := by
    intro j q
    have q : (va_up ff a (ff a &&& zAl nx ff a 3) (j % 8)).testBit (j / 8) = true := q
    show (ff (j % 8)).testBit (j / 8) = true
    unfold va_up at q
    split at q
    · next e => rw [Nat.testBit_and, Bool.and_eq_true] at q; rw [e]; exact q.1
    · exact q
  have hsup : zSup nx (zTb (va_up ff a (ff a &&& zAl nx ff a 3))) := by
    intro j hj hg
    have hF := h1 j hj hg
    show (va_up ff a (ff a &&& zAl nx ff a 3) (j % 8)).testBit (j / 8) = true
    unfold va_up
    split
    · next e =>
      have hF : (ff (j % 8)).testBit (j / 8) = true := hF
      rw [Nat.testBit_and, zAl_ans hnx ha (by omega), ← e, hF, zSup_ans h1 (by omega) (by omega) hg]; rfl
    · exact hF
  refine ⟨hsup, fun j hj q => h2 j hj (hin j q), fun q => ?_, fun q => ?_⟩
  · by_cases e : (ff a &&& zAl nx ff a 3) = ff a
    · rw [decide_eq_true e, Bool.not_true, Bool.or_false] at q
      rw [e, z_up_self]; exact h3 q
    · have hle : zMu (zTb ff) ≤ zMu F0 := zMu_mono h2
      have hx : ∃ b, (ff a).testBit b = true ∧ (zAl nx ff a 3).testBit b = false := by
        apply Classical.byContradiction
        intro z
        apply e
        apply Nat.eq_of_testBit_eq
        intro b
        rw [Nat.testBit_and]
        cases e1 : (ff a).testBit b with
        | false => rfl
        | true =>
          cases e2 : (zAl nx ff a 3).testBit b with
          | true => rfl
          | false => exact absurd ⟨b, e1, e2⟩ z
      obtain ⟨b, b1, b2⟩ := hx
      have hb := z_tb8 hff b1
      have := zMu_lt (F := zTb ff) (F' := zTb (va_up ff a (ff a &&& zAl nx ff a 3))) (fun j _ q => hin j q) (c := 8 * b + a) (by omega) (by
        show (ff ((8 * b + a) % 8)).testBit ((8 * b + a) / 8) = true
        rw [show (8 * b + a) / 8 = b by omega, show (8 * b + a) % 8 = a by omega]; exact b1) (by
        show (va_up ff a (ff a &&& zAl nx ff a 3) ((8 * b + a) % 8)).testBit ((8 * b + a) / 8) = false
        rw [show (8 * b + a) / 8 = b by omega, show (8 * b + a) % 8 = a by omega, va_up_self, Nat.testBit_and, b2, Bool.and_false])
      omega
  · rw [Bool.or_eq_false_iff, Bool.not_eq_false', decide_eq_true_eq] at q
    rw [q.2, z_up_self]
    obtain ⟨h5, h6⟩ := h4 q.1
    refine ⟨h5, fun j hj hD hF => ?_⟩
    by_cases e : j % 8 = a
    · rw [← zAns_congr h5]
      rw [← h5 j hj] at hF
      have hF : (ff (j % 8)).testBit (j / 8) = true := hF
      rw [e, ← q.2, Nat.testBit_and, Bool.and_eq_true] at hF
      rw [e, ← zAl_ans hnx ha (by omega)]; exact hF.2
    · have hD : j % 8 < a + 1 := hD
      exact h6 j hj (show j % 8 < a by omega) hF
end
section
/-! what joins the walks of the larger methods to the theory; the answers of the public methods, one for both sides -/
theorem pe_icmp_neBB {p : Program} {l : Launch} {e : Env} {R : Room} {s : State} {m : MethodId} {args : Array Value} {below : List Frame} {meth : Method} {c : Code} {H : Heap} {locs : List Loc} {cells slots : Nat} {Q : State → Prop} {cc : ByteArray} {pc : Nat} {ls : Array Slot} {rest : List Value} (hx : p.tables.exec = Jvm.exec) (hb : c.code = cc) {a b : Bool} {off : Int} (tgt : Nat) (hdg : decode cc pc = .ok (.if_icmp .ne off, 3)) (ht : (pc : Int) + off = (tgt : Int)) (kt : ¬ a = b → W p l e R s m args below meth c H locs cells slots Q (F0 m tgt ls rest)) (kf : a = b → W p l e R s m args below meth c H locs cells slots Q (F0 m (pc + 3) ls rest)) : W p l e R s m args below meth c H locs cells slots Q (F0 m pc ls (.int (nI b.toNat) :: .int (nI a.toNat) :: rest)) :=
  lv_icmp_ne hx hb hdg ht (fun h => kt (fun q => h (by rw [q]))) (fun h => kf (by cases a <;> cases b <;> first | rfl | exact absurd h (by decide)))
theorem z_up_fill {α : Type} {w F : Nat → α} {a : Nat} (h : ∀ j, j < a → w j = F j) : ∀ j, j < a + 1 → va_up w a (F a) j = F j := by
  intro j hj
  by_cases e : j = a
  · subst e; exact va_up_self w j _
  · rw [va_up_ne w _ e]; exact h j (by omega)
theorem zG_0 (tg : Nat → Nat) (a : Nat) : zG tg 0 a = 0 := by
  cases a with
  | zero => rfl
  | succ a => rfl
theorem x_fin {G : va_G} {ad : Nat → Nat} {cS cB : ClassId} {nx lx g w ff tg : Nat → Nat} {t : Nat → Int32} {k : Nat} {H : Heap} (hP : va_P G vwCl (xW ad cS cB nx lx g w t (nI (zL tg k)) ff) H) (h1 : ∀ j, j < 8 → g j = zG tg k j) (h2 : ∀ j, j < 64 → t j = zT tg k j) (h : zFin tg k) : va_P G vwCl (xW ad cS cB nx lx (zG tg 8) w (zT tg 8) (nI (zL tg 8)) ff) H := by
  rw [← zFin_L h]
  have hP := pe_cong hP 3 rfl (fun j => nI (zG tg 8 j)) (fun j hj => by show nI _ = nI _; rw [h1 j hj, zFin_G h j hj])
  exact pe_cong hP 5 rfl (zT tg 8) (fun j hj => by rw [h2 j hj, zFin_T h j hj])
theorem z_no {tg g w : Nat → Nat} {k a : Nat} (ha : a < 8) (hg : ∀ j, j < 8 → g j = zG tg k j) (hw : ∀ j, j < 8 → w j = zG tg (k + 1) j) : zNo g w a = anF (fun b => zE tg k a b && !zE tg (k + 1) a b) 8 := by
  refine anF_congr (fun b hb => ?_)
  congr 1
  · apply z_bool; rw [decide_eq_true_eq, hg a ha, hg b hb]; exact zG_eq tg k a b
  · congr 1
    apply z_bool; rw [decide_eq_true_eq, hw a ha, hw b hb]; exact zG_eq tg (k + 1) a b
theorem z_mv {tg g w : Nat → Nat} {k : Nat} (hg : ∀ j, j < 8 → g j = zG tg k j) (hw : ∀ j, j < 8 → w j = zG tg (k + 1) j) : anF (fun x => zNo g w x) 8 = zMv tg k := anF_congr (fun a ha => z_no ha hg hw)
theorem z_note {tg g w : Nat → Nat} {t : Nat → Int32} {k a : Nat} (ha : a < 8) (hg : ∀ j, j < 8 → g j = zG tg k j) (hw : ∀ j, j < 8 → w j = zG tg (k + 1) j) (ht : ∀ j, j < 64 → t j = if j / 8 < a then zT tg (k + 1) j else zT tg k j) : ∀ j, j < 64 → zNt g w (k + 1) a 8 t j = if j / 8 < a + 1 then zT tg (k + 1) j else zT tg k j := by
  intro j hj
  unfold zNt
  by_cases e : j / 8 = a
  · rw [if_pos (show j / 8 < a + 1 by omega)]
    have hb : j % 8 < 8 := by omega
    have hu : zT tg (k + 1) j = if zE tg k (j / 8) (j % 8) && !zE tg (k + 1) (j / 8) (j % 8) then nI (k + 1) else zT tg k j := rfl
    have c1 : g a = g (j % 8) ↔ zE tg k a (j % 8) = true := by rw [hg a ha, hg _ hb]; exact zG_eq tg k _ _
    have c2 : w a = w (j % 8) ↔ zE tg (k + 1) a (j % 8) = true := by rw [hw a ha, hw _ hb]; exact zG_eq tg (k + 1) _ _
    rw [hu, e]
    by_cases q : zE tg k a (j % 8) = true ∧ ¬ zE tg (k + 1) a (j % 8) = true
    · rw [if_pos ⟨rfl, hb, c1.mpr q.1, fun z => q.2 (c2.mp z)⟩, if_pos (by rw [q.1, Bool.eq_false_iff.mpr q.2]; rfl)]
    · rw [if_neg (fun z => q ⟨c1.mp z.2.2.1, fun y => z.2.2.2 (c2.mpr y)⟩), if_neg (fun z => q (by rw [Bool.and_eq_true, Bool.not_eq_true'] at z; exact ⟨z.1, by rw [z.2]; decide⟩)), ht j hj, if_neg (by omega)]
  · rw [if_neg (fun z => e z.1), ht j hj]
    by_cases q : j / 8 < a
    · rw [if_pos q, if_pos (by omega)]
    · rw [if_neg q, if_neg (by omega)]
theorem zL_t {tg : Nat → Nat} {k : Nat} (h : zMv tg k = true) : nI (k + 1) = nI (zL tg (k + 1)) := by
  show _ = nI (if zMv tg k then k + 1 else zL tg k)
  rw [h]; rfl
theorem zL_f {tg : Nat → Nat} {k : Nat} (h : zMv tg k = false) : nI (zL tg k) = nI (zL tg (k + 1)) := by
  show _ = nI (if zMv tg k then k + 1 else zL tg k)
  rw [h]; rfl
-- the long steps
theorem z_len {sl nx f : Nat → Nat} {a q : Nat} (ha : a < 8) (hq : 1 ≤ q) (hq3 : q < 3) (h0 : ∀ j, j < 8 → f j = sl j) (h : ∀ j, j < 24 → 8 ≤ j → (j % 8 < a ∨ (j % 8 = a ∧ j / 8 < q)) → f j = zLx sl nx j) : (∀ j, j < 8 → va_up f (8 * q + a) (zLong sl nx a q) j = sl j) ∧ ∀ j, j < 24 → 8 ≤ j → (j % 8 < a ∨ (j % 8 = a ∧ j / 8 < q + 1)) → va_up f (8 * q + a) (zLong sl nx a q) j = zLx sl nx j := by
  refine ⟨fun j hj => ?_, fun j hj h8 hd => ?_⟩
  · rw [va_up_ne f _ (show j ≠ 8 * q + a by omega)]; exact h0 j hj
  · by_cases e : j = 8 * q + a
    · subst e
      rw [va_up_self]
      unfold zLx
      rw [if_neg (by omega), show (8 * q + a) % 8 = a by omega, show (8 * q + a) / 8 = q by omega]
    · rw [va_up_ne f _ e]
      exact h j hj h8 (by omega)
-- the reference's rounds
theorem z_tl (tg : Nat → Nat) (k a b : Nat) : (zE tg k a b && !zE tg (k + 1) a b) = (zE tg k a b && (zD tg (zE tg k) a b || zD tg (zE tg k) b a)) := by
  show (zE tg k a b && !(zE tg k a b && !zD tg (zE tg k) a b && !zD tg (zE tg k) b a)) = _
  cases zE tg k a b <;> cases zD tg (zE tg k) a b <;> cases zD tg (zE tg k) b a <;> rfl
theorem z_tE_f {tg : Nat → Nat} {k j : Nat} (hk : k < 1000) (h : 0 ≤ zT tg k j) : zE tg k (j / 8) (j % 8) = false := by
  apply Bool.eq_false_iff.mpr
  intro q
  exact z_ge_nlt h ((zT_lt0 hk).mpr q)
theorem z_tE_t {tg : Nat → Nat} {k j : Nat} (hk : k < 1000) (h : ¬ 0 ≤ zT tg k j) : zE tg k (j / 8) (j % 8) = true := (zT_lt0 hk).mp (z_nge_lt h)
theorem z_tT_y {tg : Nat → Nat} {k j : Nat} (h : (zE tg k (j / 8) (j % 8) && !zE tg (k + 1) (j / 8) (j % 8)) = true) : nI (k + 1) = zT tg (k + 1) j := by
  show _ = if (zE tg k (j / 8) (j % 8) && !zE tg (k + 1) (j / 8) (j % 8)) = true then nI (k + 1) else zT tg k j
  rw [if_pos h]
theorem z_tT_n {tg : Nat → Nat} {k j : Nat} (h : (zE tg k (j / 8) (j % 8) && !zE tg (k + 1) (j / 8) (j % 8)) = false) : zT tg k j = zT tg (k + 1) j := by
  show _ = if (zE tg k (j / 8) (j % 8) && !zE tg (k + 1) (j / 8) (j % 8)) = true then nI (k + 1) else zT tg k j
  rw [h]; rfl
theorem z_an64 (P : Nat → Nat → Bool) : anF (fun j => P (j / 8) (j % 8)) 64 = anF (fun a => anF (fun b => P a b) 8) 8 := by
  apply z_bool
  rw [anF_iff, anF_iff]
  constructor
  · rintro ⟨j, hj, h⟩
    exact ⟨j / 8, by omega, (anF_iff _ _).mpr ⟨j % 8, by omega, h⟩⟩
  · rintro ⟨a, ha, h⟩
    obtain ⟨b, hb, h2⟩ := (anF_iff _ _).mp h
    exact ⟨8 * a + b, by omega, by rw [show (8 * a + b) / 8 = a by omega, show (8 * a + b) % 8 = b by omega]; exact h2⟩
-- written numbers
theorem zWr_inj {g g' : Nat → Nat} (n : Nat) (hg : ∀ j, j < n → g j < 8) (hg' : ∀ j, j < n → g' j < 8) : zWr g n = zWr g' n ↔ ∀ j, j < n → g j = g' j := by
  induction n with
  | zero => exact ⟨fun _ j hj => absurd hj (by omega), fun _ => rfl⟩
  | succ n ih =>
    have ih := ih (fun j hj => hg j (by omega)) (fun j hj => hg' j (by omega))
    have h1 := hg n (by omega)
    have h2 := hg' n (by omega)
    show zWr g n * 8 + g n = zWr g' n * 8 + g' n ↔ _
    constructor
    · intro h j hj
      by_cases e : j = n
      · subst e; omega
      · exact ih.mp (by omega) j (by omega)
    · intro h
      rw [ih.mpr (fun j hj => h j (by omega)), h n (by omega)]
theorem z_lcmp {a b : Nat} (ha : a < 2 ^ 31) (hb : b < 2 ^ 31) : lg_cmp (lN a) (lN b) = 0 ↔ a = b := by
  rw [← lN_eq ha hb]
  unfold lg_cmp
  constructor
  · intro h
    split at h
    · exact absurd h (by decide)
    · split at h
      · next q => exact q
      · exact absurd h (by decide)
  · intro h
    rw [if_neg (by rw [h]; simp), if_pos h]
-- the public answers
def xP (G : va_G) (ad : Nat → Nat) (cS cB : ClassId) (nx : Nat → Nat) (H : Heap) : Prop := ∃ lx gg ww tt lr ff, va_P G vwCl (xW ad cS cB nx lx gg ww tt lr ff) H
def yP (G : va_G) (ad : Nat → Nat) (cI cZ : ClassId) (nx : Nat → Nat) (H : Heap) : Prop := ∃ fr td kp af, va_P G vwCl (yW ad cI cZ nx fr td kp af) H
def zAlk (tg : Nat → Nat) (x y : Int32) : Bool := zSt x && zSt y && zE tg 8 (tn x) (tn y)
def zGrp (tg : Nat → Nat) (x : Int32) : Nat := if zSt x then orF 0 (fun b => if zE tg 8 (tn x) b then 2 ^ b else 0) 8 else 0
def zCnt (tg : Nat → Nat) : Nat := smF (fun a => (decide (zG tg 8 a = a)).toNat) 8
def zTol (tg : Nat → Nat) (x y : Int32) : Int32 := if zSt x && zSt y then zT tg 8 (8 * tn x + tn y) else -1
noncomputable def zFlw (nx : Nat → Nat) (x y : Int32) : Bool := zSt x && zSt y && zFo nx (tn x) (tn y)
noncomputable def zFls (nx : Nat → Nat) (x : Int32) : Nat := if zSt x then orF 0 (fun b => if zFo nx b (tn x) then 2 ^ b else 0) 8 else 0
def zIdl (nx : Nat → Nat) (x y z : Int32) : Bool := zHas nx x y z && alF (fun c => zE nx 8 (c / 8) (c % 8) == zE (zCut nx x y z) 8 (c / 8) (c % 8)) 64
def zLg (nx : Nat → Nat) : Nat → Nat := zLx (fun j => zQ nx j 8) nx
theorem zAlk_x {tg : Nat → Nat} {x y : Int32} (h : zSt x = false) : zAlk tg x y = false := by unfold zAlk; rw [h]; rfl
theorem zAlk_y {tg : Nat → Nat} {x y : Int32} (h : zSt y = false) : zAlk tg x y = false := by unfold zAlk; rw [h, Bool.and_false]; rfl
theorem zAlk_nI {tg : Nat → Nat} {i j : Nat} (hi : i < 8) (hj : j < 8) : zAlk tg (nI i) (nI j) = zE tg 8 i j := by
  unfold zAlk; rw [zSt_nI i hi, zSt_nI j hj, tn, tn, nI_clamp (by omega), nI_clamp (by omega)]; rfl
theorem zFlw_x {tg : Nat → Nat} {x y : Int32} (h : zSt x = false) : zFlw tg x y = false := by unfold zFlw; rw [h]; rfl
theorem zFlw_y {tg : Nat → Nat} {x y : Int32} (h : zSt y = false) : zFlw tg x y = false := by unfold zFlw; rw [h, Bool.and_false]; rfl
theorem zFlw_nI {tg : Nat → Nat} {i j : Nat} (hi : i < 8) (hj : j < 8) : zFlw tg (nI i) (nI j) = zFo tg i j := by
  unfold zFlw; rw [zSt_nI i hi, zSt_nI j hj, tn, tn, nI_clamp (by omega), nI_clamp (by omega)]; rfl
theorem zGrp_f {tg : Nat → Nat} {x : Int32} (h : zSt x = false) : zGrp tg x = 0 := by unfold zGrp; rw [h]; rfl
theorem zGrp_nI {tg : Nat → Nat} {i : Nat} (hi : i < 8) : zGrp tg (nI i) = orF 0 (fun b => if zE tg 8 i b then 2 ^ b else 0) 8 := by
  unfold zGrp; rw [zSt_nI i hi, tn, nI_clamp (by omega)]; rfl
theorem zFls_f {tg : Nat → Nat} {x : Int32} (h : zSt x = false) : zFls tg x = 0 := by unfold zFls; rw [h]; rfl
theorem zFls_nI {tg : Nat → Nat} {i : Nat} (hi : i < 8) : zFls tg (nI i) = orF 0 (fun b => if zFo tg b i then 2 ^ b else 0) 8 := by
  unfold zFls; rw [zSt_nI i hi, tn, nI_clamp (by omega)]; rfl
theorem zTol_x {tg : Nat → Nat} {x y : Int32} (h : zSt x = false) : zTol tg x y = -1 := by unfold zTol; rw [h]; rfl
theorem zTol_y {tg : Nat → Nat} {x y : Int32} (h : zSt y = false) : zTol tg x y = -1 := by unfold zTol; rw [h, Bool.and_false]; rfl
theorem zTol_nI {tg : Nat → Nat} {i j : Nat} (hi : i < 8) (hj : j < 8) : zTol tg (nI i) (nI j) = zT tg 8 (8 * i + j) := by
  unfold zTol; rw [zSt_nI i hi, zSt_nI j hj, tn, tn, nI_clamp (by omega), nI_clamp (by omega)]; rfl
theorem z_Gd (tg : Nat → Nat) (i j : Nat) : decide (zG tg 8 i = zG tg 8 j) = zE tg 8 i j := by
  apply z_bool; rw [decide_eq_true_eq]; exact zG_eq tg 8 i j
theorem z_grp {tg : Nat → Nat} {i : Nat} : orF 0 (fun j => if zG tg 8 j = zG tg 8 i then 2 ^ j else 0) 8 = orF 0 (fun b => if zE tg 8 i b then 2 ^ b else 0) 8 := by
  refine orF_congr (fun b hb => ?_)
  by_cases h : zE tg 8 i b = true
  · rw [if_pos h, if_pos ((zG_eq tg 8 b i).mpr (zE_symm h))]
  · rw [if_neg h, if_neg (fun q => h (zE_symm ((zG_eq tg 8 b i).mp q)))]
theorem z_Tlt {tg : Nat → Nat} {i j : Nat} (hj : j < 8) : zT tg 8 (8 * i + j) < 0 ↔ zE tg 8 i j = true := by
  have h := zT_lt0 (tg := tg) (k := 8) (j := 8 * i + j) (by omega)
  rw [show (8 * i + j) / 8 = i by omega, show (8 * i + j) % 8 = j by omega] at h
  exact h
theorem z_cnt {tg : Nat → Nat} {td : Nat → Int32} (h : ∀ j, j < 64 → td j = zT tg 8 j) : smF (fun k => (alF (fun j => decide (0 ≤ td (8 * k + j))) k).toNat) 8 = zCnt tg := by
  refine smF_congr (fun a ha => ?_)
  congr 1
  apply z_bool
  rw [alF_iff, decide_eq_true_eq, zG_fix]
  constructor
  · intro q j hj
    have h1 := of_decide_eq_true (q j hj)
    rw [h _ (by omega)] at h1
    apply Bool.eq_false_iff.mpr
    intro z
    exact z_ge_nlt h1 ((z_Tlt (by omega)).mpr (zE_symm z))
  · intro q j hj
    rw [h _ (by omega)]
    apply z_dec_ge
    intro z
    have h1 := zE_symm ((z_Tlt (by omega)).mp z)
    rw [q j hj] at h1; cases h1
theorem z_idl {nx nx' : Nat → Nat} : (∀ j, j < 8 → zG nx 8 j = zG nx' 8 j) ↔ alF (fun c => zE nx 8 (c / 8) (c % 8) == zE nx' 8 (c / 8) (c % 8)) 64 = true := by
  rw [alF_iff]
  constructor
  · intro h c hc
    have e : zE nx 8 (c / 8) (c % 8) = zE nx' 8 (c / 8) (c % 8) := by
      apply z_bool
      rw [← zG_eq, ← zG_eq, h _ (by omega), h _ (by omega)]
    rw [e]; exact beq_self_eq_true _
  · intro h j hj
    refine fsF_congr (fun i hi => ?_)
    have h1 := eq_of_beq (h (8 * i + j) (by omega))
    rw [show (8 * i + j) / 8 = i by omega, show (8 * i + j) % 8 = j by omega] at h1
    exact h1
theorem z_ix {nx nx' : Nat → Nat} {b : Bool} (h : b = true ↔ ∀ j, j < 8 → zG nx 8 j = zG nx' 8 j) : b = alF (fun c => zE nx 8 (c / 8) (c % 8) == zE nx' 8 (c / 8) (c % 8)) 64 := by
  apply z_bool; rw [h]; exact z_idl
theorem zIdl_f {nx : Nat → Nat} {x y z : Int32} (h : zHas nx x y z = false) : zIdl nx x y z = false := by unfold zIdl; rw [h]; rfl
theorem z_cfix {nx f : Nat → Nat} {mo : Bool} {r : Nat} (h1 : mo = true → zMu (zTb f) + r ≤ 64) (h2 : mo = false → zFix nx (zTb f)) (h3 : zSup nx (zTb f)) (h : mo = false ∨ 65 ≤ r) : ∀ c, c < 64 → zTb f c = zFo nx (c / 8) (c % 8) := by
  refine zFix_gfp (h2 ?_) h3
  rcases h with h | h
  · exact h
  · cases mo with
    | false => rfl
    | true => have := h1 rfl; omega
theorem z_yfix {nx : Nat → Nat} {F : Nat → Bool} {mo : Bool} {r : Nat} (h1 : mo = true → zMu F + r ≤ 64) (h2 : mo = false → zFix nx F) (h3 : zSup nx F) (h : mo = false ∨ 65 ≤ r) : ∀ c, c < 64 → F c = zFo nx (c / 8) (c % 8) := by
  refine zFix_gfp (h2 ?_) h3
  rcases h with h | h
  · exact h
  · cases mo with
    | false => rfl
    | true => have := h1 rfl; omega
theorem z_up_b {f : Nat → Nat} {a x : Nat} (h : ∀ j, j < 8 → f j < 256) (hx : x < 256) : ∀ j, j < 8 → va_up f a x j < 256 := by
  intro j hj
  unfold va_up
  split
  · exact hx
  · exact h j hj
/-- a set of followers by its bits -/
theorem z_fls {nx ff : Nat → Nat} {a : Nat} (ha : a < 8) (hf : ff a < 256) (h : ∀ c, c < 64 → zTb ff c = zFo nx (c / 8) (c % 8)) : ff a = orF 0 (fun b => if zFo nx b a then 2 ^ b else 0) 8 := by
  apply Nat.eq_of_testBit_eq
  intro k
  apply z_bool
  rw [orF_tb]
  have hc : ∀ b, b < 8 → (ff a).testBit b = zFo nx b a := fun b hb => by
    have := h (8 * b + a) (by omega)
    have this : (ff ((8 * b + a) % 8)).testBit ((8 * b + a) / 8) = zFo nx ((8 * b + a) / 8) ((8 * b + a) % 8) := this
    rw [show (8 * b + a) / 8 = b by omega, show (8 * b + a) % 8 = a by omega] at this
    exact this
  constructor
  · intro q
    have hk := z_tb8 hf q
    refine Or.inr ⟨k, hk, ?_⟩
    rw [← hc k hk, if_pos q, Nat.testBit_two_pow_self]
  · rintro (q | ⟨b, hb, q⟩)
    · rw [Nat.zero_testBit] at q; cases q
    · by_cases e : zFo nx b a = true
      · rw [if_pos e, Nat.testBit_two_pow, decide_eq_true_eq] at q
        subst q
        rw [hc b hb]; exact e
      · rw [if_neg e, Nat.zero_testBit] at q; cases q
end
section
/-! more glue -/
theorem z_lenE {nx f : Nat → Nat} (h0 : ∀ j, j < 8 → f j = zQ nx j 8) (h1 : ∀ j, j < 24 → 8 ≤ j → j % 8 < 8 → f j = zLx (fun j => zQ nx j 8) nx j) : ∀ j, j < 24 → nI (f j) = nI (zLg nx j) := by
  intro j hj
  by_cases h8 : j < 8
  · rw [h0 j h8]; unfold zLg zLx; rw [if_pos h8]
  · rw [h1 j hj (by omega) (by omega)]; rfl
theorem z_cf0 {nx ff : Nat → Nat} : (∀ j, j < 8 → pe_fl (fun _ => 255) 8 ff j < 256) ∧ zSup nx (zTb (pe_fl (fun _ => 255) 8 ff)) ∧ (true = true → zMu (zTb (pe_fl (fun _ => 255) 8 ff)) + 0 ≤ 64) ∧ (true = false → zFix nx (zTb (pe_fl (fun _ => 255) 8 ff))) := by
  refine ⟨fun j hj => by rw [pe_fl_lt _ _ hj]; omega, fun c hc _ => ?_, fun _ => by rw [Nat.add_zero]; exact zMu_le _, fun h => by cases h⟩
  show (pe_fl (fun _ => 255) 8 ff (c % 8)).testBit (c / 8) = true
  rw [pe_fl_lt _ _ (by omega)]
  exact (by decide +kernel : ∀ b, b < 8 → (255 : Nat).testBit b = true) (c / 8) (by omega)
theorem z_ftb {nx f : Nat → Nat} {i j : Nat} (hi : i < 8) (hj : j < 8) (h : ∀ c, c < 64 → zTb f c = zFo nx (c / 8) (c % 8)) : zFo nx i j = (f j).testBit i := by
  have h1 := h (8 * i + j) (by omega)
  have h1 : (f ((8 * i + j) % 8)).testBit ((8 * i + j) / 8) = zFo nx ((8 * i + j) / 8) ((8 * i + j) % 8) := h1
  rw [show (8 * i + j) / 8 = i by omega, show (8 * i + j) % 8 = j by omega] at h1
  exact h1.symm
theorem z_up24 {nx : Nat → Nat} {k x : Nat} (h : ∀ j, j < 24 → nx j < 256) (hx : x < 256) : ∀ j, j < 24 → va_up nx k x j < 256 := by
  intro j hj
  unfold va_up
  split
  · exact hx
  · exact h j hj
theorem zWr_31 (tg : Nat → Nat) : zWr (zG tg 8) 8 < 2 ^ 31 := Nat.lt_trans (zWr_lt (fun j hj => zG_lt hj) (Nat.le_refl 8)) (by decide)
theorem z_idx {nx : Nat → Nat} {i j k : Nat} (hi : i < 8) (hj : j < 8) (hk : k < 3) (h : (nx (8 * k + i)).testBit j = true) (hc : lg_cmp (lN (zWr (zG nx 8) 8)) (lN (zWr (zG (va_up nx (8 * k + i) (nx (8 * k + i) ^^^ 2 ^ j)) 8) 8)) = 0) : zIdl nx (nI i) (nI j) (nI k) = true := by
  have hh : zHas nx (nI i) (nI j) (nI k) = true := by rw [zHas_nI hi hj hk]; exact h
  unfold zIdl
  rw [hh, zCut_nI hi hj hk hh, Bool.true_and]
  refine z_idl.mp ?_
  exact (zWr_inj 8 (fun _ hj => zG_lt hj) (fun _ hj => zG_lt hj)).mp ((z_lcmp (zWr_31 _) (zWr_31 _)).mp hc)
theorem z_idn {nx : Nat → Nat} {i j k : Nat} (hi : i < 8) (hj : j < 8) (hk : k < 3) (h : (nx (8 * k + i)).testBit j = true) (hc : ¬ lg_cmp (lN (zWr (zG nx 8) 8)) (lN (zWr (zG (va_up nx (8 * k + i) (nx (8 * k + i) ^^^ 2 ^ j)) 8) 8)) = 0) : zIdl nx (nI i) (nI j) (nI k) = false := by
  have hh : zHas nx (nI i) (nI j) (nI k) = true := by rw [zHas_nI hi hj hk]; exact h
  unfold zIdl
  rw [hh, zCut_nI hi hj hk hh, Bool.true_and]
  apply Bool.eq_false_iff.mpr
  intro q
  exact hc ((z_lcmp (zWr_31 _) (zWr_31 _)).mpr ((zWr_inj 8 (fun _ hj => zG_lt hj) (fun _ hj => zG_lt hj)).mpr (z_idl.mpr q)))
end
section
/-! THE CLASS: the larger methods and the public ones (printed by gen/x0b.py) -/
set_option maxRecDepth 100000
theorem hd_X0_lengthen : yX0_lengthen.cls ≠ "java/lang/invoke/MethodHandle" ∧ yX0_lengthen.cls ≠ "java/lang/invoke/VarHandle" ∧ (parseMethodDescriptor yX0_lengthen.desc).map (fun d => d.parameters.length) = some 0 := by decide +kernel
set_option maxHeartbeats 4000000 in
theorem m_X0_lengthen (l : Launch) (G : va_G) (ad : Nat → Nat) (cS cB : ClassId) (nx lx gg ww : Nat → Nat) (tt : Nat → Int32) (lr : Int32) (ff : Nat → Nat) (A : Nat → Prop) (hA : xD A ad) (hnx : ∀ j, j < 24 → nx j < 256) : Met l yX0_lengthen (ws_ yX0_lengthen cX0_lengthen 3 none) ({ frames := 2, cells := 0, slots := 0, locals := 46 }) (va_Pc [.ref (ad 0)] (pB G vwCl (xW ad cS cB nx lx gg ww tt lr ff) (xT cS cB))) (pQ A (fun v H => v = none ∧ va_P G vwCl (xW ad cS cB nx (zLg nx) gg ww tt lr ff) H)) 0 0 A := by
  refine pe_start (by decide) (Nat.le_of_ble_eq_true rfl) ?_
  intro p e s m below meth c hx hb hr hml hown hts hlocks hB ls hl
  have hown : s.vm.findClass RX0 = some m.cls := hown
  have S : CallFix p m c cX0_lengthen 3 s _ lw_all RX0 := ⟨hx, hb, hml, hown, hts⟩
  have hP := hB.1
  have hK := hB.2
  have hS : va_S A s.heap s.heap [] := va_S.rf
  have hl : lv_has ls 3 [(0, .ref (ad 0))] := hl
  refine lv_iconst (v := nI 0) hx hb dX0_lengthen_0 (by decide +kernel) ?_
  refine lv_istore_n (lv' := [(1, .int (nI 0)), (0, .ref (ad 0))]) hx hb dX0_lengthen_1 rfl hl (by decide) rfl (fun ls hl => ?_)
  refine pe_loop (8) 2 (fun i H locs ls => va_P G vwCl (xW ad cS cB nx (pe_fl (fun j => zS nx j 8) i lx) gg ww tt lr ff) H ∧ va_S A s.heap H locs ∧ lv_has ls 3 [(0, .ref (ad 0)), (1, .int (nI i))]) (fun i hi_i ih_i H locs ls hl => ?_) (0) (by omega) _ _ ls (⟨by rw [pe_fl_0]; exact hP, hS, lv_sub hl [1, 0] rfl⟩)
  obtain ⟨hP, hS, hl⟩ := hl
  refine lv_iload_n hx hb dX0_lengthen_2 rfl (lv_at hl 1 rfl) ?_
  refine lv_bipush (v := nI 8) hx hb dX0_lengthen_3 (by decide +kernel) ?_
  refine pe_icmp_ge hx hb 26 dX0_lengthen_5 (by decide) (by omega) (by omega) (fun c5 => ?_) (fun c5 => ?_)
  · obtain rfl : i = 8 := by omega
    refine lv_iconst (v := nI 0) hx hb dX0_lengthen_26 (by decide +kernel) ?_
    refine lv_istore_n (lv' := [(1, .int (nI 0)), (0, .ref (ad 0))]) hx hb dX0_lengthen_27 rfl hl (by decide) rfl (fun ls hl => ?_)
    refine pe_loop (8) 28 (fun a H locs ls => ∃ f : Nat → Nat, va_P G vwCl (xW ad cS cB nx f gg ww tt lr ff) H ∧ va_S A s.heap H locs ∧ lv_has ls 3 [(0, .ref (ad 0)), (1, .int (nI a))] ∧ (∀ j, j < 8 → f j = zQ nx j 8) ∧ ∀ j, j < 24 → 8 ≤ j → j % 8 < a → f j = zLx (fun j => zQ nx j 8) nx j) (fun a hi_a ih_a H locs ls hl => ?_) (0) (by omega) _ _ ls (⟨_, hP, hS, lv_sub hl [1, 0] rfl, ⟨fun j hj => by rw [pe_fl_lt _ _ hj]; exact zS_eq hj hnx, fun j _ _ h => absurd h (by omega)⟩⟩)
    obtain ⟨f, hP, hS, hl, hf0, hf1⟩ := hl
    refine lv_iload_n hx hb dX0_lengthen_28 rfl (lv_at hl 1 rfl) ?_
    refine lv_bipush (v := nI 8) hx hb dX0_lengthen_29 (by decide +kernel) ?_
    refine pe_icmp_ge hx hb 71 dX0_lengthen_31 (by decide) (by omega) (by omega) (fun c31 => ?_) (fun c31 => ?_)
    · obtain rfl : a = 8 := by omega
      exact pe_vret hx hb hr hlocks hS dX0_lengthen_71 (⟨rfl, pe_cong hP 2 rfl (fun j => nI (zLg nx j)) (fun j hj => z_lenE hf0 hf1 j hj)⟩)
    · refine lv_iconst (v := nI 1) hx hb dX0_lengthen_34 (by decide +kernel) ?_
      refine lv_istore_n (lv' := [(2, .int (nI 1)), (0, .ref (ad 0)), (1, .int (nI a))]) hx hb dX0_lengthen_35 rfl hl (by decide) rfl (fun ls hl => ?_)
      refine pe_loop (3) 36 (fun q H locs ls => ∃ g : Nat → Nat, va_P G vwCl (xW ad cS cB nx g gg ww tt lr ff) H ∧ va_S A s.heap H locs ∧ lv_has ls 3 [(0, .ref (ad 0)), (1, .int (nI a)), (2, .int (nI q))] ∧ 1 ≤ q ∧ (∀ j, j < 8 → g j = zQ nx j 8) ∧ ∀ j, j < 24 → 8 ≤ j → (j % 8 < a ∨ (j % 8 = a ∧ j / 8 < q)) → g j = zLx (fun j => zQ nx j 8) nx j) (fun q hi_q ih_q H locs ls hl => ?_) (1) (by omega) _ _ ls (⟨_, hP, hS, lv_sub hl [1, 2, 0] rfl, ⟨Nat.le_refl 1, hf0, fun j hj h8 hd => hf1 j hj h8 (by omega)⟩⟩)
      obtain ⟨g, hP, hS, hl, hq1, hg0, hg1⟩ := hl
      refine lv_iload_n hx hb dX0_lengthen_36 rfl (lv_at hl 2 rfl) ?_
      refine lv_iconst (v := nI 3) hx hb dX0_lengthen_37 (by decide +kernel) ?_
      refine pe_icmp_ge hx hb 65 dX0_lengthen_38 (by decide) (by omega) (by omega) (fun c38 => ?_) (fun c38 => ?_)
      · obtain rfl : q = 3 := by omega
        refine pe_inc (k := 1) (a := a) (lv' := [(1, .int (nI (a + 1))), (0, .ref (ad 0)), (2, .int (nI 3))]) hx hb dX0_lengthen_65 hl rfl (by decide) rfl (fun ls hl => ?_)
        refine lv_goto (tgt := 28) hx hb dX0_lengthen_68 (by decide) ?_
        exact ih_a (by omega) _ _ ls (⟨_, hP, hS, lv_sub hl [1, 0] rfl, ⟨hg0, fun j hj h8 hd => hg1 j hj h8 (by omega)⟩⟩)
      · refine lv_aload_n hx hb dX0_lengthen_41 rfl (lv_at hl 0 rfl) ?_
        refine va_get (D := G) (ci := 0) (v := .ref (ad 2)) (C := RX0) (T := TX0) (N := 7) hx hb hts in_X0 hown hK hP 0 rfl rfl 1 (by decide) (hts _ q43) (fun _ h9 => h9) rfl dX0_lengthen_42 ?_
        refine lv_iload_n hx hb dX0_lengthen_45 rfl (lv_at hl 2 rfl) ?_
        refine lv_bipush (v := nI 8) hx hb dX0_lengthen_46 (by decide +kernel) ?_
        refine pe_imul hx hb dX0_lengthen_48 ?_
        refine lv_iload_n hx hb dX0_lengthen_49 rfl (lv_at hl 1 rfl) ?_
        refine pe_iadd hx hb dX0_lengthen_50 ?_
        refine lv_aload_n hx hb dX0_lengthen_51 rfl (lv_at hl 0 rfl) ?_
        refine lv_iload_n hx hb dX0_lengthen_52 rfl (lv_at hl 1 rfl) ?_
        refine lv_iload_n hx hb dX0_lengthen_53 rfl (lv_at hl 2 rfl) ?_
        refine pe_cV (n := 2) (rest := [.int (nI ((q * 8) + a)), .ref (ad 2)]) S hK hP (m_X0_longFrom l G ad cS cB nx g gg ww tt lr ff a q (by omega) (by omega)) (ci := 0) rfl rfl rfl q162 q164 qs11 q32 q165 ⟨rfl, hd_X0_longFrom⟩ rfl ⟨rfl, rfl⟩ ⟨Nat.le_of_ble_eq_true rfl, Nat.le_of_ble_eq_true rfl⟩ ⟨Nat.le_of_ble_eq_true rfl, Nat.le_of_ble_eq_true rfl⟩ hl.1 rfl (Nat.le_of_ble_eq_true rfl) dX0_lengthen_54 (fun r hr_ => ?_)
        subst hr_
        refine pe_top (show nI (zLong g nx a q) = nI (zLong (fun j => zQ nx j 8) nx a q) by rw [zLong_congr (by omega) hg0]) ?_
        refine pe_i2s hx hb (z_lt15 (zLong_lt (fun j hj => zQ_lt 8 hj hnx))) dX0_lengthen_57 ?_
        refine pe_sast hx hb hK hP (hA.D _ _ _ _ _ _ _ _ _) hS 2 0 rfl rfl dX0_lengthen_58 (8 * q + a) (by omega) (by omega) (by decide) (pe_n16 (z_lt15 (zLong_lt (fun j hj => zQ_lt 8 hj hnx)))) (f' := fun j_ => nI ((va_up g (8 * q + a) (zLong (fun j => zQ nx j 8) nx a q)) j_)) (pe_up _ _ _) (fun H locs hP hS => ?_)
        have hP : va_P G vwCl (xW ad cS cB nx (va_up g (8 * q + a) (zLong (fun j => zQ nx j 8) nx a q)) gg ww tt lr ff) H := hP
        refine pe_inc (k := 2) (a := q) (lv' := [(2, .int (nI (q + 1))), (0, .ref (ad 0)), (1, .int (nI a))]) hx hb dX0_lengthen_59 hl rfl (by decide) rfl (fun ls hl => ?_)
        refine lv_goto (tgt := 36) hx hb dX0_lengthen_62 (by decide) ?_
        exact ih_q (by omega) _ _ ls (⟨_, hP, hS, lv_sub hl [1, 2, 0] rfl, ⟨by omega, z_len (by omega) hq1 (by omega) hg0 hg1⟩⟩)
  · refine lv_aload_n hx hb dX0_lengthen_8 rfl (lv_at hl 0 rfl) ?_
    refine va_get (D := G) (ci := 0) (v := .ref (ad 2)) (C := RX0) (T := TX0) (N := 7) hx hb hts in_X0 hown hK hP 0 rfl rfl 1 (by decide) (hts _ q43) (fun _ h9 => h9) rfl dX0_lengthen_9 ?_
    refine lv_iload_n hx hb dX0_lengthen_12 rfl (lv_at hl 1 rfl) ?_
    refine lv_aload_n hx hb dX0_lengthen_13 rfl (lv_at hl 0 rfl) ?_
    refine lv_iload_n hx hb dX0_lengthen_14 rfl (lv_at hl 1 rfl) ?_
    refine pe_cV (n := 1) (rest := [.int (nI i), .ref (ad 2)]) S hK hP (m_X0_silentFrom l G ad cS cB nx (pe_fl (fun j => zS nx j 8) i lx) gg ww tt lr ff i (by omega) hnx) (ci := 0) rfl rfl rfl q158 q160 qs10 q32 q161 ⟨rfl, hd_X0_silentFrom⟩ rfl ⟨rfl, rfl⟩ ⟨Nat.le_of_ble_eq_true rfl, Nat.le_of_ble_eq_true rfl⟩ ⟨Nat.le_of_ble_eq_true rfl, Nat.le_of_ble_eq_true rfl⟩ hl.1 rfl (Nat.le_of_ble_eq_true rfl) dX0_lengthen_15 (fun r hr_ => ?_)
    subst hr_
    refine pe_i2s hx hb (z_lt15 (zS_lt 8 (by omega) hnx)) dX0_lengthen_18 ?_
    refine pe_sast hx hb hK hP (hA.D _ _ _ _ _ _ _ _ _) hS 2 0 rfl rfl dX0_lengthen_19 i (rfl) (by omega) (by decide) (pe_n16 (z_lt15 (zS_lt 8 (by omega) hnx))) (f' := fun j_ => nI ((va_up (pe_fl (fun j => zS nx j 8) i lx) i (zS nx i 8)) j_)) (pe_up _ _ _) (fun H locs hP hS => ?_)
    have hP : va_P G vwCl (xW ad cS cB nx (va_up (pe_fl (fun j => zS nx j 8) i lx) i (zS nx i 8)) gg ww tt lr ff) H := hP
    refine pe_inc (k := 1) (a := i) (lv' := [(1, .int (nI (i + 1))), (0, .ref (ad 0))]) hx hb dX0_lengthen_20 hl rfl (by decide) rfl (fun ls hl => ?_)
    refine lv_goto (tgt := 2) hx hb dX0_lengthen_23 (by decide) ?_
    exact ih_i (by omega) _ _ ls (⟨by rw [← pe_fl_up]; exact hP, hS, lv_sub hl [1, 0] rfl⟩)
theorem hd_X0_divide : yX0_divide.cls ≠ "java/lang/invoke/MethodHandle" ∧ yX0_divide.cls ≠ "java/lang/invoke/VarHandle" ∧ (parseMethodDescriptor yX0_divide.desc).map (fun d => d.parameters.length) = some 1 := by decide +kernel
set_option maxHeartbeats 4000000 in
theorem m_X0_divide (l : Launch) (G : va_G) (ad : Nat → Nat) (cS cB : ClassId) (nx lx gg ww : Nat → Nat) (tt : Nat → Int32) (lr : Int32) (ff : Nat → Nat) (A : Nat → Prop) (hA : xD A ad) (bl : Bool) : Met l yX0_divide (ws_ yX0_divide cX0_divide 5 none) ({ frames := 4, cells := 0, slots := 0, locals := 96 }) (va_Pc [.ref (ad 0), .int (nI bl.toNat)] (pB G vwCl (xW ad cS cB nx lx gg ww tt lr ff) (xT cS cB))) (pQ A (fun v H => v = none ∧ ∃ w, va_P G vwCl (xW ad cS cB nx lx (zG (if bl then lx else nx) 8) w (zT (if bl then lx else nx) 8) (nI (zL (if bl then lx else nx) 8)) ff) H)) 0 0 A := by
  refine pe_start (by decide) (Nat.le_of_ble_eq_true rfl) ?_
  intro p e s m below meth c hx hb hr hml hown hts hlocks hB ls hl
  have hown : s.vm.findClass RX0 = some m.cls := hown
  have S : CallFix p m c cX0_divide 5 s _ lw_all RX0 := ⟨hx, hb, hml, hown, hts⟩
  have hP := hB.1
  have hK := hB.2
  have hS : va_S A s.heap s.heap [] := va_S.rf
  have hl : lv_has ls 5 [(0, .ref (ad 0)), (1, .int (nI bl.toNat))] := hl
  refine lv_iconst (v := nI 0) hx hb dX0_divide_0 (by decide +kernel) ?_
  refine lv_istore_n (lv' := [(2, .int (nI 0)), (0, .ref (ad 0)), (1, .int (nI bl.toNat))]) hx hb dX0_divide_1 rfl hl (by decide) rfl (fun ls hl => ?_)
  refine pe_loop (64) 2 (fun i H locs ls => va_P G vwCl (xW ad cS cB nx lx gg ww (pe_fl (fun _ => -1) i tt) lr ff) H ∧ va_S A s.heap H locs ∧ lv_has ls 5 [(0, .ref (ad 0)), (1, .int (nI bl.toNat)), (2, .int (nI i))]) (fun i hi_i ih_i H locs ls hl => ?_) (0) (by omega) _ _ ls (⟨by rw [pe_fl_0]; exact hP, hS, lv_sub hl [1, 2, 0] rfl⟩)
  obtain ⟨hP, hS, hl⟩ := hl
  refine lv_iload_n hx hb dX0_divide_2 rfl (lv_at hl 2 rfl) ?_
  refine lv_bipush (v := nI 64) hx hb dX0_divide_3 (by decide +kernel) ?_
  refine pe_icmp_ge hx hb 21 dX0_divide_5 (by decide) (by omega) (by omega) (fun c5 => ?_) (fun c5 => ?_)
  · obtain rfl : i = 64 := by omega
    refine lv_iconst (v := nI 0) hx hb dX0_divide_21 (by decide +kernel) ?_
    refine lv_istore_n (lv' := [(2, .int (nI 0)), (0, .ref (ad 0)), (1, .int (nI bl.toNat))]) hx hb dX0_divide_22 rfl hl (by decide) rfl (fun ls hl => ?_)
    refine pe_loop (8) 23 (fun i2 H locs ls => va_P G vwCl (xW ad cS cB nx lx (pe_fl (fun _ => 0) i2 gg) ww (pe_fl (fun _ => -1) 64 tt) lr ff) H ∧ va_S A s.heap H locs ∧ lv_has ls 5 [(0, .ref (ad 0)), (1, .int (nI bl.toNat)), (2, .int (nI i2))]) (fun i2 hi_i2 ih_i2 H locs ls hl => ?_) (0) (by omega) _ _ ls (⟨by rw [pe_fl_0]; exact hP, hS, lv_sub hl [1, 2, 0] rfl⟩)
    obtain ⟨hP, hS, hl⟩ := hl
    refine lv_iload_n hx hb dX0_divide_23 rfl (lv_at hl 2 rfl) ?_
    refine lv_bipush (v := nI 8) hx hb dX0_divide_24 (by decide +kernel) ?_
    refine pe_icmp_ge hx hb 42 dX0_divide_26 (by decide) (by omega) (by omega) (fun c26 => ?_) (fun c26 => ?_)
    · obtain rfl : i2 = 8 := by omega
      refine lv_aload_n hx hb dX0_divide_42 rfl (lv_at hl 0 rfl) ?_
      refine lv_iconst (v := nI 0) hx hb dX0_divide_43 (by decide +kernel) ?_
      refine va_put (D := G) (ci := 0) (v := .int (nI 0)) (ty := .int) (C := RX0) (T := TX0) (N := 7) hx hb hts in_X0 tyX0 tyX0_ok nmX0 hown hK hP (hA.D _ _ _ _ _ _ _ _ _) hS 0 rfl rfl 5 (by decide) (hts _ q47) (fun _ h9 => h9) rfl (by decide +kernel) rfl rfl (Nat.le_of_ble_eq_true rfl) dX0_divide_44 (fun H locs hP _ hS => ?_)
      have hP : va_P G vwCl (xW ad cS cB nx lx (pe_fl (fun _ => 0) 8 gg) ww (pe_fl (fun _ => -1) 64 tt) (nI 0) ff) H := hP
      refine lv_iconst (v := nI 1) hx hb dX0_divide_47 (by decide +kernel) ?_
      refine lv_istore_n (lv' := [(2, .int (nI 1)), (0, .ref (ad 0)), (1, .int (nI bl.toNat))]) hx hb dX0_divide_48 rfl hl (by decide) rfl (fun ls hl => ?_)
      refine lv_iconst (v := nI 1) hx hb dX0_divide_49 (by decide +kernel) ?_
      refine lv_istore_n (lv' := [(3, .int (nI 1)), (2, .int (nI 1)), (0, .ref (ad 0)), (1, .int (nI bl.toNat))]) hx hb dX0_divide_50 rfl hl (by decide) rfl (fun ls hl => ?_)
      refine pe_loop (8) 51 (fun k H locs ls => ∃ (g w : Nat → Nat) (t : Nat → Int32) (mo : Bool), va_P G vwCl (xW ad cS cB nx lx g w t (nI (zL (if bl then lx else nx) k)) ff) H ∧ va_S A s.heap H locs ∧ lv_has ls 5 [(0, .ref (ad 0)), (1, .int (nI bl.toNat)), (2, .int (nI mo.toNat)), (3, .int (nI (k + 1)))] ∧ (∀ j, j < 8 → g j = zG (if bl then lx else nx) k j) ∧ (∀ j, j < 64 → t j = zT (if bl then lx else nx) k j) ∧ (mo = false → zFin (if bl then lx else nx) k)) (fun k hi_k ih_k H locs ls hl => ?_) (0) (by omega) _ _ ls (⟨_, _, _, true, hP, hS, lv_sub hl [2, 3, 1, 0] rfl, ⟨fun j hj => by rw [pe_fl_lt _ _ hj, zG_0], fun j hj => by rw [pe_fl_lt _ _ hj]; rfl, fun h => by cases h⟩⟩)
      obtain ⟨g, w, t, mo, hP, hS, hl, hg, ht, hm⟩ := hl
      have hgg : ∀ j, j < 8 → g j < 8 := fun j hj => by rw [hg j hj]; exact zG_lt hj
      refine lv_iload_n hx hb dX0_divide_51 rfl (lv_at hl 3 rfl) ?_
      refine lv_bipush (v := nI 8) hx hb dX0_divide_52 (by decide +kernel) ?_
      refine pe_icmp_gt hx hb 172 dX0_divide_54 (by decide) (by omega) (by omega) (fun c54 => ?_) (fun c54 => ?_)
      · exact pe_vret hx hb hr hlocks hS dX0_divide_172 (⟨rfl, w, x_fin hP hg ht (Or.inl (by omega))⟩)
      · refine lv_iload_n hx hb dX0_divide_57 rfl (lv_at hl 2 rfl) ?_
        refine pe_ifeqB hx hb 172 dX0_divide_58 (by decide) (fun c58 => ?_) (fun c58 => ?_)
        · exact pe_vret hx hb hr hlocks hS dX0_divide_172 (⟨rfl, w, x_fin hP hg ht (hm c58)⟩)
        · refine lv_iconst (v := nI 0) hx hb dX0_divide_61 (by decide +kernel) ?_
          refine lv_istore_n (lv' := [(2, .int (nI 0)), (0, .ref (ad 0)), (1, .int (nI bl.toNat)), (3, .int (nI (k + 1)))]) hx hb dX0_divide_62 rfl hl (by decide) rfl (fun ls hl => ?_)
          refine lv_iconst (v := nI 0) hx hb dX0_divide_63 (by decide +kernel) ?_
          refine lv_istore (lv' := [(4, .int (nI 0)), (2, .int (nI 0)), (0, .ref (ad 0)), (1, .int (nI bl.toNat)), (3, .int (nI (k + 1)))]) hx hb dX0_divide_64 hl (by decide) rfl (fun ls hl => ?_)
          refine pe_loop (8) 66 (fun a H locs ls => ∃ w2 : Nat → Nat, va_P G vwCl (xW ad cS cB nx lx g w2 t (nI (zL (if bl then lx else nx) k)) ff) H ∧ va_S A s.heap H locs ∧ lv_has ls 5 [(0, .ref (ad 0)), (1, .int (nI bl.toNat)), (2, .int (nI 0)), (3, .int (nI (k + 1))), (4, .int (nI a))] ∧ ∀ j, j < a → w2 j = zG (if bl then lx else nx) (k + 1) j) (fun a hi_a ih_a H locs ls hl => ?_) (0) (by omega) _ _ ls (⟨_, hP, hS, lv_sub hl [2, 3, 1, 4, 0] rfl, fun j h => absurd h (by omega)⟩)
          obtain ⟨w2, hP, hS, hl, hw2⟩ := hl
          have hww : ∀ j, j < a → w2 j < 8 := fun j hj => by rw [hw2 j hj]; exact zG_lt (by omega)
          refine lv_iload hx hb dX0_divide_66 (lv_at hl 4 rfl) ?_
          refine lv_bipush (v := nI 8) hx hb dX0_divide_68 (by decide +kernel) ?_
          refine pe_icmp_ge hx hb 94 dX0_divide_70 (by decide) (by omega) (by omega) (fun c70 => ?_) (fun c70 => ?_)
          · obtain rfl : a = 8 := by omega
            have hww : ∀ j, j < 8 → w2 j < 8 := fun j hj => by rw [hw2 j hj]; exact zG_lt hj
            refine lv_iconst (v := nI 0) hx hb dX0_divide_94 (by decide +kernel) ?_
            refine lv_istore (lv' := [(4, .int (nI 0)), (0, .ref (ad 0)), (1, .int (nI bl.toNat)), (2, .int (nI 0)), (3, .int (nI (k + 1)))]) hx hb dX0_divide_95 hl (by decide) rfl (fun ls hl => ?_)
            refine pe_loop (8) 97 (fun a2 H locs ls => ∃ t2 : Nat → Int32, va_P G vwCl (xW ad cS cB nx lx g w2 t2 (nI (zL (if bl then lx else nx) k)) ff) H ∧ va_S A s.heap H locs ∧ lv_has ls 5 [(0, .ref (ad 0)), (1, .int (nI bl.toNat)), (2, .int (nI (anF (fun x => zNo g w2 x) (a2)).toNat)), (3, .int (nI (k + 1))), (4, .int (nI a2))] ∧ ∀ j, j < 64 → t2 j = if j / 8 < a2 then zT (if bl then lx else nx) (k + 1) j else zT (if bl then lx else nx) k j) (fun a2 hi_a2 ih_a2 H locs ls hl => ?_) (0) (by omega) _ _ ls (⟨_, hP, hS, lv_sub hl [1, 2, 3, 4, 0] rfl, fun j hj => by rw [if_neg (by omega)]; exact ht j hj⟩)
            obtain ⟨t2, hP, hS, hl, ht2⟩ := hl
            refine lv_iload hx hb dX0_divide_97 (lv_at hl 4 rfl) ?_
            refine lv_bipush (v := nI 8) hx hb dX0_divide_99 (by decide +kernel) ?_
            refine pe_icmp_ge hx hb 120 dX0_divide_101 (by decide) (by omega) (by omega) (fun c101 => ?_) (fun c101 => ?_)
            · obtain rfl : a2 = 8 := by omega
              refine lv_iconst (v := nI 0) hx hb dX0_divide_120 (by decide +kernel) ?_
              refine lv_istore (lv' := [(4, .int (nI 0)), (0, .ref (ad 0)), (1, .int (nI bl.toNat)), (2, .int (nI (anF (fun x => zNo g w2 x) (8)).toNat)), (3, .int (nI (k + 1)))]) hx hb dX0_divide_121 hl (by decide) rfl (fun ls hl => ?_)
              refine pe_loop (8) 123 (fun a3 H locs ls => va_P G vwCl (xW ad cS cB nx lx (pe_fl w2 a3 g) w2 t2 (nI (zL (if bl then lx else nx) k)) ff) H ∧ va_S A s.heap H locs ∧ lv_has ls 5 [(0, .ref (ad 0)), (1, .int (nI bl.toNat)), (2, .int (nI (anF (fun x => zNo g w2 x) 8).toNat)), (3, .int (nI (k + 1))), (4, .int (nI a3))]) (fun a3 hi_a3 ih_a3 H locs ls hl => ?_) (0) (by omega) _ _ ls (⟨by rw [pe_fl_0]; exact hP, hS, lv_sub hl [1, 2, 3, 4, 0] rfl⟩)
              obtain ⟨hP, hS, hl⟩ := hl
              refine lv_iload hx hb dX0_divide_123 (lv_at hl 4 rfl) ?_
              refine lv_bipush (v := nI 8) hx hb dX0_divide_125 (by decide +kernel) ?_
              refine pe_icmp_ge hx hb 150 dX0_divide_127 (by decide) (by omega) (by omega) (fun c127 => ?_) (fun c127 => ?_)
              · obtain rfl : a3 = 8 := by omega
                refine lv_aload_n hx hb dX0_divide_150 rfl (lv_at hl 0 rfl) ?_
                refine lv_iload_n hx hb dX0_divide_151 rfl (lv_at hl 2 rfl) ?_
                refine pe_join 163 (.int (nI (zL (if bl then lx else nx) (k + 1)))) [.ref (ad 0)] (fun K163 => ?_) ?_
                · refine pe_ifeqB hx hb 159 dX0_divide_152 (by decide) (fun c152 => ?_) (fun c152 => ?_)
                  · refine lv_aload_n hx hb dX0_divide_159 rfl (lv_at hl 0 rfl) ?_
                    refine va_get (D := G) (ci := 0) (v := .int (nI (zL (if bl then lx else nx) k))) (C := RX0) (T := TX0) (N := 7) hx hb hts in_X0 hown hK hP 0 rfl rfl 5 (by decide) (hts _ q47) (fun _ h9 => h9) rfl dX0_divide_160 ?_
                    exact pe_top (zL_f (by rw [← z_mv hg hw2]; exact c152)) K163
                  · refine lv_iload_n hx hb dX0_divide_155 rfl (lv_at hl 3 rfl) ?_
                    refine lv_goto (tgt := 163) hx hb dX0_divide_156 (by decide) ?_
                    exact pe_top (zL_t (by rw [← z_mv hg hw2]; exact c152)) K163
                · refine va_put (D := G) (ci := 0) (v := .int (nI (zL (if bl then lx else nx) (k + 1)))) (ty := .int) (C := RX0) (T := TX0) (N := 7) hx hb hts in_X0 tyX0 tyX0_ok nmX0 hown hK hP (hA.D _ _ _ _ _ _ _ _ _) hS 0 rfl rfl 5 (by decide) (hts _ q47) (fun _ h9 => h9) rfl (by decide +kernel) rfl rfl (Nat.le_of_ble_eq_true rfl) dX0_divide_163 (fun H locs hP _ hS => ?_)
                  have hP : va_P G vwCl (xW ad cS cB nx lx (pe_fl w2 8 g) w2 t2 (nI (zL (if bl then lx else nx) (k + 1))) ff) H := hP
                  refine pe_inc (k := 3) (a := (k + 1)) (lv' := [(3, .int (nI (k + 1 + 1))), (0, .ref (ad 0)), (1, .int (nI bl.toNat)), (2, .int (nI (anF (fun x => zNo g w2 x) 8).toNat)), (4, .int (nI 8))]) hx hb dX0_divide_166 hl rfl (by decide) rfl (fun ls hl => ?_)
                  refine lv_goto (tgt := 51) hx hb dX0_divide_169 (by decide) ?_
                  exact ih_k (by omega) _ _ ls (⟨_, _, _, anF (fun x => zNo g w2 x) 8, hP, hS, lv_sub hl [1, 2, 3, 0] rfl, ⟨fun j hj => by rw [pe_fl_lt _ _ hj]; exact hw2 j hj, fun j hj => by rw [ht2 j hj, if_pos (by omega)], fun h => Or.inr ⟨k, rfl, by rw [← z_mv hg hw2]; exact h⟩⟩⟩)
              · refine lv_aload_n hx hb dX0_divide_130 rfl (lv_at hl 0 rfl) ?_
                refine va_get (D := G) (ci := 0) (v := .ref (ad 3)) (C := RX0) (T := TX0) (N := 7) hx hb hts in_X0 hown hK hP 0 rfl rfl 2 (by decide) (hts _ q44) (fun _ h9 => h9) rfl dX0_divide_131 ?_
                refine lv_iload hx hb dX0_divide_134 (lv_at hl 4 rfl) ?_
                refine lv_aload_n hx hb dX0_divide_136 rfl (lv_at hl 0 rfl) ?_
                refine va_get (D := G) (ci := 0) (v := .ref (ad 4)) (C := RX0) (T := TX0) (N := 7) hx hb hts in_X0 hown hK hP 0 rfl rfl 3 (by decide) (hts _ q45) (fun _ h9 => h9) rfl dX0_divide_137 ?_
                refine lv_iload hx hb dX0_divide_140 (lv_at hl 4 rfl) ?_
                refine pe_bald hx hb hK hP 4 1 rfl rfl dX0_divide_142 a3 (rfl) (by omega) (by decide) (v := (nI (w2 a3))) rfl ?_
                refine pe_bast hx hb hK hP (hA.D _ _ _ _ _ _ _ _ _) hS 3 1 rfl rfl dX0_divide_143 a3 (rfl) (by omega) (by decide) (pe_n8 (Nat.lt_trans (hww a3 (by omega)) (by decide))) (f' := fun j_ => nI ((va_up (pe_fl w2 a3 g) a3 (w2 a3)) j_)) (pe_up _ _ _) (fun H locs hP hS => ?_)
                have hP : va_P G vwCl (xW ad cS cB nx lx (va_up (pe_fl w2 a3 g) a3 (w2 a3)) w2 t2 (nI (zL (if bl then lx else nx) k)) ff) H := hP
                refine pe_inc (k := 4) (a := a3) (lv' := [(4, .int (nI (a3 + 1))), (0, .ref (ad 0)), (1, .int (nI bl.toNat)), (2, .int (nI (anF (fun x => zNo g w2 x) 8).toNat)), (3, .int (nI (k + 1)))]) hx hb dX0_divide_144 hl rfl (by decide) rfl (fun ls hl => ?_)
                refine lv_goto (tgt := 123) hx hb dX0_divide_147 (by decide) ?_
                exact ih_a3 (by omega) _ _ ls (⟨by rw [← pe_fl_up]; exact hP, hS, lv_sub hl [1, 2, 3, 4, 0] rfl⟩)
            · refine lv_iload_n hx hb dX0_divide_104 rfl (lv_at hl 2 rfl) ?_
              refine lv_aload_n hx hb dX0_divide_105 rfl (lv_at hl 0 rfl) ?_
              refine lv_iload hx hb dX0_divide_106 (lv_at hl 4 rfl) ?_
              refine lv_iload_n hx hb dX0_divide_108 rfl (lv_at hl 3 rfl) ?_
              refine pe_cW (n := 2) (rest := [.int (nI (anF (fun x => zNo g w2 x) (a2)).toNat)]) S hK hP (m_X0_note l G ad cS cB nx lx g w2 t2 (nI (zL (if bl then lx else nx) k)) ff A hA a2 (k + 1) (by omega) (by omega) hgg hww) (ci := 0) rfl rfl rfl q126 q128 qs7 q32 q129 ⟨rfl, hd_X0_note⟩ rfl ⟨rfl, rfl⟩ ⟨Nat.le_of_ble_eq_true rfl, Nat.le_of_ble_eq_true rfl⟩ ⟨Nat.le_of_ble_eq_true rfl, Nat.le_of_ble_eq_true rfl⟩ hl.1 rfl (Nat.le_of_ble_eq_true rfl) dX0_divide_109 hS (fun _ h => h) (fun r H locs hr_ hk_ hS => ?_)
              obtain ⟨rfl, hP⟩ := hr_
              refine pe_iorB hx hb dX0_divide_112 ?_
              refine lv_istore_n (lv' := [(2, .int (nI ((anF (fun x => zNo g w2 x) (a2)) || (zNo g w2 a2)).toNat)), (0, .ref (ad 0)), (1, .int (nI bl.toNat)), (3, .int (nI (k + 1))), (4, .int (nI a2))]) hx hb dX0_divide_113 rfl hl (by decide) rfl (fun ls hl => ?_)
              refine pe_inc (k := 4) (a := a2) (lv' := [(4, .int (nI (a2 + 1))), (2, .int (nI ((anF (fun x => zNo g w2 x) (a2)) || (zNo g w2 a2)).toNat)), (0, .ref (ad 0)), (1, .int (nI bl.toNat)), (3, .int (nI (k + 1)))]) hx hb dX0_divide_114 hl rfl (by decide) rfl (fun ls hl => ?_)
              refine lv_goto (tgt := 97) hx hb dX0_divide_117 (by decide) ?_
              exact ih_a2 (by omega) _ _ ls (⟨_, hP, hS, lv_sub hl [2, 3, 1, 4, 0] rfl, z_note (by omega) hg hw2 ht2⟩)
          · refine lv_aload_n hx hb dX0_divide_73 rfl (lv_at hl 0 rfl) ?_
            refine va_get (D := G) (ci := 0) (v := .ref (ad 4)) (C := RX0) (T := TX0) (N := 7) hx hb hts in_X0 hown hK hP 0 rfl rfl 3 (by decide) (hts _ q45) (fun _ h9 => h9) rfl dX0_divide_74 ?_
            refine lv_iload hx hb dX0_divide_77 (lv_at hl 4 rfl) ?_
            refine lv_aload_n hx hb dX0_divide_79 rfl (lv_at hl 0 rfl) ?_
            refine lv_iload_n hx hb dX0_divide_80 rfl (lv_at hl 1 rfl) ?_
            refine lv_iload hx hb dX0_divide_81 (lv_at hl 4 rfl) ?_
            refine pe_cV (n := 2) (rest := [.int (nI a), .ref (ad 4)]) S hK hP (m_X0_placeFor l G ad cS cB nx lx g w2 t (nI (zL (if bl then lx else nx) k)) ff bl a (by omega) hgg hww) (ci := 0) rfl rfl rfl q110 q112 qs3 q32 q113 ⟨rfl, hd_X0_placeFor⟩ rfl ⟨rfl, rfl⟩ ⟨Nat.le_of_ble_eq_true rfl, Nat.le_of_ble_eq_true rfl⟩ ⟨Nat.le_of_ble_eq_true rfl, Nat.le_of_ble_eq_true rfl⟩ hl.1 rfl (Nat.le_of_ble_eq_true rfl) dX0_divide_83 (fun r hr_ => ?_)
            subst hr_
            refine pe_top (show nI (zPf (if bl then lx else nx) g w2 a) = nI (zG (if bl then lx else nx) (k + 1) a) by rw [zPf_eq (by omega) hg hw2]) ?_
            refine pe_i2b hx hb (Nat.lt_trans (zG_lt (by omega)) (by decide)) dX0_divide_86 ?_
            refine pe_bast hx hb hK hP (hA.D _ _ _ _ _ _ _ _ _) hS 4 1 rfl rfl dX0_divide_87 a (rfl) (by omega) (by decide) (pe_n8 (Nat.lt_trans (zG_lt (by omega)) (by decide))) (f' := fun j_ => nI ((va_up w2 a (zG (if bl then lx else nx) (k + 1) a)) j_)) (pe_up _ _ _) (fun H locs hP hS => ?_)
            have hP : va_P G vwCl (xW ad cS cB nx lx g (va_up w2 a (zG (if bl then lx else nx) (k + 1) a)) t (nI (zL (if bl then lx else nx) k)) ff) H := hP
            refine pe_inc (k := 4) (a := a) (lv' := [(4, .int (nI (a + 1))), (0, .ref (ad 0)), (1, .int (nI bl.toNat)), (2, .int (nI 0)), (3, .int (nI (k + 1)))]) hx hb dX0_divide_88 hl rfl (by decide) rfl (fun ls hl => ?_)
            refine lv_goto (tgt := 66) hx hb dX0_divide_91 (by decide) ?_
            exact ih_a (by omega) _ _ ls (⟨_, hP, hS, lv_sub hl [1, 2, 3, 4, 0] rfl, z_up_fill hw2⟩)
    · refine lv_aload_n hx hb dX0_divide_29 rfl (lv_at hl 0 rfl) ?_
      refine va_get (D := G) (ci := 0) (v := .ref (ad 3)) (C := RX0) (T := TX0) (N := 7) hx hb hts in_X0 hown hK hP 0 rfl rfl 2 (by decide) (hts _ q44) (fun _ h9 => h9) rfl dX0_divide_30 ?_
      refine lv_iload_n hx hb dX0_divide_33 rfl (lv_at hl 2 rfl) ?_
      refine lv_iconst (v := nI 0) hx hb dX0_divide_34 (by decide +kernel) ?_
      refine pe_bast hx hb hK hP (hA.D _ _ _ _ _ _ _ _ _) hS 3 1 rfl rfl dX0_divide_35 i2 (rfl) (by omega) (by decide) (pe_n8 (by omega)) (f' := fun j_ => nI ((va_up (pe_fl (fun _ => 0) i2 gg) i2 0) j_)) (pe_up _ _ _) (fun H locs hP hS => ?_)
      have hP : va_P G vwCl (xW ad cS cB nx lx (va_up (pe_fl (fun _ => 0) i2 gg) i2 0) ww (pe_fl (fun _ => -1) 64 tt) lr ff) H := hP
      refine pe_inc (k := 2) (a := i2) (lv' := [(2, .int (nI (i2 + 1))), (0, .ref (ad 0)), (1, .int (nI bl.toNat))]) hx hb dX0_divide_36 hl rfl (by decide) rfl (fun ls hl => ?_)
      refine lv_goto (tgt := 23) hx hb dX0_divide_39 (by decide) ?_
      exact ih_i2 (by omega) _ _ ls (⟨by rw [← pe_fl_up]; exact hP, hS, lv_sub hl [1, 2, 0] rfl⟩)
  · refine lv_aload_n hx hb dX0_divide_8 rfl (lv_at hl 0 rfl) ?_
    refine va_get (D := G) (ci := 0) (v := .ref (ad 5)) (C := RX0) (T := TX0) (N := 7) hx hb hts in_X0 hown hK hP 0 rfl rfl 4 (by decide) (hts _ q46) (fun _ h9 => h9) rfl dX0_divide_9 ?_
    refine lv_iload_n hx hb dX0_divide_12 rfl (lv_at hl 2 rfl) ?_
    refine lv_iconst (v := -1) hx hb dX0_divide_13 (by decide +kernel) ?_
    refine pe_bast hx hb hK hP (hA.D _ _ _ _ _ _ _ _ _) hS 5 1 rfl rfl dX0_divide_14 i (rfl) (by omega) (by decide) (pe_n8m) (f' := va_up (pe_fl (fun _ => -1) i tt) i (-1)) (rfl) (fun H locs hP hS => ?_)
    have hP : va_P G vwCl (xW ad cS cB nx lx gg ww (va_up (pe_fl (fun _ => -1) i tt) i (-1)) lr ff) H := hP
    refine pe_inc (k := 2) (a := i) (lv' := [(2, .int (nI (i + 1))), (0, .ref (ad 0)), (1, .int (nI bl.toNat))]) hx hb dX0_divide_15 hl rfl (by decide) rfl (fun ls hl => ?_)
    refine lv_goto (tgt := 2) hx hb dX0_divide_18 (by decide) ?_
    exact ih_i (by omega) _ _ ls (⟨by rw [← pe_fl_up]; exact hP, hS, lv_sub hl [1, 2, 0] rfl⟩)
theorem hd_X0_cutFollowers : yX0_cutFollowers.cls ≠ "java/lang/invoke/MethodHandle" ∧ yX0_cutFollowers.cls ≠ "java/lang/invoke/VarHandle" ∧ (parseMethodDescriptor yX0_cutFollowers.desc).map (fun d => d.parameters.length) = some 0 := by decide +kernel
set_option maxHeartbeats 4000000 in
theorem m_X0_cutFollowers (l : Launch) (G : va_G) (ad : Nat → Nat) (cS cB : ClassId) (nx lx gg ww : Nat → Nat) (tt : Nat → Int32) (lr : Int32) (ff : Nat → Nat) (A : Nat → Prop) (hA : xD A ad) (hnx : ∀ j, j < 24 → nx j < 256) : Met l yX0_cutFollowers (ws_ yX0_cutFollowers cX0_cutFollowers 5 none) ({ frames := 3, cells := 0, slots := 0, locals := 68 }) (va_Pc [.ref (ad 0)] (pB G vwCl (xW ad cS cB nx lx gg ww tt lr ff) (xT cS cB))) (pQ A (fun v H => v = none ∧ ∃ f, va_P G vwCl (xW ad cS cB nx lx gg ww tt lr f) H ∧ (∀ j, j < 8 → f j < 256) ∧ ∀ c, c < 64 → zTb f c = zFo nx (c / 8) (c % 8))) 0 0 A := by
  refine pe_start (by decide) (Nat.le_of_ble_eq_true rfl) ?_
  intro p e s m below meth c hx hb hr hml hown hts hlocks hB ls hl
  have hown : s.vm.findClass RX0 = some m.cls := hown
  have S : CallFix p m c cX0_cutFollowers 5 s _ lw_all RX0 := ⟨hx, hb, hml, hown, hts⟩
  have hP := hB.1
  have hK := hB.2
  have hS : va_S A s.heap s.heap [] := va_S.rf
  have hl : lv_has ls 5 [(0, .ref (ad 0))] := hl
  refine lv_iconst (v := nI 0) hx hb dX0_cutFollowers_0 (by decide +kernel) ?_
  refine lv_istore_n (lv' := [(1, .int (nI 0)), (0, .ref (ad 0))]) hx hb dX0_cutFollowers_1 rfl hl (by decide) rfl (fun ls hl => ?_)
  refine pe_loop (8) 2 (fun i H locs ls => va_P G vwCl (xW ad cS cB nx lx gg ww tt lr (pe_fl (fun _ => 255) i ff)) H ∧ va_S A s.heap H locs ∧ lv_has ls 5 [(0, .ref (ad 0)), (1, .int (nI i))]) (fun i hi_i ih_i H locs ls hl => ?_) (0) (by omega) _ _ ls (⟨by rw [pe_fl_0]; exact hP, hS, lv_sub hl [1, 0] rfl⟩)
  obtain ⟨hP, hS, hl⟩ := hl
  refine lv_iload_n hx hb dX0_cutFollowers_2 rfl (lv_at hl 1 rfl) ?_
  refine lv_bipush (v := nI 8) hx hb dX0_cutFollowers_3 (by decide +kernel) ?_
  refine pe_icmp_ge hx hb 23 dX0_cutFollowers_5 (by decide) (by omega) (by omega) (fun c5 => ?_) (fun c5 => ?_)
  · obtain rfl : i = 8 := by omega
    refine lv_iconst (v := nI 1) hx hb dX0_cutFollowers_23 (by decide +kernel) ?_
    refine lv_istore_n (lv' := [(1, .int (nI 1)), (0, .ref (ad 0))]) hx hb dX0_cutFollowers_24 rfl hl (by decide) rfl (fun ls hl => ?_)
    refine lv_iconst (v := nI 0) hx hb dX0_cutFollowers_25 (by decide +kernel) ?_
    refine lv_istore_n (lv' := [(2, .int (nI 0)), (1, .int (nI 1)), (0, .ref (ad 0))]) hx hb dX0_cutFollowers_26 rfl hl (by decide) rfl (fun ls hl => ?_)
    refine pe_loop (65) 27 (fun r H locs ls => ∃ (f : Nat → Nat) (mo : Bool), va_P G vwCl (xW ad cS cB nx lx gg ww tt lr f) H ∧ va_S A s.heap H locs ∧ lv_has ls 5 [(0, .ref (ad 0)), (1, .int (nI mo.toNat)), (2, .int (nI r))] ∧ (∀ j, j < 8 → f j < 256) ∧ zSup nx (zTb f) ∧ (mo = true → zMu (zTb f) + r ≤ 64) ∧ (mo = false → zFix nx (zTb f))) (fun r hi_r ih_r H locs ls hl => ?_) (0) (by omega) _ _ ls (⟨_, true, hP, hS, lv_sub hl [2, 1, 0] rfl, z_cf0⟩)
    obtain ⟨f, mo, hP, hS, hl, hf, hsu, hmu, hfx⟩ := hl
    refine lv_iload_n hx hb dX0_cutFollowers_27 rfl (lv_at hl 2 rfl) ?_
    refine lv_bipush (v := nI 65) hx hb dX0_cutFollowers_28 (by decide +kernel) ?_
    refine pe_icmp_ge hx hb 101 dX0_cutFollowers_30 (by decide) (by omega) (by omega) (fun c30 => ?_) (fun c30 => ?_)
    · exact pe_vret hx hb hr hlocks hS dX0_cutFollowers_101 (⟨rfl, f, hP, hf, z_cfix hmu hfx hsu (Or.inr c30)⟩)
    · refine lv_iload_n hx hb dX0_cutFollowers_33 rfl (lv_at hl 1 rfl) ?_
      refine pe_ifeqB hx hb 101 dX0_cutFollowers_34 (by decide) (fun c34 => ?_) (fun c34 => ?_)
      · exact pe_vret hx hb hr hlocks hS dX0_cutFollowers_101 (⟨rfl, f, hP, hf, z_cfix hmu hfx hsu (Or.inl c34)⟩)
      · refine lv_iconst (v := nI 0) hx hb dX0_cutFollowers_37 (by decide +kernel) ?_
        refine lv_istore_n (lv' := [(1, .int (nI 0)), (0, .ref (ad 0)), (2, .int (nI r))]) hx hb dX0_cutFollowers_38 rfl hl (by decide) rfl (fun ls hl => ?_)
        refine lv_iconst (v := nI 0) hx hb dX0_cutFollowers_39 (by decide +kernel) ?_
        refine lv_istore_n (lv' := [(3, .int (nI 0)), (1, .int (nI 0)), (0, .ref (ad 0)), (2, .int (nI r))]) hx hb dX0_cutFollowers_40 rfl hl (by decide) rfl (fun ls hl => ?_)
        refine pe_loop (8) 41 (fun a H locs ls => ∃ (f2 : Nat → Nat) (mo2 : Bool), va_P G vwCl (xW ad cS cB nx lx gg ww tt lr f2) H ∧ va_S A s.heap H locs ∧ lv_has ls 5 [(0, .ref (ad 0)), (1, .int (nI mo2.toNat)), (2, .int (nI r)), (3, .int (nI a))] ∧ (∀ j, j < 8 → f2 j < 256) ∧ zPs nx (zTb f) (zTb f2) mo2 (fun j => j % 8 < a)) (fun a hi_a ih_a H locs ls hl => ?_) (0) (by omega) _ _ ls (⟨_, false, hP, hS, lv_sub hl [2, 1, 3, 0] rfl, ⟨hf, zPs_0 hsu (fun j _ => Nat.not_lt_zero _)⟩⟩)
        obtain ⟨f2, mo2, hP, hS, hl, hf2, hps⟩ := hl
        refine lv_iload_n hx hb dX0_cutFollowers_41 rfl (lv_at hl 3 rfl) ?_
        refine lv_bipush (v := nI 8) hx hb dX0_cutFollowers_42 (by decide +kernel) ?_
        refine pe_icmp_ge hx hb 95 dX0_cutFollowers_44 (by decide) (by omega) (by omega) (fun c44 => ?_) (fun c44 => ?_)
        · obtain rfl : a = 8 := by omega
          refine pe_inc (k := 2) (a := r) (lv' := [(2, .int (nI (r + 1))), (0, .ref (ad 0)), (1, .int (nI mo2.toNat)), (3, .int (nI 8))]) hx hb dX0_cutFollowers_95 hl rfl (by decide) rfl (fun ls hl => ?_)
          refine lv_goto (tgt := 27) hx hb dX0_cutFollowers_98 (by decide) ?_
          exact ih_r (by omega) _ _ ls (⟨f2, mo2, hP, hS, lv_sub hl [1, 2, 0] rfl, ⟨hf2, hps.1, fun h => by have h1 := hps.2.2.1 h; have h2 := hmu c34; omega, fun h => zPs_end (D := fun j => j % 8 < 8) (fun j _ => by omega) (by rw [h] at hps; exact hps)⟩⟩)
        · refine lv_aload_n hx hb dX0_cutFollowers_47 rfl (lv_at hl 0 rfl) ?_
          refine va_get (D := G) (ci := 0) (v := .ref (ad 6)) (C := RX0) (T := TX0) (N := 7) hx hb hts in_X0 hown hK hP 0 rfl rfl 6 (by decide) (hts _ q48) (fun _ h9 => h9) rfl dX0_cutFollowers_48 ?_
          refine lv_iload_n hx hb dX0_cutFollowers_51 rfl (lv_at hl 3 rfl) ?_
          refine pe_sald hx hb hK hP 6 0 rfl rfl dX0_cutFollowers_52 a (rfl) (by omega) (by decide) (v := (nI (f2 a))) rfl ?_
          refine lv_aload_n hx hb dX0_cutFollowers_53 rfl (lv_at hl 0 rfl) ?_
          refine lv_iload_n hx hb dX0_cutFollowers_54 rfl (lv_at hl 3 rfl) ?_
          refine pe_cV (n := 1) (rest := [.int (nI (f2 a))]) S hK hP (m_X0_allowed l G ad cS cB nx lx gg ww tt lr f2 a (by omega) hnx) (ci := 0) rfl rfl rfl q178 q180 qs13 q32 q181 ⟨rfl, hd_X0_allowed⟩ rfl ⟨rfl, rfl⟩ ⟨Nat.le_of_ble_eq_true rfl, Nat.le_of_ble_eq_true rfl⟩ ⟨Nat.le_of_ble_eq_true rfl, Nat.le_of_ble_eq_true rfl⟩ hl.1 rfl (Nat.le_of_ble_eq_true rfl) dX0_cutFollowers_55 (fun r hr_ => ?_)
          subst hr_
          refine pe_iand hx hb dX0_cutFollowers_58 ?_
          refine lv_istore (lv' := [(4, .int (nI ((f2 a) &&& (zAl nx f2 a 3)))), (0, .ref (ad 0)), (1, .int (nI mo2.toNat)), (2, .int (nI r)), (3, .int (nI a))]) hx hb dX0_cutFollowers_59 hl (by decide) rfl (fun ls hl => ?_)
          refine lv_iload_n hx hb dX0_cutFollowers_61 rfl (lv_at hl 2 rfl) ?_
          refine lv_iload hx hb dX0_cutFollowers_62 (lv_at hl 0 rfl) ?_
          refine lv_aload_n hx hb dX0_cutFollowers_64 rfl (lv_at hl 1 rfl) ?_
          refine va_get (D := G) (ci := 0) (v := .ref (ad 6)) (C := RX0) (T := TX0) (N := 7) hx hb hts in_X0 hown hK hP 0 rfl rfl 6 (by decide) (hts _ q48) (fun _ h9 => h9) rfl dX0_cutFollowers_65 ?_
          refine lv_iload_n hx hb dX0_cutFollowers_68 rfl (lv_at hl 4 rfl) ?_
          refine pe_sald hx hb hK hP 6 0 rfl rfl dX0_cutFollowers_69 a (rfl) (by omega) (by decide) (v := (nI (f2 a))) rfl ?_
          refine pe_join 78 (.int (nI (!decide ((f2 a &&& zAl nx f2 a 3) = f2 a)).toNat)) [.int (nI mo2.toNat)] (fun K78 => ?_) ?_
          · refine pe_icmp_eq hx hb 77 dX0_cutFollowers_70 (by decide) (z_lt31 (z_and (hf2 a (by omega)))) (z_lt31 (hf2 a (by omega))) (fun c70 => ?_) (fun c70 => ?_)
            · refine lv_iconst (v := nI 0) hx hb dX0_cutFollowers_77 (by decide +kernel) ?_
              exact pe_top (by rw [decide_eq_true c70]; rfl) K78
            · refine lv_iconst (v := nI 1) hx hb dX0_cutFollowers_73 (by decide +kernel) ?_
              refine lv_goto (tgt := 78) hx hb dX0_cutFollowers_74 (by decide) ?_
              exact pe_top (by rw [decide_eq_false c70]; rfl) K78
          · refine pe_iorB hx hb dX0_cutFollowers_78 ?_
            refine lv_istore_n (lv' := [(1, .int (nI (mo2 || (!decide ((f2 a &&& zAl nx f2 a 3) = f2 a))).toNat)), (4, .int (nI ((f2 a) &&& (zAl nx f2 a 3)))), (0, .ref (ad 0)), (2, .int (nI r)), (3, .int (nI a))]) hx hb dX0_cutFollowers_79 rfl hl (by decide) rfl (fun ls hl => ?_)
            refine lv_aload_n hx hb dX0_cutFollowers_80 rfl (lv_at hl 2 rfl) ?_
            refine va_get (D := G) (ci := 0) (v := .ref (ad 6)) (C := RX0) (T := TX0) (N := 7) hx hb hts in_X0 hown hK hP 0 rfl rfl 6 (by decide) (hts _ q48) (fun _ h9 => h9) rfl dX0_cutFollowers_81 ?_
            refine lv_iload_n hx hb dX0_cutFollowers_84 rfl (lv_at hl 4 rfl) ?_
            refine lv_iload hx hb dX0_cutFollowers_85 (lv_at hl 1 rfl) ?_
            refine pe_i2s hx hb (z_lt15 (z_and (hf2 a (by omega)))) dX0_cutFollowers_87 ?_
            refine pe_sast hx hb hK hP (hA.D _ _ _ _ _ _ _ _ _) hS 6 0 rfl rfl dX0_cutFollowers_88 a (rfl) (by omega) (by decide) (pe_n16 (z_lt15 (z_and (hf2 a (by omega))))) (f' := fun j_ => nI ((va_up f2 a ((f2 a) &&& (zAl nx f2 a 3))) j_)) (pe_up _ _ _) (fun H locs hP hS => ?_)
            have hP : va_P G vwCl (xW ad cS cB nx lx gg ww tt lr (va_up f2 a ((f2 a) &&& (zAl nx f2 a 3)))) H := hP
            refine pe_inc (k := 4) (a := a) (lv' := [(3, .int (nI (a + 1))), (1, .int (nI (mo2 || (!decide ((f2 a &&& zAl nx f2 a 3) = f2 a))).toNat)), (4, .int (nI ((f2 a) &&& (zAl nx f2 a 3)))), (0, .ref (ad 0)), (2, .int (nI r))]) hx hb dX0_cutFollowers_89 hl rfl (by decide) rfl (fun ls hl => ?_)
            refine lv_goto (tgt := 41) hx hb dX0_cutFollowers_92 (by decide) ?_
            exact ih_a (by omega) _ _ ls (⟨_, _, hP, hS, lv_sub hl [3, 1, 4, 0] rfl, ⟨z_up_b hf2 (z_and (hf2 a (by omega))), zPs_x hnx (by omega) (hf2 a (by omega)) hps⟩⟩)
  · refine lv_aload_n hx hb dX0_cutFollowers_8 rfl (lv_at hl 0 rfl) ?_
    refine va_get (D := G) (ci := 0) (v := .ref (ad 6)) (C := RX0) (T := TX0) (N := 7) hx hb hts in_X0 hown hK hP 0 rfl rfl 6 (by decide) (hts _ q48) (fun _ h9 => h9) rfl dX0_cutFollowers_9 ?_
    refine lv_iload_n hx hb dX0_cutFollowers_12 rfl (lv_at hl 1 rfl) ?_
    refine lv_sipush (v := nI 255) hx hb dX0_cutFollowers_13 (by decide +kernel) ?_
    refine pe_sast hx hb hK hP (hA.D _ _ _ _ _ _ _ _ _) hS 6 0 rfl rfl dX0_cutFollowers_16 i (rfl) (by omega) (by decide) (pe_n16 (by omega)) (f' := fun j_ => nI ((va_up (pe_fl (fun _ => 255) i ff) i 255) j_)) (pe_up _ _ _) (fun H locs hP hS => ?_)
    have hP : va_P G vwCl (xW ad cS cB nx lx gg ww tt lr (va_up (pe_fl (fun _ => 255) i ff) i 255)) H := hP
    refine pe_inc (k := 1) (a := i) (lv' := [(1, .int (nI (i + 1))), (0, .ref (ad 0))]) hx hb dX0_cutFollowers_17 hl rfl (by decide) rfl (fun ls hl => ?_)
    refine lv_goto (tgt := 2) hx hb dX0_cutFollowers_20 (by decide) ?_
    exact ih_i (by omega) _ _ ls (⟨by rw [← pe_fl_up]; exact hP, hS, lv_sub hl [1, 0] rfl⟩)
theorem hd_X0_join : yX0_join.cls ≠ "java/lang/invoke/MethodHandle" ∧ yX0_join.cls ≠ "java/lang/invoke/VarHandle" ∧ (parseMethodDescriptor yX0_join.desc).map (fun d => d.parameters.length) = some 3 := by decide +kernel
set_option maxHeartbeats 4000000 in
theorem m_X0_join (l : Launch) (G : va_G) (ad : Nat → Nat) (cS cB : ClassId) (nx lx gg ww : Nat → Nat) (tt : Nat → Int32) (lr : Int32) (ff : Nat → Nat) (A : Nat → Prop) (hA : xD A ad) (x y z : Int32) (hnx : ∀ j, j < 24 → nx j < 256) : Met l yX0_join (ws_ yX0_join cX0_join 4 (some .boolean)) ({ frames := 2, cells := 0, slots := 0, locals := 44 }) (va_Pc [.ref (ad 0), .int x, .int y, .int z] (pB G vwCl (xW ad cS cB nx lx gg ww tt lr ff) (xT cS cB))) (pQ A (fun v H => v = some (.int (nI (zStep x y z).toNat)) ∧ xP G ad cS cB (zJoin nx x y z) H)) 0 0 A := by
  refine pe_start (by decide) (Nat.le_of_ble_eq_true rfl) ?_
  intro p e s m below meth c hx hb hr hml hown hts hlocks hB ls hl
  have hown : s.vm.findClass RX0 = some m.cls := hown
  have S : CallFix p m c cX0_join 4 s _ lw_all RX0 := ⟨hx, hb, hml, hown, hts⟩
  have hP := hB.1
  have hK := hB.2
  have hS : va_S A s.heap s.heap [] := va_S.rf
  have hl : lv_has ls 4 [(0, .ref (ad 0)), (1, .int x), (2, .int y), (3, .int z)] := hl
  refine lv_iload_n hx hb dX0_join_0 rfl (lv_at hl 1 rfl) ?_
  refine lv_iload_n hx hb dX0_join_1 rfl (lv_at hl 2 rfl) ?_
  refine lv_iload_n hx hb dX0_join_2 rfl (lv_at hl 3 rfl) ?_
  refine pe_cS (n := 3) (rest := []) S (m_X0_isStep l x y z) q70 q71 q32 q72 hd_X0_isStep rfl ⟨rfl, rfl⟩ ⟨Nat.le_of_ble_eq_true rfl, Nat.le_of_ble_eq_true rfl⟩ ⟨Nat.le_of_ble_eq_true rfl, Nat.le_of_ble_eq_true rfl⟩ hl.1 rfl (Nat.le_of_ble_eq_true rfl) dX0_join_3 (fun r hr_ => ?_)
  subst hr_
  refine pe_ifneB hx hb 11 dX0_join_6 (by decide) (fun c6 => ?_) (fun c6 => ?_)
  · obtain ⟨i, j, k, hi, hj, hk, rfl, rfl, rfl⟩ := zStep_of c6
    refine lv_aload_n hx hb dX0_join_11 rfl (lv_at hl 0 rfl) ?_
    refine lv_iload_n hx hb dX0_join_12 rfl (lv_at hl 1 rfl) ?_
    refine lv_iload_n hx hb dX0_join_13 rfl (lv_at hl 2 rfl) ?_
    refine lv_iload_n hx hb dX0_join_14 rfl (lv_at hl 3 rfl) ?_
    refine pe_cV (n := 3) (rest := []) S hK hP (m_X0_hasStep l G ad cS cB nx lx gg ww tt lr ff i j k (by omega) (by omega) (by omega)) (ci := 0) rfl rfl rfl q76 q78 qs0 q32 q79 ⟨rfl, hd_X0_hasStep⟩ rfl ⟨rfl, rfl⟩ ⟨Nat.le_of_ble_eq_true rfl, Nat.le_of_ble_eq_true rfl⟩ ⟨Nat.le_of_ble_eq_true rfl, Nat.le_of_ble_eq_true rfl⟩ hl.1 rfl (Nat.le_of_ble_eq_true rfl) dX0_join_15 (fun r hr_ => ?_)
    subst hr_
    refine pe_ifneB hx hb 28 dX0_join_18 (by decide) (fun c18 => ?_) (fun c18 => ?_)
    · refine lv_iconst (v := nI 1) hx hb dX0_join_28 (by decide +kernel) ?_
      exact pe_zret (b := true) hx hb hr hlocks hS dX0_join_29 (⟨by rw [zStep_nI hi hj hk], by rw [zJoin_nI hi hj hk, z_or_self c18, z_up_self]; exact ⟨_, _, _, _, _, _, hP⟩⟩)
    · refine lv_aload_n hx hb dX0_join_21 rfl (lv_at hl 0 rfl) ?_
      refine lv_iload_n hx hb dX0_join_22 rfl (lv_at hl 1 rfl) ?_
      refine lv_iload_n hx hb dX0_join_23 rfl (lv_at hl 2 rfl) ?_
      refine lv_iload_n hx hb dX0_join_24 rfl (lv_at hl 3 rfl) ?_
      refine pe_cW (n := 3) (rest := []) S hK hP (m_X0_turn l G ad cS cB nx lx gg ww tt lr ff A hA i j k (by omega) (by omega) (by omega) (hnx _ (by omega))) (ci := 0) rfl rfl rfl q83 q85 qs1 q32 q86 ⟨rfl, hd_X0_turn⟩ rfl ⟨rfl, rfl⟩ ⟨Nat.le_of_ble_eq_true rfl, Nat.le_of_ble_eq_true rfl⟩ ⟨Nat.le_of_ble_eq_true rfl, Nat.le_of_ble_eq_true rfl⟩ hl.1 rfl (Nat.le_of_ble_eq_true rfl) dX0_join_25 hS (fun _ h => h) (fun r H locs hr_ hk_ hS => ?_)
      obtain ⟨rfl, hP⟩ := hr_
      refine lv_iconst (v := nI 1) hx hb dX0_join_28 (by decide +kernel) ?_
      exact pe_zret (b := true) hx hb hr hlocks hS dX0_join_29 (⟨by rw [zStep_nI hi hj hk], by rw [zJoin_nI hi hj hk, ← z_or_xor c18]; exact ⟨_, _, _, _, _, _, hP⟩⟩)
  · refine lv_iconst (v := nI 0) hx hb dX0_join_9 (by decide +kernel) ?_
    exact pe_zret (b := false) hx hb hr hlocks hS dX0_join_10 (⟨by rw [c6], by rw [zJoin_f c6]; exact ⟨_, _, _, _, _, _, hP⟩⟩)
theorem hd_X0_cut : yX0_cut.cls ≠ "java/lang/invoke/MethodHandle" ∧ yX0_cut.cls ≠ "java/lang/invoke/VarHandle" ∧ (parseMethodDescriptor yX0_cut.desc).map (fun d => d.parameters.length) = some 3 := by decide +kernel
set_option maxHeartbeats 4000000 in
theorem m_X0_cut (l : Launch) (G : va_G) (ad : Nat → Nat) (cS cB : ClassId) (nx lx gg ww : Nat → Nat) (tt : Nat → Int32) (lr : Int32) (ff : Nat → Nat) (A : Nat → Prop) (hA : xD A ad) (x y z : Int32) (hnx : ∀ j, j < 24 → nx j < 256) : Met l yX0_cut (ws_ yX0_cut cX0_cut 4 (some .boolean)) ({ frames := 2, cells := 0, slots := 0, locals := 44 }) (va_Pc [.ref (ad 0), .int x, .int y, .int z] (pB G vwCl (xW ad cS cB nx lx gg ww tt lr ff) (xT cS cB))) (pQ A (fun v H => v = some (.int (nI (zHas nx x y z).toNat)) ∧ xP G ad cS cB (zCut nx x y z) H)) 0 0 A := by
  refine pe_start (by decide) (Nat.le_of_ble_eq_true rfl) ?_
  intro p e s m below meth c hx hb hr hml hown hts hlocks hB ls hl
  have hown : s.vm.findClass RX0 = some m.cls := hown
  have S : CallFix p m c cX0_cut 4 s _ lw_all RX0 := ⟨hx, hb, hml, hown, hts⟩
  have hP := hB.1
  have hK := hB.2
  have hS : va_S A s.heap s.heap [] := va_S.rf
  have hl : lv_has ls 4 [(0, .ref (ad 0)), (1, .int x), (2, .int y), (3, .int z)] := hl
  refine lv_iload_n hx hb dX0_cut_0 rfl (lv_at hl 1 rfl) ?_
  refine lv_iload_n hx hb dX0_cut_1 rfl (lv_at hl 2 rfl) ?_
  refine lv_iload_n hx hb dX0_cut_2 rfl (lv_at hl 3 rfl) ?_
  refine pe_cS (n := 3) (rest := []) S (m_X0_isStep l x y z) q70 q71 q32 q72 hd_X0_isStep rfl ⟨rfl, rfl⟩ ⟨Nat.le_of_ble_eq_true rfl, Nat.le_of_ble_eq_true rfl⟩ ⟨Nat.le_of_ble_eq_true rfl, Nat.le_of_ble_eq_true rfl⟩ hl.1 rfl (Nat.le_of_ble_eq_true rfl) dX0_cut_3 (fun r hr_ => ?_)
  subst hr_
  refine pe_ifeqB hx hb 19 dX0_cut_6 (by decide) (fun c6 => ?_) (fun c6 => ?_)
  · refine lv_iconst (v := nI 0) hx hb dX0_cut_19 (by decide +kernel) ?_
    exact pe_zret (b := false) hx hb hr hlocks hS dX0_cut_20 (⟨by rw [zHas_f c6], by rw [zCut_f (zHas_f c6)]; exact ⟨_, _, _, _, _, _, hP⟩⟩)
  · obtain ⟨i, j, k, hi, hj, hk, rfl, rfl, rfl⟩ := zStep_of c6
    refine lv_aload_n hx hb dX0_cut_9 rfl (lv_at hl 0 rfl) ?_
    refine lv_iload_n hx hb dX0_cut_10 rfl (lv_at hl 1 rfl) ?_
    refine lv_iload_n hx hb dX0_cut_11 rfl (lv_at hl 2 rfl) ?_
    refine lv_iload_n hx hb dX0_cut_12 rfl (lv_at hl 3 rfl) ?_
    refine pe_cV (n := 3) (rest := []) S hK hP (m_X0_hasStep l G ad cS cB nx lx gg ww tt lr ff i j k (by omega) (by omega) (by omega)) (ci := 0) rfl rfl rfl q76 q78 qs0 q32 q79 ⟨rfl, hd_X0_hasStep⟩ rfl ⟨rfl, rfl⟩ ⟨Nat.le_of_ble_eq_true rfl, Nat.le_of_ble_eq_true rfl⟩ ⟨Nat.le_of_ble_eq_true rfl, Nat.le_of_ble_eq_true rfl⟩ hl.1 rfl (Nat.le_of_ble_eq_true rfl) dX0_cut_13 (fun r hr_ => ?_)
    subst hr_
    refine pe_ifneB hx hb 21 dX0_cut_16 (by decide) (fun c16 => ?_) (fun c16 => ?_)
    · refine lv_aload_n hx hb dX0_cut_21 rfl (lv_at hl 0 rfl) ?_
      refine lv_iload_n hx hb dX0_cut_22 rfl (lv_at hl 1 rfl) ?_
      refine lv_iload_n hx hb dX0_cut_23 rfl (lv_at hl 2 rfl) ?_
      refine lv_iload_n hx hb dX0_cut_24 rfl (lv_at hl 3 rfl) ?_
      refine pe_cW (n := 3) (rest := []) S hK hP (m_X0_turn l G ad cS cB nx lx gg ww tt lr ff A hA i j k (by omega) (by omega) (by omega) (hnx _ (by omega))) (ci := 0) rfl rfl rfl q83 q85 qs1 q32 q86 ⟨rfl, hd_X0_turn⟩ rfl ⟨rfl, rfl⟩ ⟨Nat.le_of_ble_eq_true rfl, Nat.le_of_ble_eq_true rfl⟩ ⟨Nat.le_of_ble_eq_true rfl, Nat.le_of_ble_eq_true rfl⟩ hl.1 rfl (Nat.le_of_ble_eq_true rfl) dX0_cut_25 hS (fun _ h => h) (fun r H locs hr_ hk_ hS => ?_)
      obtain ⟨rfl, hP⟩ := hr_
      refine lv_iconst (v := nI 1) hx hb dX0_cut_28 (by decide +kernel) ?_
      exact pe_zret (b := true) hx hb hr hlocks hS dX0_cut_29 (⟨by rw [zHas_nI hi hj hk, c16], by rw [zCut_nI hi hj hk (by rw [zHas_nI hi hj hk]; exact c16)]; exact ⟨_, _, _, _, _, _, hP⟩⟩)
    · refine lv_iconst (v := nI 0) hx hb dX0_cut_19 (by decide +kernel) ?_
      exact pe_zret (b := false) hx hb hr hlocks hS dX0_cut_20 (⟨by rw [zHas_nI hi hj hk, c16], by rw [zCut_f (by rw [zHas_nI hi hj hk]; exact c16)]; exact ⟨_, _, _, _, _, _, hP⟩⟩)
theorem hd_X0_alike : yX0_alike.cls ≠ "java/lang/invoke/MethodHandle" ∧ yX0_alike.cls ≠ "java/lang/invoke/VarHandle" ∧ (parseMethodDescriptor yX0_alike.desc).map (fun d => d.parameters.length) = some 2 := by decide +kernel
set_option maxHeartbeats 4000000 in
theorem m_X0_alike (l : Launch) (G : va_G) (ad : Nat → Nat) (cS cB : ClassId) (nx lx gg ww : Nat → Nat) (tt : Nat → Int32) (lr : Int32) (ff : Nat → Nat) (A : Nat → Prop) (hA : xD A ad) (x y : Int32) : Met l yX0_alike (ws_ yX0_alike cX0_alike 3 (some .boolean)) ({ frames := 5, cells := 0, slots := 0, locals := 120 }) (va_Pc [.ref (ad 0), .int x, .int y] (pB G vwCl (xW ad cS cB nx lx gg ww tt lr ff) (xT cS cB))) (pQ A (fun v H => v = some (.int (nI (zAlk nx x y).toNat)) ∧ xP G ad cS cB nx H)) 0 0 A := by
  refine pe_start (by decide) (Nat.le_of_ble_eq_true rfl) ?_
  intro p e s m below meth c hx hb hr hml hown hts hlocks hB ls hl
  have hown : s.vm.findClass RX0 = some m.cls := hown
  have S : CallFix p m c cX0_alike 3 s _ lw_all RX0 := ⟨hx, hb, hml, hown, hts⟩
  have hP := hB.1
  have hK := hB.2
  have hS : va_S A s.heap s.heap [] := va_S.rf
  have hl : lv_has ls 3 [(0, .ref (ad 0)), (1, .int x), (2, .int y)] := hl
  refine lv_iload_n hx hb dX0_alike_0 rfl (lv_at hl 1 rfl) ?_
  refine pe_cS (n := 1) (rest := []) S (m_X0_isState l x) q73 q74 q32 q75 hd_X0_isState rfl ⟨rfl, rfl⟩ ⟨Nat.le_of_ble_eq_true rfl, Nat.le_of_ble_eq_true rfl⟩ ⟨Nat.le_of_ble_eq_true rfl, Nat.le_of_ble_eq_true rfl⟩ hl.1 rfl (Nat.le_of_ble_eq_true rfl) dX0_alike_1 (fun r hr_ => ?_)
  subst hr_
  refine pe_ifeqB hx hb 14 dX0_alike_4 (by decide) (fun c4 => ?_) (fun c4 => ?_)
  · refine lv_iconst (v := nI 0) hx hb dX0_alike_14 (by decide +kernel) ?_
    exact pe_zret (b := false) hx hb hr hlocks hS dX0_alike_15 (⟨by rw [zAlk_x c4], ⟨_, _, _, _, _, _, hP⟩⟩)
  · refine lv_iload_n hx hb dX0_alike_7 rfl (lv_at hl 2 rfl) ?_
    refine pe_cS (n := 1) (rest := []) S (m_X0_isState l y) q73 q74 q32 q75 hd_X0_isState rfl ⟨rfl, rfl⟩ ⟨Nat.le_of_ble_eq_true rfl, Nat.le_of_ble_eq_true rfl⟩ ⟨Nat.le_of_ble_eq_true rfl, Nat.le_of_ble_eq_true rfl⟩ hl.1 rfl (Nat.le_of_ble_eq_true rfl) dX0_alike_8 (fun r hr_ => ?_)
    subst hr_
    refine pe_ifneB hx hb 16 dX0_alike_11 (by decide) (fun c11 => ?_) (fun c11 => ?_)
    · obtain ⟨i, hi, rfl⟩ := zSt_of c4
      obtain ⟨j, hj, rfl⟩ := zSt_of c11
      refine lv_aload_n hx hb dX0_alike_16 rfl (lv_at hl 0 rfl) ?_
      refine lv_iconst (v := nI 0) hx hb dX0_alike_17 (by decide +kernel) ?_
      refine pe_cW (n := 1) (rest := []) S hK hP (m_X0_divide l G ad cS cB nx lx gg ww tt lr ff A hA false) (ci := 0) rfl rfl rfl q106 q108 qs2 q32 q109 ⟨rfl, hd_X0_divide⟩ rfl ⟨rfl, rfl⟩ ⟨Nat.le_of_ble_eq_true rfl, Nat.le_of_ble_eq_true rfl⟩ ⟨Nat.le_of_ble_eq_true rfl, Nat.le_of_ble_eq_true rfl⟩ hl.1 rfl (Nat.le_of_ble_eq_true rfl) dX0_alike_18 hS (fun _ h => h) (fun r H locs hr_ hk_ hS => ?_)
      obtain ⟨rfl, w_1, hP⟩ := hr_
      have hP : va_P G vwCl (xW ad cS cB nx lx (zG nx 8) w_1 (zT nx 8) (nI (zL nx 8)) ff) H := hP
      have hgg : ∀ j_, j_ < 8 → zG nx 8 j_ < 8 := fun j_ hj_ => zG_lt hj_
      refine lv_aload_n hx hb dX0_alike_21 rfl (lv_at hl 0 rfl) ?_
      refine va_get (D := G) (ci := 0) (v := .ref (ad 3)) (C := RX0) (T := TX0) (N := 7) hx hb hts in_X0 hown hK hP 0 rfl rfl 2 (by decide) (hts _ q44) (fun _ h9 => h9) rfl dX0_alike_22 ?_
      refine lv_iload_n hx hb dX0_alike_25 rfl (lv_at hl 1 rfl) ?_
      refine pe_bald hx hb hK hP 3 1 rfl rfl dX0_alike_26 i (rfl) (by omega) (by decide) (v := (nI ((zG nx 8) i))) rfl ?_
      refine lv_aload_n hx hb dX0_alike_27 rfl (lv_at hl 0 rfl) ?_
      refine va_get (D := G) (ci := 0) (v := .ref (ad 3)) (C := RX0) (T := TX0) (N := 7) hx hb hts in_X0 hown hK hP 0 rfl rfl 2 (by decide) (hts _ q44) (fun _ h9 => h9) rfl dX0_alike_28 ?_
      refine lv_iload_n hx hb dX0_alike_31 rfl (lv_at hl 2 rfl) ?_
      refine pe_bald hx hb hK hP 3 1 rfl rfl dX0_alike_32 j (rfl) (by omega) (by decide) (v := (nI ((zG nx 8) j))) rfl ?_
      refine pe_icmp_ne hx hb 40 dX0_alike_33 (by decide) (Nat.lt_trans (zG_lt hi) (by decide)) (Nat.lt_trans (zG_lt hj) (by decide)) (fun c33 => ?_) (fun c33 => ?_)
      · refine lv_iconst (v := nI 0) hx hb dX0_alike_40 (by decide +kernel) ?_
        exact pe_zret (b := false) hx hb hr hlocks hS dX0_alike_41 (⟨by rw [zAlk_nI hi hj, ← z_Gd, decide_eq_false c33], ⟨_, _, _, _, _, _, hP⟩⟩)
      · refine lv_iconst (v := nI 1) hx hb dX0_alike_36 (by decide +kernel) ?_
        refine lv_goto (tgt := 41) hx hb dX0_alike_37 (by decide) ?_
        exact pe_zret (b := true) hx hb hr hlocks hS dX0_alike_41 (⟨by rw [zAlk_nI hi hj, ← z_Gd, decide_eq_true c33], ⟨_, _, _, _, _, _, hP⟩⟩)
    · refine lv_iconst (v := nI 0) hx hb dX0_alike_14 (by decide +kernel) ?_
      exact pe_zret (b := false) hx hb hr hlocks hS dX0_alike_15 (⟨by rw [zAlk_y c11], ⟨_, _, _, _, _, _, hP⟩⟩)
theorem hd_X0_looselyAlike : yX0_looselyAlike.cls ≠ "java/lang/invoke/MethodHandle" ∧ yX0_looselyAlike.cls ≠ "java/lang/invoke/VarHandle" ∧ (parseMethodDescriptor yX0_looselyAlike.desc).map (fun d => d.parameters.length) = some 2 := by decide +kernel
set_option maxHeartbeats 4000000 in
theorem m_X0_looselyAlike (l : Launch) (G : va_G) (ad : Nat → Nat) (cS cB : ClassId) (nx lx gg ww : Nat → Nat) (tt : Nat → Int32) (lr : Int32) (ff : Nat → Nat) (A : Nat → Prop) (hA : xD A ad) (x y : Int32) (hnx : ∀ j, j < 24 → nx j < 256) : Met l yX0_looselyAlike (ws_ yX0_looselyAlike cX0_looselyAlike 3 (some .boolean)) ({ frames := 5, cells := 0, slots := 0, locals := 120 }) (va_Pc [.ref (ad 0), .int x, .int y] (pB G vwCl (xW ad cS cB nx lx gg ww tt lr ff) (xT cS cB))) (pQ A (fun v H => v = some (.int (nI (zAlk (zLg nx) x y).toNat)) ∧ xP G ad cS cB nx H)) 0 0 A := by
  refine pe_start (by decide) (Nat.le_of_ble_eq_true rfl) ?_
  intro p e s m below meth c hx hb hr hml hown hts hlocks hB ls hl
  have hown : s.vm.findClass RX0 = some m.cls := hown
  have S : CallFix p m c cX0_looselyAlike 3 s _ lw_all RX0 := ⟨hx, hb, hml, hown, hts⟩
  have hP := hB.1
  have hK := hB.2
  have hS : va_S A s.heap s.heap [] := va_S.rf
  have hl : lv_has ls 3 [(0, .ref (ad 0)), (1, .int x), (2, .int y)] := hl
  refine lv_iload_n hx hb dX0_looselyAlike_0 rfl (lv_at hl 1 rfl) ?_
  refine pe_cS (n := 1) (rest := []) S (m_X0_isState l x) q73 q74 q32 q75 hd_X0_isState rfl ⟨rfl, rfl⟩ ⟨Nat.le_of_ble_eq_true rfl, Nat.le_of_ble_eq_true rfl⟩ ⟨Nat.le_of_ble_eq_true rfl, Nat.le_of_ble_eq_true rfl⟩ hl.1 rfl (Nat.le_of_ble_eq_true rfl) dX0_looselyAlike_1 (fun r hr_ => ?_)
  subst hr_
  refine pe_ifeqB hx hb 14 dX0_looselyAlike_4 (by decide) (fun c4 => ?_) (fun c4 => ?_)
  · refine lv_iconst (v := nI 0) hx hb dX0_looselyAlike_14 (by decide +kernel) ?_
    exact pe_zret (b := false) hx hb hr hlocks hS dX0_looselyAlike_15 (⟨by rw [zAlk_x c4], ⟨_, _, _, _, _, _, hP⟩⟩)
  · refine lv_iload_n hx hb dX0_looselyAlike_7 rfl (lv_at hl 2 rfl) ?_
    refine pe_cS (n := 1) (rest := []) S (m_X0_isState l y) q73 q74 q32 q75 hd_X0_isState rfl ⟨rfl, rfl⟩ ⟨Nat.le_of_ble_eq_true rfl, Nat.le_of_ble_eq_true rfl⟩ ⟨Nat.le_of_ble_eq_true rfl, Nat.le_of_ble_eq_true rfl⟩ hl.1 rfl (Nat.le_of_ble_eq_true rfl) dX0_looselyAlike_8 (fun r hr_ => ?_)
    subst hr_
    refine pe_ifneB hx hb 16 dX0_looselyAlike_11 (by decide) (fun c11 => ?_) (fun c11 => ?_)
    · obtain ⟨i, hi, rfl⟩ := zSt_of c4
      obtain ⟨j, hj, rfl⟩ := zSt_of c11
      refine lv_aload_n hx hb dX0_looselyAlike_16 rfl (lv_at hl 0 rfl) ?_
      refine pe_cW (n := 0) (rest := []) S hK hP (m_X0_lengthen l G ad cS cB nx lx gg ww tt lr ff A hA hnx) (ci := 0) rfl rfl rfl q154 q156 qs9 q32 q157 ⟨rfl, hd_X0_lengthen⟩ rfl ⟨rfl, rfl⟩ ⟨Nat.le_of_ble_eq_true rfl, Nat.le_of_ble_eq_true rfl⟩ ⟨Nat.le_of_ble_eq_true rfl, Nat.le_of_ble_eq_true rfl⟩ hl.1 rfl (Nat.le_of_ble_eq_true rfl) dX0_looselyAlike_17 hS (fun _ h => h) (fun r H locs hr_ hk_ hS => ?_)
      obtain ⟨rfl, hP⟩ := hr_
      refine lv_aload_n hx hb dX0_looselyAlike_20 rfl (lv_at hl 0 rfl) ?_
      refine lv_iconst (v := nI 1) hx hb dX0_looselyAlike_21 (by decide +kernel) ?_
      refine pe_cW (n := 1) (rest := []) S hK hP (m_X0_divide l G ad cS cB nx (zLg nx) gg ww tt lr ff A hA true) (ci := 0) rfl rfl rfl q106 q108 qs2 q32 q109 ⟨rfl, hd_X0_divide⟩ rfl ⟨rfl, rfl⟩ ⟨Nat.le_of_ble_eq_true rfl, Nat.le_of_ble_eq_true rfl⟩ ⟨Nat.le_of_ble_eq_true rfl, Nat.le_of_ble_eq_true rfl⟩ hl.1 rfl (Nat.le_of_ble_eq_true rfl) dX0_looselyAlike_22 hS (fun _ h => h) (fun r H locs hr_ hk_ hS => ?_)
      obtain ⟨rfl, w_2, hP⟩ := hr_
      have hP : va_P G vwCl (xW ad cS cB nx (zLg nx) (zG (zLg nx) 8) w_2 (zT (zLg nx) 8) (nI (zL (zLg nx) 8)) ff) H := hP
      have hgg : ∀ j_, j_ < 8 → zG (zLg nx) 8 j_ < 8 := fun j_ hj_ => zG_lt hj_
      refine lv_aload_n hx hb dX0_looselyAlike_25 rfl (lv_at hl 0 rfl) ?_
      refine va_get (D := G) (ci := 0) (v := .ref (ad 3)) (C := RX0) (T := TX0) (N := 7) hx hb hts in_X0 hown hK hP 0 rfl rfl 2 (by decide) (hts _ q44) (fun _ h9 => h9) rfl dX0_looselyAlike_26 ?_
      refine lv_iload_n hx hb dX0_looselyAlike_29 rfl (lv_at hl 1 rfl) ?_
      refine pe_bald hx hb hK hP 3 1 rfl rfl dX0_looselyAlike_30 i (rfl) (by omega) (by decide) (v := (nI ((zG (zLg nx) 8) i))) rfl ?_
      refine lv_aload_n hx hb dX0_looselyAlike_31 rfl (lv_at hl 0 rfl) ?_
      refine va_get (D := G) (ci := 0) (v := .ref (ad 3)) (C := RX0) (T := TX0) (N := 7) hx hb hts in_X0 hown hK hP 0 rfl rfl 2 (by decide) (hts _ q44) (fun _ h9 => h9) rfl dX0_looselyAlike_32 ?_
      refine lv_iload_n hx hb dX0_looselyAlike_35 rfl (lv_at hl 2 rfl) ?_
      refine pe_bald hx hb hK hP 3 1 rfl rfl dX0_looselyAlike_36 j (rfl) (by omega) (by decide) (v := (nI ((zG (zLg nx) 8) j))) rfl ?_
      refine pe_icmp_ne hx hb 44 dX0_looselyAlike_37 (by decide) (Nat.lt_trans (zG_lt hi) (by decide)) (Nat.lt_trans (zG_lt hj) (by decide)) (fun c37 => ?_) (fun c37 => ?_)
      · refine lv_iconst (v := nI 0) hx hb dX0_looselyAlike_44 (by decide +kernel) ?_
        exact pe_zret (b := false) hx hb hr hlocks hS dX0_looselyAlike_45 (⟨by rw [zAlk_nI hi hj, ← z_Gd, decide_eq_false c37], ⟨_, _, _, _, _, _, hP⟩⟩)
      · refine lv_iconst (v := nI 1) hx hb dX0_looselyAlike_40 (by decide +kernel) ?_
        refine lv_goto (tgt := 45) hx hb dX0_looselyAlike_41 (by decide) ?_
        exact pe_zret (b := true) hx hb hr hlocks hS dX0_looselyAlike_45 (⟨by rw [zAlk_nI hi hj, ← z_Gd, decide_eq_true c37], ⟨_, _, _, _, _, _, hP⟩⟩)
    · refine lv_iconst (v := nI 0) hx hb dX0_looselyAlike_14 (by decide +kernel) ?_
      exact pe_zret (b := false) hx hb hr hlocks hS dX0_looselyAlike_15 (⟨by rw [zAlk_y c11], ⟨_, _, _, _, _, _, hP⟩⟩)
theorem hd_X0_group : yX0_group.cls ≠ "java/lang/invoke/MethodHandle" ∧ yX0_group.cls ≠ "java/lang/invoke/VarHandle" ∧ (parseMethodDescriptor yX0_group.desc).map (fun d => d.parameters.length) = some 1 := by decide +kernel
set_option maxHeartbeats 4000000 in
theorem m_X0_group (l : Launch) (G : va_G) (ad : Nat → Nat) (cS cB : ClassId) (nx lx gg ww : Nat → Nat) (tt : Nat → Int32) (lr : Int32) (ff : Nat → Nat) (A : Nat → Prop) (hA : xD A ad) (x : Int32) : Met l yX0_group (ws_ yX0_group cX0_group 4 (some .int)) ({ frames := 5, cells := 0, slots := 0, locals := 120 }) (va_Pc [.ref (ad 0), .int x] (pB G vwCl (xW ad cS cB nx lx gg ww tt lr ff) (xT cS cB))) (pQ A (fun v H => v = some (.int (nI (zGrp nx x))) ∧ xP G ad cS cB nx H)) 0 0 A := by
  refine pe_start (by decide) (Nat.le_of_ble_eq_true rfl) ?_
  intro p e s m below meth c hx hb hr hml hown hts hlocks hB ls hl
  have hown : s.vm.findClass RX0 = some m.cls := hown
  have S : CallFix p m c cX0_group 4 s _ lw_all RX0 := ⟨hx, hb, hml, hown, hts⟩
  have hP := hB.1
  have hK := hB.2
  have hS : va_S A s.heap s.heap [] := va_S.rf
  have hl : lv_has ls 4 [(0, .ref (ad 0)), (1, .int x)] := hl
  refine lv_iload_n hx hb dX0_group_0 rfl (lv_at hl 1 rfl) ?_
  refine pe_cS (n := 1) (rest := []) S (m_X0_isState l x) q73 q74 q32 q75 hd_X0_isState rfl ⟨rfl, rfl⟩ ⟨Nat.le_of_ble_eq_true rfl, Nat.le_of_ble_eq_true rfl⟩ ⟨Nat.le_of_ble_eq_true rfl, Nat.le_of_ble_eq_true rfl⟩ hl.1 rfl (Nat.le_of_ble_eq_true rfl) dX0_group_1 (fun r hr_ => ?_)
  subst hr_
  refine pe_ifneB hx hb 9 dX0_group_4 (by decide) (fun c4 => ?_) (fun c4 => ?_)
  · obtain ⟨i, hi, rfl⟩ := zSt_of c4
    refine lv_aload_n hx hb dX0_group_9 rfl (lv_at hl 0 rfl) ?_
    refine lv_iconst (v := nI 0) hx hb dX0_group_10 (by decide +kernel) ?_
    refine pe_cW (n := 1) (rest := []) S hK hP (m_X0_divide l G ad cS cB nx lx gg ww tt lr ff A hA false) (ci := 0) rfl rfl rfl q106 q108 qs2 q32 q109 ⟨rfl, hd_X0_divide⟩ rfl ⟨rfl, rfl⟩ ⟨Nat.le_of_ble_eq_true rfl, Nat.le_of_ble_eq_true rfl⟩ ⟨Nat.le_of_ble_eq_true rfl, Nat.le_of_ble_eq_true rfl⟩ hl.1 rfl (Nat.le_of_ble_eq_true rfl) dX0_group_11 hS (fun _ h => h) (fun r H locs hr_ hk_ hS => ?_)
    obtain ⟨rfl, w_3, hP⟩ := hr_
    have hP : va_P G vwCl (xW ad cS cB nx lx (zG nx 8) w_3 (zT nx 8) (nI (zL nx 8)) ff) H := hP
    have hgg : ∀ j_, j_ < 8 → zG nx 8 j_ < 8 := fun j_ hj_ => zG_lt hj_
    refine lv_iconst (v := nI 0) hx hb dX0_group_14 (by decide +kernel) ?_
    refine lv_istore_n (lv' := [(2, .int (nI 0)), (0, .ref (ad 0)), (1, .int (nI i))]) hx hb dX0_group_15 rfl hl (by decide) rfl (fun ls hl => ?_)
    refine lv_iconst (v := nI 0) hx hb dX0_group_16 (by decide +kernel) ?_
    refine lv_istore_n (lv' := [(3, .int (nI 0)), (2, .int (nI 0)), (0, .ref (ad 0)), (1, .int (nI i))]) hx hb dX0_group_17 rfl hl (by decide) rfl (fun ls hl => ?_)
    refine pe_loopR (8) 18 (fun b ls => lv_has ls 4 [(0, .ref (ad 0)), (1, .int (nI i)), (2, .int (nI (orF 0 (fun j => if zG nx 8 j = zG nx 8 i then 2 ^ j else 0) (b)))), (3, .int (nI b))]) (fun b hi_b ih_b ls hl => ?_) (0) (by omega) ls (lv_sub hl [2, 3, 1, 0] rfl)
    refine lv_iload_n hx hb dX0_group_18 rfl (lv_at hl 3 rfl) ?_
    refine lv_bipush (v := nI 8) hx hb dX0_group_19 (by decide +kernel) ?_
    refine pe_icmp_ge hx hb 55 dX0_group_21 (by decide) (by omega) (by omega) (fun c21 => ?_) (fun c21 => ?_)
    · obtain rfl : b = 8 := by omega
      refine lv_iload_n hx hb dX0_group_55 rfl (lv_at hl 2 rfl) ?_
      exact pe_iret (v := (nI (orF 0 (fun j => if zG nx 8 j = zG nx 8 i then 2 ^ j else 0) (8)))) hx hb hr hlocks hS dX0_group_56 (⟨by rw [zGrp_nI hi, ← z_grp], ⟨_, _, _, _, _, _, hP⟩⟩)
    · refine lv_iload_n hx hb dX0_group_24 rfl (lv_at hl 2 rfl) ?_
      refine lv_aload_n hx hb dX0_group_25 rfl (lv_at hl 0 rfl) ?_
      refine va_get (D := G) (ci := 0) (v := .ref (ad 3)) (C := RX0) (T := TX0) (N := 7) hx hb hts in_X0 hown hK hP 0 rfl rfl 2 (by decide) (hts _ q44) (fun _ h9 => h9) rfl dX0_group_26 ?_
      refine lv_iload_n hx hb dX0_group_29 rfl (lv_at hl 3 rfl) ?_
      refine pe_bald hx hb hK hP 3 1 rfl rfl dX0_group_30 b (rfl) (by omega) (by decide) (v := (nI ((zG nx 8) b))) rfl ?_
      refine lv_aload_n hx hb dX0_group_31 rfl (lv_at hl 0 rfl) ?_
      refine va_get (D := G) (ci := 0) (v := .ref (ad 3)) (C := RX0) (T := TX0) (N := 7) hx hb hts in_X0 hown hK hP 0 rfl rfl 2 (by decide) (hts _ q44) (fun _ h9 => h9) rfl dX0_group_32 ?_
      refine lv_iload_n hx hb dX0_group_35 rfl (lv_at hl 1 rfl) ?_
      refine pe_bald hx hb hK hP 3 1 rfl rfl dX0_group_36 i (rfl) (by omega) (by decide) (v := (nI ((zG nx 8) i))) rfl ?_
      refine pe_join 47 (.int (nI (if zG nx 8 b = zG nx 8 i then 2 ^ b else 0))) [.int (nI (orF 0 (fun j => if zG nx 8 j = zG nx 8 i then 2 ^ j else 0) (b)))] (fun K47 => ?_) ?_
      · refine pe_icmp_ne hx hb 46 dX0_group_37 (by decide) (Nat.lt_trans (zG_lt (by omega)) (by decide)) (Nat.lt_trans (zG_lt hi) (by decide)) (fun c37 => ?_) (fun c37 => ?_)
        · refine lv_iconst (v := nI 0) hx hb dX0_group_46 (by decide +kernel) ?_
          exact pe_top (by first | rfl | simp [c37]) K47
        · refine lv_iconst (v := nI 1) hx hb dX0_group_40 (by decide +kernel) ?_
          refine lv_iload_n hx hb dX0_group_41 rfl (lv_at hl 3 rfl) ?_
          refine pe_shl hx hb (by omega) dX0_group_42 ?_
          refine lv_goto (tgt := 47) hx hb dX0_group_43 (by decide) ?_
          exact pe_top (by first | rfl | simp [c37]) K47
      · refine pe_ior hx hb dX0_group_47 ?_
        refine lv_istore_n (lv' := [(2, .int (nI ((orF 0 (fun j => if zG nx 8 j = zG nx 8 i then 2 ^ j else 0) (b)) ||| (if zG nx 8 b = zG nx 8 i then 2 ^ b else 0)))), (0, .ref (ad 0)), (1, .int (nI i)), (3, .int (nI b))]) hx hb dX0_group_48 rfl hl (by decide) rfl (fun ls hl => ?_)
        refine pe_inc (k := 3) (a := b) (lv' := [(3, .int (nI (b + 1))), (2, .int (nI ((orF 0 (fun j => if zG nx 8 j = zG nx 8 i then 2 ^ j else 0) (b)) ||| (if zG nx 8 b = zG nx 8 i then 2 ^ b else 0)))), (0, .ref (ad 0)), (1, .int (nI i))]) hx hb dX0_group_49 hl rfl (by decide) rfl (fun ls hl => ?_)
        refine lv_goto (tgt := 18) hx hb dX0_group_52 (by decide) ?_
        exact ih_b (by omega) ls (lv_sub hl [2, 3, 1, 0] rfl)
  · refine lv_iconst (v := nI 0) hx hb dX0_group_7 (by decide +kernel) ?_
    exact pe_iret (v := (nI 0)) hx hb hr hlocks hS dX0_group_8 (⟨by rw [zGrp_f c4], ⟨_, _, _, _, _, _, hP⟩⟩)
theorem hd_X0_groups : yX0_groups.cls ≠ "java/lang/invoke/MethodHandle" ∧ yX0_groups.cls ≠ "java/lang/invoke/VarHandle" ∧ (parseMethodDescriptor yX0_groups.desc).map (fun d => d.parameters.length) = some 0 := by decide +kernel
set_option maxHeartbeats 4000000 in
theorem m_X0_groups (l : Launch) (G : va_G) (ad : Nat → Nat) (cS cB : ClassId) (nx lx gg ww : Nat → Nat) (tt : Nat → Int32) (lr : Int32) (ff : Nat → Nat) (A : Nat → Prop) (hA : xD A ad)  : Met l yX0_groups (ws_ yX0_groups cX0_groups 1 (some .int)) ({ frames := 5, cells := 0, slots := 0, locals := 120 }) (va_Pc [.ref (ad 0)] (pB G vwCl (xW ad cS cB nx lx gg ww tt lr ff) (xT cS cB))) (pQ A (fun v H => v = some (.int (nI (zCnt nx))) ∧ xP G ad cS cB nx H)) 0 0 A := by
  refine pe_start (by decide) (Nat.le_of_ble_eq_true rfl) ?_
  intro p e s m below meth c hx hb hr hml hown hts hlocks hB ls hl
  have hown : s.vm.findClass RX0 = some m.cls := hown
  have S : CallFix p m c cX0_groups 1 s _ lw_all RX0 := ⟨hx, hb, hml, hown, hts⟩
  have hP := hB.1
  have hK := hB.2
  have hS : va_S A s.heap s.heap [] := va_S.rf
  have hl : lv_has ls 1 [(0, .ref (ad 0))] := hl
  refine lv_aload_n hx hb dX0_groups_0 rfl (lv_at hl 0 rfl) ?_
  refine lv_iconst (v := nI 0) hx hb dX0_groups_1 (by decide +kernel) ?_
  refine pe_cW (n := 1) (rest := []) S hK hP (m_X0_divide l G ad cS cB nx lx gg ww tt lr ff A hA false) (ci := 0) rfl rfl rfl q106 q108 qs2 q32 q109 ⟨rfl, hd_X0_divide⟩ rfl ⟨rfl, rfl⟩ ⟨Nat.le_of_ble_eq_true rfl, Nat.le_of_ble_eq_true rfl⟩ ⟨Nat.le_of_ble_eq_true rfl, Nat.le_of_ble_eq_true rfl⟩ hl.1 rfl (Nat.le_of_ble_eq_true rfl) dX0_groups_2 hS (fun _ h => h) (fun r H locs hr_ hk_ hS => ?_)
  obtain ⟨rfl, w_4, hP⟩ := hr_
  have hP : va_P G vwCl (xW ad cS cB nx lx (zG nx 8) w_4 (zT nx 8) (nI (zL nx 8)) ff) H := hP
  have hgg : ∀ j_, j_ < 8 → zG nx 8 j_ < 8 := fun j_ hj_ => zG_lt hj_
  refine lv_aload_n hx hb dX0_groups_5 rfl (lv_at hl 0 rfl) ?_
  refine pe_cV (n := 0) (rest := []) S hK hP (m_X0_countGroups l G ad cS cB nx lx (zG nx 8) w_4 (zT nx 8) (nI (zL nx 8)) ff hgg) (ci := 0) rfl rfl rfl q138 q140 qs8 q32 q141 ⟨rfl, hd_X0_countGroups⟩ rfl ⟨rfl, rfl⟩ ⟨Nat.le_of_ble_eq_true rfl, Nat.le_of_ble_eq_true rfl⟩ ⟨Nat.le_of_ble_eq_true rfl, Nat.le_of_ble_eq_true rfl⟩ hl.1 rfl (Nat.le_of_ble_eq_true rfl) dX0_groups_6 (fun r hr_ => ?_)
  subst hr_
  exact pe_iret (v := (nI (smF (fun a => (decide ((zG nx 8) a = a)).toNat) 8))) hx hb hr hlocks hS dX0_groups_9 (⟨rfl, ⟨_, _, _, _, _, _, hP⟩⟩)
theorem hd_X0_looseGroups : yX0_looseGroups.cls ≠ "java/lang/invoke/MethodHandle" ∧ yX0_looseGroups.cls ≠ "java/lang/invoke/VarHandle" ∧ (parseMethodDescriptor yX0_looseGroups.desc).map (fun d => d.parameters.length) = some 0 := by decide +kernel
set_option maxHeartbeats 4000000 in
theorem m_X0_looseGroups (l : Launch) (G : va_G) (ad : Nat → Nat) (cS cB : ClassId) (nx lx gg ww : Nat → Nat) (tt : Nat → Int32) (lr : Int32) (ff : Nat → Nat) (A : Nat → Prop) (hA : xD A ad) (hnx : ∀ j, j < 24 → nx j < 256) : Met l yX0_looseGroups (ws_ yX0_looseGroups cX0_looseGroups 1 (some .int)) ({ frames := 5, cells := 0, slots := 0, locals := 120 }) (va_Pc [.ref (ad 0)] (pB G vwCl (xW ad cS cB nx lx gg ww tt lr ff) (xT cS cB))) (pQ A (fun v H => v = some (.int (nI (zCnt (zLg nx)))) ∧ xP G ad cS cB nx H)) 0 0 A := by
  refine pe_start (by decide) (Nat.le_of_ble_eq_true rfl) ?_
  intro p e s m below meth c hx hb hr hml hown hts hlocks hB ls hl
  have hown : s.vm.findClass RX0 = some m.cls := hown
  have S : CallFix p m c cX0_looseGroups 1 s _ lw_all RX0 := ⟨hx, hb, hml, hown, hts⟩
  have hP := hB.1
  have hK := hB.2
  have hS : va_S A s.heap s.heap [] := va_S.rf
  have hl : lv_has ls 1 [(0, .ref (ad 0))] := hl
  refine lv_aload_n hx hb dX0_looseGroups_0 rfl (lv_at hl 0 rfl) ?_
  refine pe_cW (n := 0) (rest := []) S hK hP (m_X0_lengthen l G ad cS cB nx lx gg ww tt lr ff A hA hnx) (ci := 0) rfl rfl rfl q154 q156 qs9 q32 q157 ⟨rfl, hd_X0_lengthen⟩ rfl ⟨rfl, rfl⟩ ⟨Nat.le_of_ble_eq_true rfl, Nat.le_of_ble_eq_true rfl⟩ ⟨Nat.le_of_ble_eq_true rfl, Nat.le_of_ble_eq_true rfl⟩ hl.1 rfl (Nat.le_of_ble_eq_true rfl) dX0_looseGroups_1 hS (fun _ h => h) (fun r H locs hr_ hk_ hS => ?_)
  obtain ⟨rfl, hP⟩ := hr_
  refine lv_aload_n hx hb dX0_looseGroups_4 rfl (lv_at hl 0 rfl) ?_
  refine lv_iconst (v := nI 1) hx hb dX0_looseGroups_5 (by decide +kernel) ?_
  refine pe_cW (n := 1) (rest := []) S hK hP (m_X0_divide l G ad cS cB nx (zLg nx) gg ww tt lr ff A hA true) (ci := 0) rfl rfl rfl q106 q108 qs2 q32 q109 ⟨rfl, hd_X0_divide⟩ rfl ⟨rfl, rfl⟩ ⟨Nat.le_of_ble_eq_true rfl, Nat.le_of_ble_eq_true rfl⟩ ⟨Nat.le_of_ble_eq_true rfl, Nat.le_of_ble_eq_true rfl⟩ hl.1 rfl (Nat.le_of_ble_eq_true rfl) dX0_looseGroups_6 hS (fun _ h => h) (fun r H locs hr_ hk_ hS => ?_)
  obtain ⟨rfl, w_5, hP⟩ := hr_
  have hP : va_P G vwCl (xW ad cS cB nx (zLg nx) (zG (zLg nx) 8) w_5 (zT (zLg nx) 8) (nI (zL (zLg nx) 8)) ff) H := hP
  have hgg : ∀ j_, j_ < 8 → zG (zLg nx) 8 j_ < 8 := fun j_ hj_ => zG_lt hj_
  refine lv_aload_n hx hb dX0_looseGroups_9 rfl (lv_at hl 0 rfl) ?_
  refine pe_cV (n := 0) (rest := []) S hK hP (m_X0_countGroups l G ad cS cB nx (zLg nx) (zG (zLg nx) 8) w_5 (zT (zLg nx) 8) (nI (zL (zLg nx) 8)) ff hgg) (ci := 0) rfl rfl rfl q138 q140 qs8 q32 q141 ⟨rfl, hd_X0_countGroups⟩ rfl ⟨rfl, rfl⟩ ⟨Nat.le_of_ble_eq_true rfl, Nat.le_of_ble_eq_true rfl⟩ ⟨Nat.le_of_ble_eq_true rfl, Nat.le_of_ble_eq_true rfl⟩ hl.1 rfl (Nat.le_of_ble_eq_true rfl) dX0_looseGroups_10 (fun r hr_ => ?_)
  subst hr_
  exact pe_iret (v := (nI (smF (fun a => (decide ((zG (zLg nx) 8) a = a)).toNat) 8))) hx hb hr hlocks hS dX0_looseGroups_13 (⟨rfl, ⟨_, _, _, _, _, _, hP⟩⟩)
theorem hd_X0_toldAfter : yX0_toldAfter.cls ≠ "java/lang/invoke/MethodHandle" ∧ yX0_toldAfter.cls ≠ "java/lang/invoke/VarHandle" ∧ (parseMethodDescriptor yX0_toldAfter.desc).map (fun d => d.parameters.length) = some 2 := by decide +kernel
set_option maxHeartbeats 4000000 in
theorem m_X0_toldAfter (l : Launch) (G : va_G) (ad : Nat → Nat) (cS cB : ClassId) (nx lx gg ww : Nat → Nat) (tt : Nat → Int32) (lr : Int32) (ff : Nat → Nat) (A : Nat → Prop) (hA : xD A ad) (x y : Int32) : Met l yX0_toldAfter (ws_ yX0_toldAfter cX0_toldAfter 3 (some .int)) ({ frames := 5, cells := 0, slots := 0, locals := 120 }) (va_Pc [.ref (ad 0), .int x, .int y] (pB G vwCl (xW ad cS cB nx lx gg ww tt lr ff) (xT cS cB))) (pQ A (fun v H => v = some (.int (zTol nx x y)) ∧ xP G ad cS cB nx H)) 0 0 A := by
  refine pe_start (by decide) (Nat.le_of_ble_eq_true rfl) ?_
  intro p e s m below meth c hx hb hr hml hown hts hlocks hB ls hl
  have hown : s.vm.findClass RX0 = some m.cls := hown
  have S : CallFix p m c cX0_toldAfter 3 s _ lw_all RX0 := ⟨hx, hb, hml, hown, hts⟩
  have hP := hB.1
  have hK := hB.2
  have hS : va_S A s.heap s.heap [] := va_S.rf
  have hl : lv_has ls 3 [(0, .ref (ad 0)), (1, .int x), (2, .int y)] := hl
  refine lv_iload_n hx hb dX0_toldAfter_0 rfl (lv_at hl 1 rfl) ?_
  refine pe_cS (n := 1) (rest := []) S (m_X0_isState l x) q73 q74 q32 q75 hd_X0_isState rfl ⟨rfl, rfl⟩ ⟨Nat.le_of_ble_eq_true rfl, Nat.le_of_ble_eq_true rfl⟩ ⟨Nat.le_of_ble_eq_true rfl, Nat.le_of_ble_eq_true rfl⟩ hl.1 rfl (Nat.le_of_ble_eq_true rfl) dX0_toldAfter_1 (fun r hr_ => ?_)
  subst hr_
  refine pe_ifeqB hx hb 14 dX0_toldAfter_4 (by decide) (fun c4 => ?_) (fun c4 => ?_)
  · refine lv_iconst (v := -1) hx hb dX0_toldAfter_14 (by decide +kernel) ?_
    exact pe_iret (v := (-1)) hx hb hr hlocks hS dX0_toldAfter_15 (⟨by rw [zTol_x c4], ⟨_, _, _, _, _, _, hP⟩⟩)
  · refine lv_iload_n hx hb dX0_toldAfter_7 rfl (lv_at hl 2 rfl) ?_
    refine pe_cS (n := 1) (rest := []) S (m_X0_isState l y) q73 q74 q32 q75 hd_X0_isState rfl ⟨rfl, rfl⟩ ⟨Nat.le_of_ble_eq_true rfl, Nat.le_of_ble_eq_true rfl⟩ ⟨Nat.le_of_ble_eq_true rfl, Nat.le_of_ble_eq_true rfl⟩ hl.1 rfl (Nat.le_of_ble_eq_true rfl) dX0_toldAfter_8 (fun r hr_ => ?_)
    subst hr_
    refine pe_ifneB hx hb 16 dX0_toldAfter_11 (by decide) (fun c11 => ?_) (fun c11 => ?_)
    · obtain ⟨i, hi, rfl⟩ := zSt_of c4
      obtain ⟨j, hj, rfl⟩ := zSt_of c11
      refine lv_aload_n hx hb dX0_toldAfter_16 rfl (lv_at hl 0 rfl) ?_
      refine lv_iconst (v := nI 0) hx hb dX0_toldAfter_17 (by decide +kernel) ?_
      refine pe_cW (n := 1) (rest := []) S hK hP (m_X0_divide l G ad cS cB nx lx gg ww tt lr ff A hA false) (ci := 0) rfl rfl rfl q106 q108 qs2 q32 q109 ⟨rfl, hd_X0_divide⟩ rfl ⟨rfl, rfl⟩ ⟨Nat.le_of_ble_eq_true rfl, Nat.le_of_ble_eq_true rfl⟩ ⟨Nat.le_of_ble_eq_true rfl, Nat.le_of_ble_eq_true rfl⟩ hl.1 rfl (Nat.le_of_ble_eq_true rfl) dX0_toldAfter_18 hS (fun _ h => h) (fun r H locs hr_ hk_ hS => ?_)
      obtain ⟨rfl, w_6, hP⟩ := hr_
      have hP : va_P G vwCl (xW ad cS cB nx lx (zG nx 8) w_6 (zT nx 8) (nI (zL nx 8)) ff) H := hP
      have hgg : ∀ j_, j_ < 8 → zG nx 8 j_ < 8 := fun j_ hj_ => zG_lt hj_
      refine lv_aload_n hx hb dX0_toldAfter_21 rfl (lv_at hl 0 rfl) ?_
      refine va_get (D := G) (ci := 0) (v := .ref (ad 5)) (C := RX0) (T := TX0) (N := 7) hx hb hts in_X0 hown hK hP 0 rfl rfl 4 (by decide) (hts _ q46) (fun _ h9 => h9) rfl dX0_toldAfter_22 ?_
      refine lv_iload_n hx hb dX0_toldAfter_25 rfl (lv_at hl 1 rfl) ?_
      refine lv_bipush (v := nI 8) hx hb dX0_toldAfter_26 (by decide +kernel) ?_
      refine pe_imul hx hb dX0_toldAfter_28 ?_
      refine lv_iload_n hx hb dX0_toldAfter_29 rfl (lv_at hl 2 rfl) ?_
      refine pe_iadd hx hb dX0_toldAfter_30 ?_
      refine pe_bald hx hb hK hP 5 1 rfl rfl dX0_toldAfter_31 (8 * i + j) (by omega) (by omega) (by decide) (v := ((zT nx 8) (8 * i + j))) rfl ?_
      exact pe_iret (v := ((zT nx 8) (8 * i + j))) hx hb hr hlocks hS dX0_toldAfter_32 (⟨by rw [zTol_nI hi hj], ⟨_, _, _, _, _, _, hP⟩⟩)
    · refine lv_iconst (v := -1) hx hb dX0_toldAfter_14 (by decide +kernel) ?_
      exact pe_iret (v := (-1)) hx hb hr hlocks hS dX0_toldAfter_15 (⟨by rw [zTol_y c11], ⟨_, _, _, _, _, _, hP⟩⟩)
theorem hd_X0_rounds : yX0_rounds.cls ≠ "java/lang/invoke/MethodHandle" ∧ yX0_rounds.cls ≠ "java/lang/invoke/VarHandle" ∧ (parseMethodDescriptor yX0_rounds.desc).map (fun d => d.parameters.length) = some 0 := by decide +kernel
set_option maxHeartbeats 4000000 in
theorem m_X0_rounds (l : Launch) (G : va_G) (ad : Nat → Nat) (cS cB : ClassId) (nx lx gg ww : Nat → Nat) (tt : Nat → Int32) (lr : Int32) (ff : Nat → Nat) (A : Nat → Prop) (hA : xD A ad)  : Met l yX0_rounds (ws_ yX0_rounds cX0_rounds 1 (some .int)) ({ frames := 5, cells := 0, slots := 0, locals := 120 }) (va_Pc [.ref (ad 0)] (pB G vwCl (xW ad cS cB nx lx gg ww tt lr ff) (xT cS cB))) (pQ A (fun v H => v = some (.int (nI (zL nx 8))) ∧ xP G ad cS cB nx H)) 0 0 A := by
  refine pe_start (by decide) (Nat.le_of_ble_eq_true rfl) ?_
  intro p e s m below meth c hx hb hr hml hown hts hlocks hB ls hl
  have hown : s.vm.findClass RX0 = some m.cls := hown
  have S : CallFix p m c cX0_rounds 1 s _ lw_all RX0 := ⟨hx, hb, hml, hown, hts⟩
  have hP := hB.1
  have hK := hB.2
  have hS : va_S A s.heap s.heap [] := va_S.rf
  have hl : lv_has ls 1 [(0, .ref (ad 0))] := hl
  refine lv_aload_n hx hb dX0_rounds_0 rfl (lv_at hl 0 rfl) ?_
  refine lv_iconst (v := nI 0) hx hb dX0_rounds_1 (by decide +kernel) ?_
  refine pe_cW (n := 1) (rest := []) S hK hP (m_X0_divide l G ad cS cB nx lx gg ww tt lr ff A hA false) (ci := 0) rfl rfl rfl q106 q108 qs2 q32 q109 ⟨rfl, hd_X0_divide⟩ rfl ⟨rfl, rfl⟩ ⟨Nat.le_of_ble_eq_true rfl, Nat.le_of_ble_eq_true rfl⟩ ⟨Nat.le_of_ble_eq_true rfl, Nat.le_of_ble_eq_true rfl⟩ hl.1 rfl (Nat.le_of_ble_eq_true rfl) dX0_rounds_2 hS (fun _ h => h) (fun r H locs hr_ hk_ hS => ?_)
  obtain ⟨rfl, w_7, hP⟩ := hr_
  have hP : va_P G vwCl (xW ad cS cB nx lx (zG nx 8) w_7 (zT nx 8) (nI (zL nx 8)) ff) H := hP
  have hgg : ∀ j_, j_ < 8 → zG nx 8 j_ < 8 := fun j_ hj_ => zG_lt hj_
  refine lv_aload_n hx hb dX0_rounds_5 rfl (lv_at hl 0 rfl) ?_
  refine va_get (D := G) (ci := 0) (v := .int (nI (zL nx 8))) (C := RX0) (T := TX0) (N := 7) hx hb hts in_X0 hown hK hP 0 rfl rfl 5 (by decide) (hts _ q47) (fun _ h9 => h9) rfl dX0_rounds_6 ?_
  exact pe_iret (v := (nI (zL nx 8))) hx hb hr hlocks hS dX0_rounds_9 (⟨rfl, ⟨_, _, _, _, _, _, hP⟩⟩)
theorem hd_X0_follows : yX0_follows.cls ≠ "java/lang/invoke/MethodHandle" ∧ yX0_follows.cls ≠ "java/lang/invoke/VarHandle" ∧ (parseMethodDescriptor yX0_follows.desc).map (fun d => d.parameters.length) = some 2 := by decide +kernel
set_option maxHeartbeats 4000000 in
theorem m_X0_follows (l : Launch) (G : va_G) (ad : Nat → Nat) (cS cB : ClassId) (nx lx gg ww : Nat → Nat) (tt : Nat → Int32) (lr : Int32) (ff : Nat → Nat) (A : Nat → Prop) (hA : xD A ad) (x y : Int32) (hnx : ∀ j, j < 24 → nx j < 256) : Met l yX0_follows (ws_ yX0_follows cX0_follows 3 (some .boolean)) ({ frames := 4, cells := 0, slots := 0, locals := 92 }) (va_Pc [.ref (ad 0), .int x, .int y] (pB G vwCl (xW ad cS cB nx lx gg ww tt lr ff) (xT cS cB))) (pQ A (fun v H => v = some (.int (nI (zFlw nx x y).toNat)) ∧ xP G ad cS cB nx H)) 0 0 A := by
  refine pe_start (by decide) (Nat.le_of_ble_eq_true rfl) ?_
  intro p e s m below meth c hx hb hr hml hown hts hlocks hB ls hl
  have hown : s.vm.findClass RX0 = some m.cls := hown
  have S : CallFix p m c cX0_follows 3 s _ lw_all RX0 := ⟨hx, hb, hml, hown, hts⟩
  have hP := hB.1
  have hK := hB.2
  have hS : va_S A s.heap s.heap [] := va_S.rf
  have hl : lv_has ls 3 [(0, .ref (ad 0)), (1, .int x), (2, .int y)] := hl
  refine lv_iload_n hx hb dX0_follows_0 rfl (lv_at hl 2 rfl) ?_
  refine pe_cS (n := 1) (rest := []) S (m_X0_isState l y) q73 q74 q32 q75 hd_X0_isState rfl ⟨rfl, rfl⟩ ⟨Nat.le_of_ble_eq_true rfl, Nat.le_of_ble_eq_true rfl⟩ ⟨Nat.le_of_ble_eq_true rfl, Nat.le_of_ble_eq_true rfl⟩ hl.1 rfl (Nat.le_of_ble_eq_true rfl) dX0_follows_1 (fun r hr_ => ?_)
  subst hr_
  refine pe_ifeqB hx hb 14 dX0_follows_4 (by decide) (fun c4 => ?_) (fun c4 => ?_)
  · refine lv_iconst (v := nI 0) hx hb dX0_follows_14 (by decide +kernel) ?_
    exact pe_zret (b := false) hx hb hr hlocks hS dX0_follows_15 (⟨by rw [zFlw_y c4], ⟨_, _, _, _, _, _, hP⟩⟩)
  · refine lv_iload_n hx hb dX0_follows_7 rfl (lv_at hl 1 rfl) ?_
    refine pe_cS (n := 1) (rest := []) S (m_X0_isState l x) q73 q74 q32 q75 hd_X0_isState rfl ⟨rfl, rfl⟩ ⟨Nat.le_of_ble_eq_true rfl, Nat.le_of_ble_eq_true rfl⟩ ⟨Nat.le_of_ble_eq_true rfl, Nat.le_of_ble_eq_true rfl⟩ hl.1 rfl (Nat.le_of_ble_eq_true rfl) dX0_follows_8 (fun r hr_ => ?_)
    subst hr_
    refine pe_ifneB hx hb 16 dX0_follows_11 (by decide) (fun c11 => ?_) (fun c11 => ?_)
    · obtain ⟨i, hi, rfl⟩ := zSt_of c11
      obtain ⟨j, hj, rfl⟩ := zSt_of c4
      refine lv_aload_n hx hb dX0_follows_16 rfl (lv_at hl 0 rfl) ?_
      refine pe_cW (n := 0) (rest := []) S hK hP (m_X0_cutFollowers l G ad cS cB nx lx gg ww tt lr ff A hA hnx) (ci := 0) rfl rfl rfl q174 q176 qs12 q32 q177 ⟨rfl, hd_X0_cutFollowers⟩ rfl ⟨rfl, rfl⟩ ⟨Nat.le_of_ble_eq_true rfl, Nat.le_of_ble_eq_true rfl⟩ ⟨Nat.le_of_ble_eq_true rfl, Nat.le_of_ble_eq_true rfl⟩ hl.1 rfl (Nat.le_of_ble_eq_true rfl) dX0_follows_17 hS (fun _ h => h) (fun r H locs hr_ hk_ hS => ?_)
      obtain ⟨rfl, f_8, hP, hfb, hft⟩ := hr_
      refine lv_aload_n hx hb dX0_follows_20 rfl (lv_at hl 0 rfl) ?_
      refine va_get (D := G) (ci := 0) (v := .ref (ad 6)) (C := RX0) (T := TX0) (N := 7) hx hb hts in_X0 hown hK hP 0 rfl rfl 6 (by decide) (hts _ q48) (fun _ h9 => h9) rfl dX0_follows_21 ?_
      refine lv_iload_n hx hb dX0_follows_24 rfl (lv_at hl 2 rfl) ?_
      refine pe_sald hx hb hK hP 6 0 rfl rfl dX0_follows_25 j (rfl) (by omega) (by decide) (v := (nI (f_8 j))) rfl ?_
      refine lv_iload_n hx hb dX0_follows_26 rfl (lv_at hl 1 rfl) ?_
      refine pe_cS (n := 2) (rest := []) S (m_X0_in l (f_8 j) i (by omega)) q80 q81 q32 q82 hd_X0_in rfl ⟨rfl, rfl⟩ ⟨Nat.le_of_ble_eq_true rfl, Nat.le_of_ble_eq_true rfl⟩ ⟨Nat.le_of_ble_eq_true rfl, Nat.le_of_ble_eq_true rfl⟩ hl.1 rfl (Nat.le_of_ble_eq_true rfl) dX0_follows_27 (fun r hr_ => ?_)
      subst hr_
      exact pe_zret (b := ((f_8 j).testBit i)) hx hb hr hlocks hS dX0_follows_30 (⟨by rw [zFlw_nI hi hj, z_ftb hi hj hft], ⟨_, _, _, _, _, _, hP⟩⟩)
    · refine lv_iconst (v := nI 0) hx hb dX0_follows_14 (by decide +kernel) ?_
      exact pe_zret (b := false) hx hb hr hlocks hS dX0_follows_15 (⟨by rw [zFlw_x c11], ⟨_, _, _, _, _, _, hP⟩⟩)
theorem hd_X0_followers : yX0_followers.cls ≠ "java/lang/invoke/MethodHandle" ∧ yX0_followers.cls ≠ "java/lang/invoke/VarHandle" ∧ (parseMethodDescriptor yX0_followers.desc).map (fun d => d.parameters.length) = some 1 := by decide +kernel
set_option maxHeartbeats 4000000 in
theorem m_X0_followers (l : Launch) (G : va_G) (ad : Nat → Nat) (cS cB : ClassId) (nx lx gg ww : Nat → Nat) (tt : Nat → Int32) (lr : Int32) (ff : Nat → Nat) (A : Nat → Prop) (hA : xD A ad) (x : Int32) (hnx : ∀ j, j < 24 → nx j < 256) : Met l yX0_followers (ws_ yX0_followers cX0_followers 2 (some .int)) ({ frames := 4, cells := 0, slots := 0, locals := 92 }) (va_Pc [.ref (ad 0), .int x] (pB G vwCl (xW ad cS cB nx lx gg ww tt lr ff) (xT cS cB))) (pQ A (fun v H => v = some (.int (nI (zFls nx x))) ∧ xP G ad cS cB nx H)) 0 0 A := by
  refine pe_start (by decide) (Nat.le_of_ble_eq_true rfl) ?_
  intro p e s m below meth c hx hb hr hml hown hts hlocks hB ls hl
  have hown : s.vm.findClass RX0 = some m.cls := hown
  have S : CallFix p m c cX0_followers 2 s _ lw_all RX0 := ⟨hx, hb, hml, hown, hts⟩
  have hP := hB.1
  have hK := hB.2
  have hS : va_S A s.heap s.heap [] := va_S.rf
  have hl : lv_has ls 2 [(0, .ref (ad 0)), (1, .int x)] := hl
  refine lv_iload_n hx hb dX0_followers_0 rfl (lv_at hl 1 rfl) ?_
  refine pe_cS (n := 1) (rest := []) S (m_X0_isState l x) q73 q74 q32 q75 hd_X0_isState rfl ⟨rfl, rfl⟩ ⟨Nat.le_of_ble_eq_true rfl, Nat.le_of_ble_eq_true rfl⟩ ⟨Nat.le_of_ble_eq_true rfl, Nat.le_of_ble_eq_true rfl⟩ hl.1 rfl (Nat.le_of_ble_eq_true rfl) dX0_followers_1 (fun r hr_ => ?_)
  subst hr_
  refine pe_ifneB hx hb 9 dX0_followers_4 (by decide) (fun c4 => ?_) (fun c4 => ?_)
  · obtain ⟨i, hi, rfl⟩ := zSt_of c4
    refine lv_aload_n hx hb dX0_followers_9 rfl (lv_at hl 0 rfl) ?_
    refine pe_cW (n := 0) (rest := []) S hK hP (m_X0_cutFollowers l G ad cS cB nx lx gg ww tt lr ff A hA hnx) (ci := 0) rfl rfl rfl q174 q176 qs12 q32 q177 ⟨rfl, hd_X0_cutFollowers⟩ rfl ⟨rfl, rfl⟩ ⟨Nat.le_of_ble_eq_true rfl, Nat.le_of_ble_eq_true rfl⟩ ⟨Nat.le_of_ble_eq_true rfl, Nat.le_of_ble_eq_true rfl⟩ hl.1 rfl (Nat.le_of_ble_eq_true rfl) dX0_followers_10 hS (fun _ h => h) (fun r H locs hr_ hk_ hS => ?_)
    obtain ⟨rfl, f_9, hP, hfb, hft⟩ := hr_
    refine lv_aload_n hx hb dX0_followers_13 rfl (lv_at hl 0 rfl) ?_
    refine va_get (D := G) (ci := 0) (v := .ref (ad 6)) (C := RX0) (T := TX0) (N := 7) hx hb hts in_X0 hown hK hP 0 rfl rfl 6 (by decide) (hts _ q48) (fun _ h9 => h9) rfl dX0_followers_14 ?_
    refine lv_iload_n hx hb dX0_followers_17 rfl (lv_at hl 1 rfl) ?_
    refine pe_sald hx hb hK hP 6 0 rfl rfl dX0_followers_18 i (rfl) (by omega) (by decide) (v := (nI (f_9 i))) rfl ?_
    exact pe_iret (v := (nI (f_9 i))) hx hb hr hlocks hS dX0_followers_19 (⟨by rw [zFls_nI hi, ← z_fls hi (hfb i hi) hft], ⟨_, _, _, _, _, _, hP⟩⟩)
  · refine lv_iconst (v := nI 0) hx hb dX0_followers_7 (by decide +kernel) ?_
    exact pe_iret (v := (nI 0)) hx hb hr hlocks hS dX0_followers_8 (⟨by rw [zFls_f c4], ⟨_, _, _, _, _, _, hP⟩⟩)
theorem hd_X0_idle : yX0_idle.cls ≠ "java/lang/invoke/MethodHandle" ∧ yX0_idle.cls ≠ "java/lang/invoke/VarHandle" ∧ (parseMethodDescriptor yX0_idle.desc).map (fun d => d.parameters.length) = some 3 := by decide +kernel
set_option maxHeartbeats 4000000 in
theorem m_X0_idle (l : Launch) (G : va_G) (ad : Nat → Nat) (cS cB : ClassId) (nx lx gg ww : Nat → Nat) (tt : Nat → Int32) (lr : Int32) (ff : Nat → Nat) (A : Nat → Prop) (hA : xD A ad) (x y z : Int32) (hnx : ∀ j, j < 24 → nx j < 256) : Met l yX0_idle (ws_ yX0_idle cX0_idle 8 (some .boolean)) ({ frames := 5, cells := 0, slots := 0, locals := 120 }) (va_Pc [.ref (ad 0), .int x, .int y, .int z] (pB G vwCl (xW ad cS cB nx lx gg ww tt lr ff) (xT cS cB))) (pQ A (fun v H => v = some (.int (nI (zIdl nx x y z).toNat)) ∧ xP G ad cS cB nx H)) 0 0 A := by
  refine pe_start (by decide) (Nat.le_of_ble_eq_true rfl) ?_
  intro p e s m below meth c hx hb hr hml hown hts hlocks hB ls hl
  have hown : s.vm.findClass RX0 = some m.cls := hown
  have S : CallFix p m c cX0_idle 8 s _ lw_all RX0 := ⟨hx, hb, hml, hown, hts⟩
  have hP := hB.1
  have hK := hB.2
  have hS : va_S A s.heap s.heap [] := va_S.rf
  have hl : lv_has ls 8 [(0, .ref (ad 0)), (1, .int x), (2, .int y), (3, .int z)] := hl
  refine lv_iload_n hx hb dX0_idle_0 rfl (lv_at hl 1 rfl) ?_
  refine lv_iload_n hx hb dX0_idle_1 rfl (lv_at hl 2 rfl) ?_
  refine lv_iload_n hx hb dX0_idle_2 rfl (lv_at hl 3 rfl) ?_
  refine pe_cS (n := 3) (rest := []) S (m_X0_isStep l x y z) q70 q71 q32 q72 hd_X0_isStep rfl ⟨rfl, rfl⟩ ⟨Nat.le_of_ble_eq_true rfl, Nat.le_of_ble_eq_true rfl⟩ ⟨Nat.le_of_ble_eq_true rfl, Nat.le_of_ble_eq_true rfl⟩ hl.1 rfl (Nat.le_of_ble_eq_true rfl) dX0_idle_3 (fun r hr_ => ?_)
  subst hr_
  refine pe_ifeqB hx hb 19 dX0_idle_6 (by decide) (fun c6 => ?_) (fun c6 => ?_)
  · refine lv_iconst (v := nI 0) hx hb dX0_idle_19 (by decide +kernel) ?_
    exact pe_zret (b := false) hx hb hr hlocks hS dX0_idle_20 (⟨by rw [zIdl_f (zHas_f c6)], ⟨_, _, _, _, _, _, hP⟩⟩)
  · obtain ⟨i, j, k, hi, hj, hk, rfl, rfl, rfl⟩ := zStep_of c6
    have hnx2 := z_up24 (k := 8 * k + i) hnx (z_xor (hnx (8 * k + i) (by omega)) hj)
    refine lv_aload_n hx hb dX0_idle_9 rfl (lv_at hl 0 rfl) ?_
    refine lv_iload_n hx hb dX0_idle_10 rfl (lv_at hl 1 rfl) ?_
    refine lv_iload_n hx hb dX0_idle_11 rfl (lv_at hl 2 rfl) ?_
    refine lv_iload_n hx hb dX0_idle_12 rfl (lv_at hl 3 rfl) ?_
    refine pe_cV (n := 3) (rest := []) S hK hP (m_X0_hasStep l G ad cS cB nx lx gg ww tt lr ff i j k (by omega) (by omega) (by omega)) (ci := 0) rfl rfl rfl q76 q78 qs0 q32 q79 ⟨rfl, hd_X0_hasStep⟩ rfl ⟨rfl, rfl⟩ ⟨Nat.le_of_ble_eq_true rfl, Nat.le_of_ble_eq_true rfl⟩ ⟨Nat.le_of_ble_eq_true rfl, Nat.le_of_ble_eq_true rfl⟩ hl.1 rfl (Nat.le_of_ble_eq_true rfl) dX0_idle_13 (fun r hr_ => ?_)
    subst hr_
    refine pe_ifneB hx hb 21 dX0_idle_16 (by decide) (fun c16 => ?_) (fun c16 => ?_)
    · refine lv_aload_n hx hb dX0_idle_21 rfl (lv_at hl 0 rfl) ?_
      refine lv_iconst (v := nI 0) hx hb dX0_idle_22 (by decide +kernel) ?_
      refine pe_cW (n := 1) (rest := []) S hK hP (m_X0_divide l G ad cS cB nx lx gg ww tt lr ff A hA false) (ci := 0) rfl rfl rfl q106 q108 qs2 q32 q109 ⟨rfl, hd_X0_divide⟩ rfl ⟨rfl, rfl⟩ ⟨Nat.le_of_ble_eq_true rfl, Nat.le_of_ble_eq_true rfl⟩ ⟨Nat.le_of_ble_eq_true rfl, Nat.le_of_ble_eq_true rfl⟩ hl.1 rfl (Nat.le_of_ble_eq_true rfl) dX0_idle_23 hS (fun _ h => h) (fun r H locs hr_ hk_ hS => ?_)
      obtain ⟨rfl, w_10, hP⟩ := hr_
      have hP : va_P G vwCl (xW ad cS cB nx lx (zG nx 8) w_10 (zT nx 8) (nI (zL nx 8)) ff) H := hP
      have hgg : ∀ j_, j_ < 8 → zG nx 8 j_ < 8 := fun j_ hj_ => zG_lt hj_
      refine lv_aload_n hx hb dX0_idle_26 rfl (lv_at hl 0 rfl) ?_
      refine pe_cVl (n := 0) (rest := []) S hK hP (m_X0_written l G ad cS cB nx lx (zG nx 8) w_10 (zT nx 8) (nI (zL nx 8)) ff hgg) (ci := 0) rfl rfl rfl q198 q200 qs15 q32 q201 ⟨rfl, hd_X0_written⟩ rfl ⟨rfl, rfl⟩ ⟨Nat.le_of_ble_eq_true rfl, Nat.le_of_ble_eq_true rfl⟩ ⟨Nat.le_of_ble_eq_true rfl, Nat.le_of_ble_eq_true rfl⟩ hl.1 rfl (Nat.le_of_ble_eq_true rfl) dX0_idle_27 (fun r hr_ => ?_)
      subst hr_
      refine lv_lstore (lv' := [(4, .long (lN (zWr (zG nx 8) 8))), (0, .ref (ad 0)), (1, .int (nI i)), (2, .int (nI j)), (3, .int (nI k))]) hx hb dX0_idle_30 hl (by decide) rfl (fun ls hl => ?_)
      refine lv_aload_n hx hb dX0_idle_32 rfl (lv_at hl 1 rfl) ?_
      refine lv_iload_n hx hb dX0_idle_33 rfl (lv_at hl 2 rfl) ?_
      refine lv_iload_n hx hb dX0_idle_34 rfl (lv_at hl 3 rfl) ?_
      refine lv_iload_n hx hb dX0_idle_35 rfl (lv_at hl 4 rfl) ?_
      refine pe_cW (n := 3) (rest := []) S hK hP (m_X0_turn l G ad cS cB nx lx (zG nx 8) w_10 (zT nx 8) (nI (zL nx 8)) ff A hA i j k (by omega) (by omega) (by omega) (by first | exact hnx _ (by omega) | exact hnx2 _ (by omega))) (ci := 0) rfl rfl rfl q83 q85 qs1 q32 q86 ⟨rfl, hd_X0_turn⟩ rfl ⟨rfl, rfl⟩ ⟨Nat.le_of_ble_eq_true rfl, Nat.le_of_ble_eq_true rfl⟩ ⟨Nat.le_of_ble_eq_true rfl, Nat.le_of_ble_eq_true rfl⟩ hl.1 rfl (Nat.le_of_ble_eq_true rfl) dX0_idle_36 hS (fun _ h => h) (fun r H locs hr_ hk_ hS => ?_)
      obtain ⟨rfl, hP⟩ := hr_
      refine lv_aload_n hx hb dX0_idle_39 rfl (lv_at hl 1 rfl) ?_
      refine lv_iconst (v := nI 0) hx hb dX0_idle_40 (by decide +kernel) ?_
      refine pe_cW (n := 1) (rest := []) S hK hP (m_X0_divide l G ad cS cB (va_up nx (8 * k + i) (nx (8 * k + i) ^^^ 2 ^ j)) lx (zG nx 8) w_10 (zT nx 8) (nI (zL nx 8)) ff A hA false) (ci := 0) rfl rfl rfl q106 q108 qs2 q32 q109 ⟨rfl, hd_X0_divide⟩ rfl ⟨rfl, rfl⟩ ⟨Nat.le_of_ble_eq_true rfl, Nat.le_of_ble_eq_true rfl⟩ ⟨Nat.le_of_ble_eq_true rfl, Nat.le_of_ble_eq_true rfl⟩ hl.1 rfl (Nat.le_of_ble_eq_true rfl) dX0_idle_41 hS (fun _ h => h) (fun r H locs hr_ hk_ hS => ?_)
      obtain ⟨rfl, w_11, hP⟩ := hr_
      have hP : va_P G vwCl (xW ad cS cB (va_up nx (8 * k + i) (nx (8 * k + i) ^^^ 2 ^ j)) lx (zG (va_up nx (8 * k + i) (nx (8 * k + i) ^^^ 2 ^ j)) 8) w_11 (zT (va_up nx (8 * k + i) (nx (8 * k + i) ^^^ 2 ^ j)) 8) (nI (zL (va_up nx (8 * k + i) (nx (8 * k + i) ^^^ 2 ^ j)) 8)) ff) H := hP
      have hgg : ∀ j_, j_ < 8 → zG (va_up nx (8 * k + i) (nx (8 * k + i) ^^^ 2 ^ j)) 8 j_ < 8 := fun j_ hj_ => zG_lt hj_
      refine lv_aload_n hx hb dX0_idle_44 rfl (lv_at hl 1 rfl) ?_
      refine pe_cVl (n := 0) (rest := []) S hK hP (m_X0_written l G ad cS cB (va_up nx (8 * k + i) (nx (8 * k + i) ^^^ 2 ^ j)) lx (zG (va_up nx (8 * k + i) (nx (8 * k + i) ^^^ 2 ^ j)) 8) w_11 (zT (va_up nx (8 * k + i) (nx (8 * k + i) ^^^ 2 ^ j)) 8) (nI (zL (va_up nx (8 * k + i) (nx (8 * k + i) ^^^ 2 ^ j)) 8)) ff hgg) (ci := 0) rfl rfl rfl q198 q200 qs15 q32 q201 ⟨rfl, hd_X0_written⟩ rfl ⟨rfl, rfl⟩ ⟨Nat.le_of_ble_eq_true rfl, Nat.le_of_ble_eq_true rfl⟩ ⟨Nat.le_of_ble_eq_true rfl, Nat.le_of_ble_eq_true rfl⟩ hl.1 rfl (Nat.le_of_ble_eq_true rfl) dX0_idle_45 (fun r hr_ => ?_)
      subst hr_
      refine lv_lstore (lv' := [(6, .long (lN (zWr (zG (va_up nx (8 * k + i) (nx (8 * k + i) ^^^ 2 ^ j)) 8) 8))), (4, .long (lN (zWr (zG nx 8) 8))), (0, .ref (ad 0)), (1, .int (nI i)), (2, .int (nI j)), (3, .int (nI k))]) hx hb dX0_idle_48 hl (by decide) rfl (fun ls hl => ?_)
      refine lv_aload_n hx hb dX0_idle_50 rfl (lv_at hl 2 rfl) ?_
      refine lv_iload_n hx hb dX0_idle_51 rfl (lv_at hl 3 rfl) ?_
      refine lv_iload_n hx hb dX0_idle_52 rfl (lv_at hl 4 rfl) ?_
      refine lv_iload_n hx hb dX0_idle_53 rfl (lv_at hl 5 rfl) ?_
      refine pe_cW (n := 3) (rest := []) S hK hP (m_X0_turn l G ad cS cB (va_up nx (8 * k + i) (nx (8 * k + i) ^^^ 2 ^ j)) lx (zG (va_up nx (8 * k + i) (nx (8 * k + i) ^^^ 2 ^ j)) 8) w_11 (zT (va_up nx (8 * k + i) (nx (8 * k + i) ^^^ 2 ^ j)) 8) (nI (zL (va_up nx (8 * k + i) (nx (8 * k + i) ^^^ 2 ^ j)) 8)) ff A hA i j k (by omega) (by omega) (by omega) (by first | exact hnx _ (by omega) | exact hnx2 _ (by omega))) (ci := 0) rfl rfl rfl q83 q85 qs1 q32 q86 ⟨rfl, hd_X0_turn⟩ rfl ⟨rfl, rfl⟩ ⟨Nat.le_of_ble_eq_true rfl, Nat.le_of_ble_eq_true rfl⟩ ⟨Nat.le_of_ble_eq_true rfl, Nat.le_of_ble_eq_true rfl⟩ hl.1 rfl (Nat.le_of_ble_eq_true rfl) dX0_idle_54 hS (fun _ h => h) (fun r H locs hr_ hk_ hS => ?_)
      obtain ⟨rfl, hP⟩ := hr_
      have hP : va_P G vwCl (xW ad cS cB nx lx (zG (va_up nx (8 * k + i) (nx (8 * k + i) ^^^ 2 ^ j)) 8) w_11 (zT (va_up nx (8 * k + i) (nx (8 * k + i) ^^^ 2 ^ j)) 8) (nI (zL (va_up nx (8 * k + i) (nx (8 * k + i) ^^^ 2 ^ j)) 8)) ff) H := by rw [z_up_up, z_up_at, z_xx, z_up_self] at hP; exact hP
      refine lv_lload hx hb dX0_idle_57 (lv_at hl 1 rfl) ?_
      refine lv_lload hx hb dX0_idle_59 (lv_at hl 0 rfl) ?_
      refine W.lcmp hx hb dX0_idle_61 ?_
      refine lv_if_ne (tgt := 69) hx hb dX0_idle_62 (by decide) (fun c62 => ?_) (fun c62 => ?_)
      · refine lv_iconst (v := nI 0) hx hb dX0_idle_69 (by decide +kernel) ?_
        exact pe_zret (b := false) hx hb hr hlocks hS dX0_idle_70 (⟨by rw [z_idn hi hj hk c16 c62], ⟨_, _, _, _, _, _, hP⟩⟩)
      · refine lv_iconst (v := nI 1) hx hb dX0_idle_65 (by decide +kernel) ?_
        refine lv_goto (tgt := 70) hx hb dX0_idle_66 (by decide) ?_
        exact pe_zret (b := true) hx hb hr hlocks hS dX0_idle_70 (⟨by rw [z_idx hi hj hk c16 c62], ⟨_, _, _, _, _, _, hP⟩⟩)
    · refine lv_iconst (v := nI 0) hx hb dX0_idle_19 (by decide +kernel) ?_
      exact pe_zret (b := false) hx hb hr hlocks hS dX0_idle_20 (⟨by rw [zIdl_f (by rw [zHas_nI hi hj hk]; exact c16)], ⟨_, _, _, _, _, _, hP⟩⟩)
end
section
/-! glue for the reference -/
theorem z_flor {tg : Nat → Nat} {t : Nat → Int32} {k i : Nat} (ht : ∀ j, j < 64 → t j = zT tg k j) : ∀ j, j < 64 → pe_fl (zT tg (k + 1)) i t j = zT tg k j ∨ pe_fl (zT tg (k + 1)) i t j = zT tg (k + 1) j := by
  intro j hj
  by_cases h : j < i
  · exact Or.inr (pe_fl_lt _ _ h)
  · exact Or.inl (by rw [pe_fl_ge _ _ (by omega)]; exact ht j hj)
theorem z_yf0 {nx : Nat → Nat} {af : Nat → Bool} : zSup nx (pe_fl (fun _ => true) 64 af) ∧ (true = true → zMu (pe_fl (fun _ => true) 64 af) + 0 ≤ 64) ∧ (true = false → zFix nx (pe_fl (fun _ => true) 64 af)) := by
  refine ⟨fun c hc _ => pe_fl_lt _ _ hc, fun _ => by rw [Nat.add_zero]; exact zMu_le _, fun h => by cases h⟩
theorem z_tx {tg : Nat → Nat} {x : Int32} {b : Nat} (h : zSt x = true) (hb : b < 8) (hc : ¬ 0 ≤ zT tg 8 (8 * tn x + b)) : zE tg 8 (tn x) b = true := (z_Tlt hb).mp (z_nge_lt hc)
theorem z_tx0 {tg : Nat → Nat} {x : Int32} {b : Nat} (h : zSt x = true) (hb : b < 8) (hc : 0 ≤ zT tg 8 (8 * tn x + b)) : zE tg 8 (tn x) b = false := Bool.eq_false_iff.mpr (fun q => z_ge_nlt hc ((z_Tlt hb).mpr q))
theorem z_grpY {tg : Nat → Nat} {x : Int32} : orF 0 (fun j => if zSt x && zE tg 8 (tn x) j then 2 ^ j else 0) 8 = zGrp tg x := by
  unfold zGrp
  cases h : zSt x with
  | true => rfl
  | false =>
    show orF 0 (fun j => if (false && zE tg 8 (tn x) j) = true then 2 ^ j else 0) 8 = 0
    rw [orF_congr (g := fun _ => 0) (fun b _ => by simp)]; rfl
theorem z_flsY {tg : Nat → Nat} {x : Int32} : orF 0 (fun j => if zSt x && zFo tg j (tn x) then 2 ^ j else 0) 8 = zFls tg x := by
  unfold zFls
  cases h : zSt x with
  | true => rfl
  | false =>
    show orF 0 (fun j => if (false && zFo tg j (tn x)) = true then 2 ^ j else 0) 8 = 0
    rw [orF_congr (g := fun _ => 0) (fun b _ => by simp)]; rfl
theorem z_fx {nx : Nat → Nat} {F : Nat → Bool} {x : Int32} {b : Nat} {v : Bool} (h : zSt x = true) (hb : b < 8) (hF : ∀ c, c < 64 → F c = zFo nx (c / 8) (c % 8)) (hc : F (8 * b + tn x) = v) : zFo nx b (tn x) = v := by
  obtain ⟨i, hi, rfl⟩ := zSt_of h
  have e : tn (nI i) = i := nI_clamp (by omega)
  rw [e] at hc ⊢
  have h1 := hF (8 * b + i) (by omega)
  rw [show (8 * b + i) / 8 = b by omega, show (8 * b + i) % 8 = i by omega, hc] at h1
  exact h1.symm
theorem z_fty {nx : Nat → Nat} {F : Nat → Bool} {i j : Nat} (hi : i < 8) (hj : j < 8) (h : ∀ c, c < 64 → F c = zFo nx (c / 8) (c % 8)) : zFo nx i j = F (8 * i + j) := by
  rw [h _ (by omega), show (8 * i + j) / 8 = i by omega, show (8 * i + j) % 8 = j by omega]
theorem z_cutjoin {nx : Nat → Nat} {x y z : Int32} (h : zHas nx x y z = true) : zJoin (zCut nx x y z) x y z = nx := by
  obtain ⟨i, j, k, hi, hj, hk, rfl, rfl, rfl⟩ := zStep_of (zHas_st h)
  rw [zCut_nI hi hj hk h, zJoin_nI hi hj hk, z_up_up, z_up_at, z_xor_or (by rw [← zHas_nI hi hj hk]; exact h), z_up_self]
theorem z_idY {nx : Nat → Nat} {x y z : Int32} {kp : Nat → Int32} (h : zHas nx x y z = true) : zIdl nx x y z = alF (fun t => decide (pe_fl (zT nx 8) 64 kp t < 0) == decide (zT (zCut nx x y z) 8 t < 0)) 64 := by
  unfold zIdl
  rw [h, Bool.true_and]
  refine alF_congr (fun c hc => ?_)
  have e1 : decide (pe_fl (zT nx 8) 64 kp c < 0) = zE nx 8 (c / 8) (c % 8) := by
    apply z_bool; rw [decide_eq_true_eq, pe_fl_lt _ _ hc]; exact zT_lt0 (by omega)
  have e2 : decide (zT (zCut nx x y z) 8 c < 0) = zE (zCut nx x y z) 8 (c / 8) (c % 8) := by
    apply z_bool; rw [decide_eq_true_eq]; exact zT_lt0 (by omega)
  rw [e1, e2]
theorem z_grpF {x : Int32} {P : Nat → Bool} {n : Nat} (h : zSt x = false) : orF 0 (fun j => if zSt x && P j then 2 ^ j else 0) n = 0 := by
  rw [h, orF_congr (g := fun _ => 0) (fun b _ => by simp)]
  induction n with
  | zero => rfl
  | succ n ih => rw [orF, ih]; rfl
end
section
/-! THE REFERENCE: the larger methods and the public ones (printed by gen/x1b.py) -/
set_option maxRecDepth 100000
theorem hd_X1_tell : yX1_tell.cls ≠ "java/lang/invoke/MethodHandle" ∧ yX1_tell.cls ≠ "java/lang/invoke/VarHandle" ∧ (parseMethodDescriptor yX1_tell.desc).map (fun d => d.parameters.length) = some 0 := by decide +kernel
set_option maxHeartbeats 4000000 in
theorem m_X1_tell (l : Launch) (G : va_G) (ad : Nat → Nat) (cI cZ : ClassId) (nx fr : Nat → Nat) (td kp : Nat → Int32) (af : Nat → Bool) (A : Nat → Prop) (hA : yD A ad)  : Met l yX1_tell (ws_ yX1_tell cX1_tell 5 none) ({ frames := 2, cells := 0, slots := 0, locals := 53 }) (va_Pc [.ref (ad 0)] (pB G vwCl (yW ad cI cZ nx fr td kp af) (yT cI cZ))) (pQ A (fun v H => v = none ∧ va_P G vwCl (yW ad cI cZ nx fr (zT fr 8) kp af) H)) 0 0 A := by
  refine pe_start (by decide) (Nat.le_of_ble_eq_true rfl) ?_
  intro p e s m below meth c hx hb hr hml hown hts hlocks hB ls hl
  have hown : s.vm.findClass RX1 = some m.cls := hown
  have S : CallFix p m c cX1_tell 5 s _ lw_all RX1 := ⟨hx, hb, hml, hown, hts⟩
  have hP := hB.1
  have hK := hB.2
  have hS : va_S A s.heap s.heap [] := va_S.rf
  have hl : lv_has ls 5 [(0, .ref (ad 0))] := hl
  refine lv_iconst (v := nI 0) hx hb dX1_tell_0 (by decide +kernel) ?_
  refine lv_istore_n (lv' := [(1, .int (nI 0)), (0, .ref (ad 0))]) hx hb dX1_tell_1 rfl hl (by decide) rfl (fun ls hl => ?_)
  refine pe_loop (64) 2 (fun i H locs ls => va_P G vwCl (yW ad cI cZ nx fr (pe_fl (fun _ => -1) i td) kp af) H ∧ va_S A s.heap H locs ∧ lv_has ls 5 [(0, .ref (ad 0)), (1, .int (nI i))]) (fun i hi_i ih_i H locs ls hl => ?_) (0) (by omega) _ _ ls (⟨by rw [pe_fl_0]; exact hP, hS, lv_sub hl [1, 0] rfl⟩)
  obtain ⟨hP, hS, hl⟩ := hl
  refine lv_iload_n hx hb dX1_tell_2 rfl (lv_at hl 1 rfl) ?_
  refine lv_bipush (v := nI 64) hx hb dX1_tell_3 (by decide +kernel) ?_
  refine pe_icmp_ge hx hb 21 dX1_tell_5 (by decide) (by omega) (by omega) (fun c5 => ?_) (fun c5 => ?_)
  · obtain rfl : i = 64 := by omega
    refine lv_iconst (v := nI 1) hx hb dX1_tell_21 (by decide +kernel) ?_
    refine lv_istore_n (lv' := [(1, .int (nI 1)), (0, .ref (ad 0))]) hx hb dX1_tell_22 rfl hl (by decide) rfl (fun ls hl => ?_)
    refine lv_iconst (v := nI 1) hx hb dX1_tell_23 (by decide +kernel) ?_
    refine lv_istore_n (lv' := [(2, .int (nI 1)), (1, .int (nI 1)), (0, .ref (ad 0))]) hx hb dX1_tell_24 rfl hl (by decide) rfl (fun ls hl => ?_)
    refine pe_loop (29) 25 (fun k H locs ls => ∃ (t : Nat → Int32) (mo : Bool), va_P G vwCl (yW ad cI cZ nx fr t kp af) H ∧ va_S A s.heap H locs ∧ lv_has ls 5 [(0, .ref (ad 0)), (1, .int (nI mo.toNat)), (2, .int (nI (k + 1)))] ∧ (∀ j, j < 64 → t j = zT fr k j) ∧ (mo = false → zFin fr k)) (fun k hi_k ih_k H locs ls hl => ?_) (0) (by omega) _ _ ls (⟨_, true, hP, hS, lv_sub hl [2, 1, 0] rfl, ⟨fun j hj => by rw [pe_fl_lt _ _ hj]; rfl, fun h => by cases h⟩⟩)
    obtain ⟨t, mo, hP, hS, hl, ht, hm⟩ := hl
    refine lv_iload_n hx hb dX1_tell_25 rfl (lv_at hl 2 rfl) ?_
    refine lv_bipush (v := nI 30) hx hb dX1_tell_26 (by decide +kernel) ?_
    refine pe_icmp_ge hx hb 141 dX1_tell_28 (by decide) (by omega) (by omega) (fun c28 => ?_) (fun c28 => ?_)
    · exact pe_vret hx hb hr hlocks hS dX1_tell_141 (⟨rfl, pe_cong hP 3 rfl (zT fr 8) (fun j hj => by rw [ht j hj, zFin_T (Or.inl (by omega)) j hj])⟩)
    · refine lv_iload_n hx hb dX1_tell_31 rfl (lv_at hl 1 rfl) ?_
      refine pe_ifeqB hx hb 141 dX1_tell_32 (by decide) (fun c32 => ?_) (fun c32 => ?_)
      · exact pe_vret hx hb hr hlocks hS dX1_tell_141 (⟨rfl, pe_cong hP 3 rfl (zT fr 8) (fun j hj => by rw [ht j hj, zFin_T (hm c32) j hj])⟩)
      · refine lv_iconst (v := nI 0) hx hb dX1_tell_35 (by decide +kernel) ?_
        refine lv_istore_n (lv' := [(1, .int (nI 0)), (0, .ref (ad 0)), (2, .int (nI (k + 1)))]) hx hb dX1_tell_36 rfl hl (by decide) rfl (fun ls hl => ?_)
        refine lv_iconst (v := nI 0) hx hb dX1_tell_37 (by decide +kernel) ?_
        refine lv_istore_n (lv' := [(3, .int (nI 0)), (1, .int (nI 0)), (0, .ref (ad 0)), (2, .int (nI (k + 1)))]) hx hb dX1_tell_38 rfl hl (by decide) rfl (fun ls hl => ?_)
        refine pe_loop (64) 39 (fun i2 H locs ls => va_P G vwCl (yW ad cI cZ nx fr (pe_fl (zT fr (k + 1)) i2 t) kp af) H ∧ va_S A s.heap H locs ∧ lv_has ls 5 [(0, .ref (ad 0)), (1, .int (nI (anF (fun j => zE fr k (j / 8) (j % 8) && !zE fr (k + 1) (j / 8) (j % 8)) (i2)).toNat)), (2, .int (nI (k + 1))), (3, .int (nI i2))]) (fun i2 hi_i2 ih_i2 H locs ls hl => ?_) (0) (by omega) _ _ ls (⟨by rw [pe_fl_0]; exact hP, hS, lv_sub hl [2, 1, 3, 0] rfl⟩)
        obtain ⟨hP, hS, hl⟩ := hl
        refine lv_iload_n hx hb dX1_tell_39 rfl (lv_at hl 3 rfl) ?_
        refine lv_bipush (v := nI 64) hx hb dX1_tell_40 (by decide +kernel) ?_
        refine pe_icmp_ge hx hb 135 dX1_tell_42 (by decide) (by omega) (by omega) (fun c42 => ?_) (fun c42 => ?_)
        · obtain rfl : i2 = 64 := by omega
          refine pe_inc (k := 2) (a := (k + 1)) (lv' := [(2, .int (nI (k + 1 + 1))), (0, .ref (ad 0)), (1, .int (nI (anF (fun j => zE fr k (j / 8) (j % 8) && !zE fr (k + 1) (j / 8) (j % 8)) (64)).toNat)), (3, .int (nI 64))]) hx hb dX1_tell_135 hl rfl (by decide) rfl (fun ls hl => ?_)
          refine lv_goto (tgt := 25) hx hb dX1_tell_138 (by decide) ?_
          exact ih_k (by omega) _ _ ls (⟨_, anF (fun j => zE fr k (j / 8) (j % 8) && !zE fr (k + 1) (j / 8) (j % 8)) 64, hP, hS, lv_sub hl [1, 2, 0] rfl, ⟨fun j hj => pe_fl_lt _ _ hj, fun h => Or.inr ⟨k, rfl, by rw [← h]; exact (z_an64 (fun a b => zE fr k a b && !zE fr (k + 1) a b)).symm⟩⟩⟩)
        · have e1 : (pe_fl (zT fr (k + 1)) i2 t) i2 = zT fr k i2 := by rw [pe_fl_ge _ _ (Nat.le_refl i2)]; exact ht i2 (by omega)
          have e2 : ∀ a b, zDf fr (pe_fl (zT fr (k + 1)) i2 t) (nI (k + 1)) a b = zD fr (zE fr k) a b := fun a b => zDf_eq (by omega) (fun j hj => z_flor ht j hj)
          refine lv_aload_n hx hb dX1_tell_45 rfl (lv_at hl 0 rfl) ?_
          refine va_get (D := G) (ci := 1) (v := .ref (ad 3)) (C := RX1) (T := TX1) (N := 5) hx hb hts in_X1 hown hK hP 0 rfl rfl 2 (by decide) (hts _ q211) (fun _ h9 => h9) rfl dX1_tell_46 ?_
          refine lv_iload_n hx hb dX1_tell_49 rfl (lv_at hl 3 rfl) ?_
          refine pe_iald hx hb hK hP 3 0 rfl rfl dX1_tell_50 i2 (rfl) (by omega) (by decide) (v := ((pe_fl (zT fr (k + 1)) i2 t) i2)) rfl ?_
          refine pe_join 91 (.int (nI (zE fr k (i2 / 8) (i2 % 8) && !zE fr (k + 1) (i2 / 8) (i2 % 8)).toNat)) [] (fun K91 => ?_) ?_
          · refine lv_if_ge (tgt := 90) hx hb dX1_tell_51 (by decide) (fun c51 => ?_) (fun c51 => ?_)
            · refine lv_iconst (v := nI 0) hx hb dX1_tell_90 (by decide +kernel) ?_
              exact pe_top (by rw [z_tl, z_tE_f (by omega) (by rw [e1] at c51; exact c51)]; rfl) K91
            · refine lv_aload_n hx hb dX1_tell_54 rfl (lv_at hl 0 rfl) ?_
              refine lv_iload_n hx hb dX1_tell_55 rfl (lv_at hl 3 rfl) ?_
              refine lv_bipush (v := nI 8) hx hb dX1_tell_56 (by decide +kernel) ?_
              refine pe_idiv hx hb (by omega) (by omega) (by omega) dX1_tell_58 ?_
              refine lv_iload_n hx hb dX1_tell_59 rfl (lv_at hl 3 rfl) ?_
              refine lv_bipush (v := nI 8) hx hb dX1_tell_60 (by decide +kernel) ?_
              refine pe_irem hx hb (by omega) (by omega) (by omega) dX1_tell_62 ?_
              refine lv_iload_n hx hb dX1_tell_63 rfl (lv_at hl 2 rfl) ?_
              refine pe_cV (n := 3) (rest := []) S hK hP (m_X1_differs l G ad cI cZ nx fr (pe_fl (zT fr (k + 1)) i2 t) kp af (i2 / 8) (i2 % 8) (k + 1) (by omega) (by omega)) (ci := 1) rfl rfl rfl q267 q269 qs21 q33 q270 ⟨rfl, hd_X1_differs⟩ rfl ⟨rfl, rfl⟩ ⟨Nat.le_of_ble_eq_true rfl, Nat.le_of_ble_eq_true rfl⟩ ⟨Nat.le_of_ble_eq_true rfl, Nat.le_of_ble_eq_true rfl⟩ hl.1 rfl (Nat.le_of_ble_eq_true rfl) dX1_tell_64 (fun r hr_ => ?_)
              subst hr_
              refine pe_ifneB hx hb 86 dX1_tell_67 (by decide) (fun c67 => ?_) (fun c67 => ?_)
              · refine lv_iconst (v := nI 1) hx hb dX1_tell_86 (by decide +kernel) ?_
                refine lv_goto (tgt := 91) hx hb dX1_tell_87 (by decide) ?_
                exact pe_top (by rw [z_tl, z_tE_t (by omega) (by rw [e1] at c51; exact c51), ← e2, ← e2]; simp [c67]) K91
              · refine lv_aload_n hx hb dX1_tell_70 rfl (lv_at hl 0 rfl) ?_
                refine lv_iload_n hx hb dX1_tell_71 rfl (lv_at hl 3 rfl) ?_
                refine lv_bipush (v := nI 8) hx hb dX1_tell_72 (by decide +kernel) ?_
                refine pe_irem hx hb (by omega) (by omega) (by omega) dX1_tell_74 ?_
                refine lv_iload_n hx hb dX1_tell_75 rfl (lv_at hl 3 rfl) ?_
                refine lv_bipush (v := nI 8) hx hb dX1_tell_76 (by decide +kernel) ?_
                refine pe_idiv hx hb (by omega) (by omega) (by omega) dX1_tell_78 ?_
                refine lv_iload_n hx hb dX1_tell_79 rfl (lv_at hl 2 rfl) ?_
                refine pe_cV (n := 3) (rest := []) S hK hP (m_X1_differs l G ad cI cZ nx fr (pe_fl (zT fr (k + 1)) i2 t) kp af (i2 % 8) (i2 / 8) (k + 1) (by omega) (by omega)) (ci := 1) rfl rfl rfl q267 q269 qs21 q33 q270 ⟨rfl, hd_X1_differs⟩ rfl ⟨rfl, rfl⟩ ⟨Nat.le_of_ble_eq_true rfl, Nat.le_of_ble_eq_true rfl⟩ ⟨Nat.le_of_ble_eq_true rfl, Nat.le_of_ble_eq_true rfl⟩ hl.1 rfl (Nat.le_of_ble_eq_true rfl) dX1_tell_80 (fun r hr_ => ?_)
                subst hr_
                refine pe_ifeqB hx hb 90 dX1_tell_83 (by decide) (fun c83 => ?_) (fun c83 => ?_)
                · refine lv_iconst (v := nI 0) hx hb dX1_tell_90 (by decide +kernel) ?_
                  exact pe_top (by rw [z_tl, z_tE_t (by omega) (by rw [e1] at c51; exact c51), ← e2, ← e2]; simp [c67, c83]) K91
                · refine lv_iconst (v := nI 1) hx hb dX1_tell_86 (by decide +kernel) ?_
                  refine lv_goto (tgt := 91) hx hb dX1_tell_87 (by decide) ?_
                  exact pe_top (by rw [z_tl, z_tE_t (by omega) (by rw [e1] at c51; exact c51), ← e2, ← e2]; simp [c67, c83]) K91
          · refine lv_istore (lv' := [(4, .int (nI (zE fr k (i2 / 8) (i2 % 8) && !zE fr (k + 1) (i2 / 8) (i2 % 8)).toNat)), (0, .ref (ad 0)), (1, .int (nI (anF (fun j => zE fr k (j / 8) (j % 8) && !zE fr (k + 1) (j / 8) (j % 8)) (i2)).toNat)), (2, .int (nI (k + 1))), (3, .int (nI i2))]) hx hb dX1_tell_91 hl (by decide) rfl (fun ls hl => ?_)
            refine lv_aload_n hx hb dX1_tell_93 rfl (lv_at hl 1 rfl) ?_
            refine va_get (D := G) (ci := 1) (v := .ref (ad 3)) (C := RX1) (T := TX1) (N := 5) hx hb hts in_X1 hown hK hP 0 rfl rfl 2 (by decide) (hts _ q211) (fun _ h9 => h9) rfl dX1_tell_94 ?_
            refine lv_iload_n hx hb dX1_tell_97 rfl (lv_at hl 4 rfl) ?_
            refine lv_iload hx hb dX1_tell_98 (lv_at hl 0 rfl) ?_
            refine pe_join 113 (.int (zT fr (k + 1) i2)) [.int (nI i2), .ref (ad 3)] (fun K113 => ?_) ?_
            · refine pe_ifeqB hx hb 107 dX1_tell_100 (by decide) (fun c100 => ?_) (fun c100 => ?_)
              · refine lv_aload_n hx hb dX1_tell_107 rfl (lv_at hl 1 rfl) ?_
                refine va_get (D := G) (ci := 1) (v := .ref (ad 3)) (C := RX1) (T := TX1) (N := 5) hx hb hts in_X1 hown hK hP 0 rfl rfl 2 (by decide) (hts _ q211) (fun _ h9 => h9) rfl dX1_tell_108 ?_
                refine lv_iload_n hx hb dX1_tell_111 rfl (lv_at hl 4 rfl) ?_
                refine pe_iald hx hb hK hP 3 0 rfl rfl dX1_tell_112 i2 (rfl) (by omega) (by decide) (v := ((pe_fl (zT fr (k + 1)) i2 t) i2)) rfl ?_
                exact pe_top (by rw [e1]; exact z_tT_n c100) K113
              · refine lv_iload_n hx hb dX1_tell_103 rfl (lv_at hl 3 rfl) ?_
                refine lv_goto (tgt := 113) hx hb dX1_tell_104 (by decide) ?_
                exact pe_top (z_tT_y c100) K113
            · refine pe_iast hx hb hK hP (hA.D _ _ _ _ _ _ _) hS 3 0 rfl rfl dX1_tell_113 i2 (rfl) (by omega) (by decide) (f' := va_up (pe_fl (zT fr (k + 1)) i2 t) i2 (zT fr (k + 1) i2)) (rfl) (fun H locs hP hS => ?_)
              have hP : va_P G vwCl (yW ad cI cZ nx fr (va_up (pe_fl (zT fr (k + 1)) i2 t) i2 (zT fr (k + 1) i2)) kp af) H := hP
              refine lv_iload_n hx hb dX1_tell_114 rfl (lv_at hl 2 rfl) ?_
              refine pe_join 128 (.int (nI (anF (fun j => zE fr k (j / 8) (j % 8) && !zE fr (k + 1) (j / 8) (j % 8)) i2 || (zE fr k (i2 / 8) (i2 % 8) && !zE fr (k + 1) (i2 / 8) (i2 % 8))).toNat)) [] (fun K128 => ?_) ?_
              · refine pe_ifneB hx hb 123 dX1_tell_115 (by decide) (fun c115 => ?_) (fun c115 => ?_)
                · refine lv_iconst (v := nI 1) hx hb dX1_tell_123 (by decide +kernel) ?_
                  refine lv_goto (tgt := 128) hx hb dX1_tell_124 (by decide) ?_
                  exact pe_top (by first | rfl | simp [c115]) K128
                · refine lv_iload hx hb dX1_tell_118 (lv_at hl 0 rfl) ?_
                  refine pe_ifeqB hx hb 127 dX1_tell_120 (by decide) (fun c120 => ?_) (fun c120 => ?_)
                  · refine lv_iconst (v := nI 0) hx hb dX1_tell_127 (by decide +kernel) ?_
                    exact pe_top (by first | rfl | simp [c115, c120]) K128
                  · refine lv_iconst (v := nI 1) hx hb dX1_tell_123 (by decide +kernel) ?_
                    refine lv_goto (tgt := 128) hx hb dX1_tell_124 (by decide) ?_
                    exact pe_top (by first | rfl | simp [c115, c120]) K128
              · refine lv_istore_n (lv' := [(1, .int (nI (anF (fun j => zE fr k (j / 8) (j % 8) && !zE fr (k + 1) (j / 8) (j % 8)) i2 || (zE fr k (i2 / 8) (i2 % 8) && !zE fr (k + 1) (i2 / 8) (i2 % 8))).toNat)), (4, .int (nI (zE fr k (i2 / 8) (i2 % 8) && !zE fr (k + 1) (i2 / 8) (i2 % 8)).toNat)), (0, .ref (ad 0)), (2, .int (nI (k + 1))), (3, .int (nI i2))]) hx hb dX1_tell_128 rfl hl (by decide) rfl (fun ls hl => ?_)
                refine pe_inc (k := 4) (a := i2) (lv' := [(3, .int (nI (i2 + 1))), (1, .int (nI (anF (fun j => zE fr k (j / 8) (j % 8) && !zE fr (k + 1) (j / 8) (j % 8)) i2 || (zE fr k (i2 / 8) (i2 % 8) && !zE fr (k + 1) (i2 / 8) (i2 % 8))).toNat)), (4, .int (nI (zE fr k (i2 / 8) (i2 % 8) && !zE fr (k + 1) (i2 / 8) (i2 % 8)).toNat)), (0, .ref (ad 0)), (2, .int (nI (k + 1)))]) hx hb dX1_tell_129 hl rfl (by decide) rfl (fun ls hl => ?_)
                refine lv_goto (tgt := 39) hx hb dX1_tell_132 (by decide) ?_
                exact ih_i2 (by omega) _ _ ls (⟨by rw [← pe_fl_up]; exact hP, hS, lv_sub hl [3, 1, 4, 0] rfl⟩)
  · refine lv_aload_n hx hb dX1_tell_8 rfl (lv_at hl 0 rfl) ?_
    refine va_get (D := G) (ci := 1) (v := .ref (ad 3)) (C := RX1) (T := TX1) (N := 5) hx hb hts in_X1 hown hK hP 0 rfl rfl 2 (by decide) (hts _ q211) (fun _ h9 => h9) rfl dX1_tell_9 ?_
    refine lv_iload_n hx hb dX1_tell_12 rfl (lv_at hl 1 rfl) ?_
    refine lv_iconst (v := -1) hx hb dX1_tell_13 (by decide +kernel) ?_
    refine pe_iast hx hb hK hP (hA.D _ _ _ _ _ _ _) hS 3 0 rfl rfl dX1_tell_14 i (rfl) (by omega) (by decide) (f' := va_up (pe_fl (fun _ => -1) i td) i (-1)) (rfl) (fun H locs hP hS => ?_)
    have hP : va_P G vwCl (yW ad cI cZ nx fr (va_up (pe_fl (fun _ => -1) i td) i (-1)) kp af) H := hP
    refine pe_inc (k := 1) (a := i) (lv' := [(1, .int (nI (i + 1))), (0, .ref (ad 0))]) hx hb dX1_tell_15 hl rfl (by decide) rfl (fun ls hl => ?_)
    refine lv_goto (tgt := 2) hx hb dX1_tell_18 (by decide) ?_
    exact ih_i (by omega) _ _ ls (⟨by rw [← pe_fl_up]; exact hP, hS, lv_sub hl [1, 0] rfl⟩)
theorem hd_X1_tellSteps : yX1_tellSteps.cls ≠ "java/lang/invoke/MethodHandle" ∧ yX1_tellSteps.cls ≠ "java/lang/invoke/VarHandle" ∧ (parseMethodDescriptor yX1_tellSteps.desc).map (fun d => d.parameters.length) = some 0 := by decide +kernel
set_option maxHeartbeats 4000000 in
theorem m_X1_tellSteps (l : Launch) (G : va_G) (ad : Nat → Nat) (cI cZ : ClassId) (nx fr : Nat → Nat) (td kp : Nat → Int32) (af : Nat → Bool) (A : Nat → Prop) (hA : yD A ad)  : Met l yX1_tellSteps (ws_ yX1_tellSteps cX1_tellSteps 1 none) ({ frames := 3, cells := 0, slots := 0, locals := 77 }) (va_Pc [.ref (ad 0)] (pB G vwCl (yW ad cI cZ nx fr td kp af) (yT cI cZ))) (pQ A (fun v H => v = none ∧ va_P G vwCl (yW ad cI cZ nx nx (zT nx 8) kp af) H)) 0 0 A := by
  refine pe_start (by decide) (Nat.le_of_ble_eq_true rfl) ?_
  intro p e s m below meth c hx hb hr hml hown hts hlocks hB ls hl
  have hown : s.vm.findClass RX1 = some m.cls := hown
  have S : CallFix p m c cX1_tellSteps 1 s _ lw_all RX1 := ⟨hx, hb, hml, hown, hts⟩
  have hP := hB.1
  have hK := hB.2
  have hS : va_S A s.heap s.heap [] := va_S.rf
  have hl : lv_has ls 1 [(0, .ref (ad 0))] := hl
  refine lv_aload_n hx hb dX1_tellSteps_0 rfl (lv_at hl 0 rfl) ?_
  refine pe_cW (n := 0) (rest := []) S hK hP (m_X1_useSteps l G ad cI cZ nx fr td kp af A hA) (ci := 1) rfl rfl rfl q259 q261 qs19 q33 q262 ⟨rfl, hd_X1_useSteps⟩ rfl ⟨rfl, rfl⟩ ⟨Nat.le_of_ble_eq_true rfl, Nat.le_of_ble_eq_true rfl⟩ ⟨Nat.le_of_ble_eq_true rfl, Nat.le_of_ble_eq_true rfl⟩ hl.1 rfl (Nat.le_of_ble_eq_true rfl) dX1_tellSteps_1 hS (fun _ h => h) (fun r H locs hr_ hk_ hS => ?_)
  obtain ⟨rfl, hP⟩ := hr_
  refine lv_aload_n hx hb dX1_tellSteps_4 rfl (lv_at hl 0 rfl) ?_
  refine pe_cW (n := 0) (rest := []) S hK hP (m_X1_tell l G ad cI cZ nx nx td kp af A hA) (ci := 1) rfl rfl rfl q263 q265 qs20 q33 q266 ⟨rfl, hd_X1_tell⟩ rfl ⟨rfl, rfl⟩ ⟨Nat.le_of_ble_eq_true rfl, Nat.le_of_ble_eq_true rfl⟩ ⟨Nat.le_of_ble_eq_true rfl, Nat.le_of_ble_eq_true rfl⟩ hl.1 rfl (Nat.le_of_ble_eq_true rfl) dX1_tellSteps_5 hS (fun _ h => h) (fun r H locs hr_ hk_ hS => ?_)
  obtain ⟨rfl, hP⟩ := hr_
  exact pe_vret hx hb hr hlocks hS dX1_tellSteps_8 (⟨rfl, hP⟩)
theorem hd_X1_tellLongSteps : yX1_tellLongSteps.cls ≠ "java/lang/invoke/MethodHandle" ∧ yX1_tellLongSteps.cls ≠ "java/lang/invoke/VarHandle" ∧ (parseMethodDescriptor yX1_tellLongSteps.desc).map (fun d => d.parameters.length) = some 0 := by decide +kernel
set_option maxHeartbeats 4000000 in
theorem m_X1_tellLongSteps (l : Launch) (G : va_G) (ad : Nat → Nat) (cI cZ : ClassId) (nx fr : Nat → Nat) (td kp : Nat → Int32) (af : Nat → Bool) (A : Nat → Prop) (hA : yD A ad)  : Met l yX1_tellLongSteps (ws_ yX1_tellLongSteps cX1_tellLongSteps 1 none) ({ frames := 4, cells := 0, slots := 0, locals := 94 }) (va_Pc [.ref (ad 0)] (pB G vwCl (yW ad cI cZ nx fr td kp af) (yT cI cZ))) (pQ A (fun v H => v = none ∧ va_P G vwCl (yW ad cI cZ nx (zLg nx) (zT (zLg nx) 8) kp af) H)) 0 0 A := by
  refine pe_start (by decide) (Nat.le_of_ble_eq_true rfl) ?_
  intro p e s m below meth c hx hb hr hml hown hts hlocks hB ls hl
  have hown : s.vm.findClass RX1 = some m.cls := hown
  have S : CallFix p m c cX1_tellLongSteps 1 s _ lw_all RX1 := ⟨hx, hb, hml, hown, hts⟩
  have hP := hB.1
  have hK := hB.2
  have hS : va_S A s.heap s.heap [] := va_S.rf
  have hl : lv_has ls 1 [(0, .ref (ad 0))] := hl
  refine lv_aload_n hx hb dX1_tellLongSteps_0 rfl (lv_at hl 0 rfl) ?_
  refine pe_cW (n := 0) (rest := []) S hK hP (m_X1_useLongSteps l G ad cI cZ nx fr td kp af A hA) (ci := 1) rfl rfl rfl q303 q305 qs25 q33 q306 ⟨rfl, hd_X1_useLongSteps⟩ rfl ⟨rfl, rfl⟩ ⟨Nat.le_of_ble_eq_true rfl, Nat.le_of_ble_eq_true rfl⟩ ⟨Nat.le_of_ble_eq_true rfl, Nat.le_of_ble_eq_true rfl⟩ hl.1 rfl (Nat.le_of_ble_eq_true rfl) dX1_tellLongSteps_1 hS (fun _ h => h) (fun r H locs hr_ hk_ hS => ?_)
  obtain ⟨rfl, hP⟩ := hr_
  refine lv_aload_n hx hb dX1_tellLongSteps_4 rfl (lv_at hl 0 rfl) ?_
  refine pe_cW (n := 0) (rest := []) S hK hP (m_X1_tell l G ad cI cZ nx (zLx (fun j => zQ nx j 8) nx) td kp af A hA) (ci := 1) rfl rfl rfl q263 q265 qs20 q33 q266 ⟨rfl, hd_X1_tell⟩ rfl ⟨rfl, rfl⟩ ⟨Nat.le_of_ble_eq_true rfl, Nat.le_of_ble_eq_true rfl⟩ ⟨Nat.le_of_ble_eq_true rfl, Nat.le_of_ble_eq_true rfl⟩ hl.1 rfl (Nat.le_of_ble_eq_true rfl) dX1_tellLongSteps_5 hS (fun _ h => h) (fun r H locs hr_ hk_ hS => ?_)
  obtain ⟨rfl, hP⟩ := hr_
  exact pe_vret hx hb hr hlocks hS dX1_tellLongSteps_8 (⟨rfl, hP⟩)
theorem hd_X1_follow : yX1_follow.cls ≠ "java/lang/invoke/MethodHandle" ∧ yX1_follow.cls ≠ "java/lang/invoke/VarHandle" ∧ (parseMethodDescriptor yX1_follow.desc).map (fun d => d.parameters.length) = some 0 := by decide +kernel
set_option maxHeartbeats 4000000 in
theorem m_X1_follow (l : Launch) (G : va_G) (ad : Nat → Nat) (cI cZ : ClassId) (nx fr : Nat → Nat) (td kp : Nat → Int32) (af : Nat → Bool) (A : Nat → Prop) (hA : yD A ad)  : Met l yX1_follow (ws_ yX1_follow cX1_follow 5 none) ({ frames := 1, cells := 0, slots := 0, locals := 28 }) (va_Pc [.ref (ad 0)] (pB G vwCl (yW ad cI cZ nx fr td kp af) (yT cI cZ))) (pQ A (fun v H => v = none ∧ ∃ F, va_P G vwCl (yW ad cI cZ nx fr td kp F) H ∧ ∀ c, c < 64 → F c = zFo nx (c / 8) (c % 8))) 0 0 A := by
  refine pe_start (by decide) (Nat.le_of_ble_eq_true rfl) ?_
  intro p e s m below meth c hx hb hr hml hown hts hlocks hB ls hl
  have hown : s.vm.findClass RX1 = some m.cls := hown
  have S : CallFix p m c cX1_follow 5 s _ lw_all RX1 := ⟨hx, hb, hml, hown, hts⟩
  have hP := hB.1
  have hK := hB.2
  have hS : va_S A s.heap s.heap [] := va_S.rf
  have hl : lv_has ls 5 [(0, .ref (ad 0))] := hl
  refine lv_iconst (v := nI 0) hx hb dX1_follow_0 (by decide +kernel) ?_
  refine lv_istore_n (lv' := [(1, .int (nI 0)), (0, .ref (ad 0))]) hx hb dX1_follow_1 rfl hl (by decide) rfl (fun ls hl => ?_)
  refine pe_loop (64) 2 (fun i H locs ls => va_P G vwCl (yW ad cI cZ nx fr td kp (pe_fl (fun _ => true) i af)) H ∧ va_S A s.heap H locs ∧ lv_has ls 5 [(0, .ref (ad 0)), (1, .int (nI i))]) (fun i hi_i ih_i H locs ls hl => ?_) (0) (by omega) _ _ ls (⟨by rw [pe_fl_0]; exact hP, hS, lv_sub hl [1, 0] rfl⟩)
  obtain ⟨hP, hS, hl⟩ := hl
  refine lv_iload_n hx hb dX1_follow_2 rfl (lv_at hl 1 rfl) ?_
  refine lv_bipush (v := nI 64) hx hb dX1_follow_3 (by decide +kernel) ?_
  refine pe_icmp_ge hx hb 21 dX1_follow_5 (by decide) (by omega) (by omega) (fun c5 => ?_) (fun c5 => ?_)
  · obtain rfl : i = 64 := by omega
    refine lv_iconst (v := nI 1) hx hb dX1_follow_21 (by decide +kernel) ?_
    refine lv_istore_n (lv' := [(1, .int (nI 1)), (0, .ref (ad 0))]) hx hb dX1_follow_22 rfl hl (by decide) rfl (fun ls hl => ?_)
    refine lv_iconst (v := nI 0) hx hb dX1_follow_23 (by decide +kernel) ?_
    refine lv_istore_n (lv' := [(2, .int (nI 0)), (1, .int (nI 1)), (0, .ref (ad 0))]) hx hb dX1_follow_24 rfl hl (by decide) rfl (fun ls hl => ?_)
    refine pe_loop (65) 25 (fun r H locs ls => ∃ (F : Nat → Bool) (mo : Bool), va_P G vwCl (yW ad cI cZ nx fr td kp F) H ∧ va_S A s.heap H locs ∧ lv_has ls 5 [(0, .ref (ad 0)), (1, .int (nI mo.toNat)), (2, .int (nI r))] ∧ zSup nx F ∧ (mo = true → zMu F + r ≤ 64) ∧ (mo = false → zFix nx F)) (fun r hi_r ih_r H locs ls hl => ?_) (0) (by omega) _ _ ls (⟨_, true, hP, hS, lv_sub hl [2, 1, 0] rfl, z_yf0⟩)
    obtain ⟨F, mo, hP, hS, hl, hsu, hmu, hfx⟩ := hl
    refine lv_iload_n hx hb dX1_follow_25 rfl (lv_at hl 2 rfl) ?_
    refine lv_bipush (v := nI 65) hx hb dX1_follow_26 (by decide +kernel) ?_
    refine pe_icmp_ge hx hb 128 dX1_follow_28 (by decide) (by omega) (by omega) (fun c28 => ?_) (fun c28 => ?_)
    · exact pe_vret hx hb hr hlocks hS dX1_follow_128 (⟨rfl, F, hP, z_yfix hmu hfx hsu (Or.inr c28)⟩)
    · refine lv_iload_n hx hb dX1_follow_31 rfl (lv_at hl 1 rfl) ?_
      refine pe_ifeqB hx hb 128 dX1_follow_32 (by decide) (fun c32 => ?_) (fun c32 => ?_)
      · exact pe_vret hx hb hr hlocks hS dX1_follow_128 (⟨rfl, F, hP, z_yfix hmu hfx hsu (Or.inl c32)⟩)
      · refine lv_iconst (v := nI 0) hx hb dX1_follow_35 (by decide +kernel) ?_
        refine lv_istore_n (lv' := [(1, .int (nI 0)), (0, .ref (ad 0)), (2, .int (nI r))]) hx hb dX1_follow_36 rfl hl (by decide) rfl (fun ls hl => ?_)
        refine lv_iconst (v := nI 0) hx hb dX1_follow_37 (by decide +kernel) ?_
        refine lv_istore_n (lv' := [(3, .int (nI 0)), (1, .int (nI 0)), (0, .ref (ad 0)), (2, .int (nI r))]) hx hb dX1_follow_38 rfl hl (by decide) rfl (fun ls hl => ?_)
        refine pe_loop (64) 39 (fun i2 H locs ls => ∃ (F2 : Nat → Bool) (mo2 : Bool), va_P G vwCl (yW ad cI cZ nx fr td kp F2) H ∧ va_S A s.heap H locs ∧ lv_has ls 5 [(0, .ref (ad 0)), (1, .int (nI mo2.toNat)), (2, .int (nI r)), (3, .int (nI i2))] ∧ zPs nx F F2 mo2 (fun j => j < i2)) (fun i2 hi_i2 ih_i2 H locs ls hl => ?_) (0) (by omega) _ _ ls (⟨_, false, hP, hS, lv_sub hl [2, 1, 3, 0] rfl, zPs_0 hsu (fun j _ => Nat.not_lt_zero _)⟩)
        obtain ⟨F2, mo2, hP, hS, hl, hps⟩ := hl
        refine lv_iload_n hx hb dX1_follow_39 rfl (lv_at hl 3 rfl) ?_
        refine lv_bipush (v := nI 64) hx hb dX1_follow_40 (by decide +kernel) ?_
        refine pe_icmp_ge hx hb 122 dX1_follow_42 (by decide) (by omega) (by omega) (fun c42 => ?_) (fun c42 => ?_)
        · obtain rfl : i2 = 64 := by omega
          refine pe_inc (k := 2) (a := r) (lv' := [(2, .int (nI (r + 1))), (0, .ref (ad 0)), (1, .int (nI mo2.toNat)), (3, .int (nI 64))]) hx hb dX1_follow_122 hl rfl (by decide) rfl (fun ls hl => ?_)
          refine lv_goto (tgt := 25) hx hb dX1_follow_125 (by decide) ?_
          exact ih_r (by omega) _ _ ls (⟨F2, mo2, hP, hS, lv_sub hl [1, 2, 0] rfl, ⟨hps.1, fun h => by have h1 := hps.2.2.1 h; have h2 := hmu c32; omega, fun h => zPs_end (D := fun j => j < 64) (fun j hj => hj) (by rw [h] at hps; exact hps)⟩⟩)
        · refine lv_aload_n hx hb dX1_follow_45 rfl (lv_at hl 0 rfl) ?_
          refine va_get (D := G) (ci := 1) (v := .ref (ad 5)) (C := RX1) (T := TX1) (N := 5) hx hb hts in_X1 hown hK hP 0 rfl rfl 4 (by decide) (hts _ q213) (fun _ h9 => h9) rfl dX1_follow_46 ?_
          refine lv_iload_n hx hb dX1_follow_49 rfl (lv_at hl 3 rfl) ?_
          refine pe_zald hx hb hK hP 5 1 rfl rfl dX1_follow_50 i2 (rfl) (by omega) (by decide) (v := (nI (F2 i2).toNat)) rfl ?_
          refine pe_join 74 (.int (nI (F2 i2 && !zAns nx F2 (i2 / 8) (i2 % 8)).toNat)) [] (fun K74 => ?_) ?_
          · refine pe_ifeqB hx hb 73 dX1_follow_51 (by decide) (fun c51 => ?_) (fun c51 => ?_)
            · refine lv_iconst (v := nI 0) hx hb dX1_follow_73 (by decide +kernel) ?_
              exact pe_top (by first | rfl | simp [c51]) K74
            · refine lv_aload_n hx hb dX1_follow_54 rfl (lv_at hl 0 rfl) ?_
              refine lv_iload_n hx hb dX1_follow_55 rfl (lv_at hl 3 rfl) ?_
              refine lv_bipush (v := nI 8) hx hb dX1_follow_56 (by decide +kernel) ?_
              refine pe_idiv hx hb (by omega) (by omega) (by omega) dX1_follow_58 ?_
              refine lv_iload_n hx hb dX1_follow_59 rfl (lv_at hl 3 rfl) ?_
              refine lv_bipush (v := nI 8) hx hb dX1_follow_60 (by decide +kernel) ?_
              refine pe_irem hx hb (by omega) (by omega) (by omega) dX1_follow_62 ?_
              refine pe_cV (n := 2) (rest := []) S hK hP (m_X1_answers l G ad cI cZ nx fr td kp F2 (i2 / 8) (i2 % 8) (by omega) (by omega)) (ci := 1) rfl rfl rfl q331 q333 qs30 q33 q334 ⟨rfl, hd_X1_answers⟩ rfl ⟨rfl, rfl⟩ ⟨Nat.le_of_ble_eq_true rfl, Nat.le_of_ble_eq_true rfl⟩ ⟨Nat.le_of_ble_eq_true rfl, Nat.le_of_ble_eq_true rfl⟩ hl.1 rfl (Nat.le_of_ble_eq_true rfl) dX1_follow_63 (fun r hr_ => ?_)
              subst hr_
              refine pe_ifneB hx hb 73 dX1_follow_66 (by decide) (fun c66 => ?_) (fun c66 => ?_)
              · refine lv_iconst (v := nI 0) hx hb dX1_follow_73 (by decide +kernel) ?_
                exact pe_top (by first | rfl | simp [c51, c66]) K74
              · refine lv_iconst (v := nI 1) hx hb dX1_follow_69 (by decide +kernel) ?_
                refine lv_goto (tgt := 74) hx hb dX1_follow_70 (by decide) ?_
                exact pe_top (by first | rfl | simp [c51, c66]) K74
          · refine lv_istore (lv' := [(4, .int (nI (F2 i2 && !zAns nx F2 (i2 / 8) (i2 % 8)).toNat)), (0, .ref (ad 0)), (1, .int (nI mo2.toNat)), (2, .int (nI r)), (3, .int (nI i2))]) hx hb dX1_follow_74 hl (by decide) rfl (fun ls hl => ?_)
            refine lv_aload_n hx hb dX1_follow_76 rfl (lv_at hl 1 rfl) ?_
            refine va_get (D := G) (ci := 1) (v := .ref (ad 5)) (C := RX1) (T := TX1) (N := 5) hx hb hts in_X1 hown hK hP 0 rfl rfl 4 (by decide) (hts _ q213) (fun _ h9 => h9) rfl dX1_follow_77 ?_
            refine lv_iload_n hx hb dX1_follow_80 rfl (lv_at hl 4 rfl) ?_
            refine lv_aload_n hx hb dX1_follow_81 rfl (lv_at hl 1 rfl) ?_
            refine va_get (D := G) (ci := 1) (v := .ref (ad 5)) (C := RX1) (T := TX1) (N := 5) hx hb hts in_X1 hown hK hP 0 rfl rfl 4 (by decide) (hts _ q213) (fun _ h9 => h9) rfl dX1_follow_82 ?_
            refine lv_iload_n hx hb dX1_follow_85 rfl (lv_at hl 4 rfl) ?_
            refine pe_zald hx hb hK hP 5 1 rfl rfl dX1_follow_86 i2 (rfl) (by omega) (by decide) (v := (nI (F2 i2).toNat)) rfl ?_
            refine pe_join 100 (.int (nI (F2 i2 && !(F2 i2 && !zAns nx F2 (i2 / 8) (i2 % 8))).toNat)) [.int (nI i2), .ref (ad 5)] (fun K100 => ?_) ?_
            · refine pe_ifeqB hx hb 99 dX1_follow_87 (by decide) (fun c87 => ?_) (fun c87 => ?_)
              · refine lv_iconst (v := nI 0) hx hb dX1_follow_99 (by decide +kernel) ?_
                exact pe_top (by rw [c87]; rfl) K100
              · refine lv_iload hx hb dX1_follow_90 (lv_at hl 0 rfl) ?_
                refine pe_ifneB hx hb 99 dX1_follow_92 (by decide) (fun c92 => ?_) (fun c92 => ?_)
                · refine lv_iconst (v := nI 0) hx hb dX1_follow_99 (by decide +kernel) ?_
                  exact pe_top (by rw [c92, Bool.not_true, Bool.and_false]; rfl) K100
                · refine lv_iconst (v := nI 1) hx hb dX1_follow_95 (by decide +kernel) ?_
                  refine lv_goto (tgt := 100) hx hb dX1_follow_96 (by decide) ?_
                  exact pe_top (by rw [c92, c87]; rfl) K100
            · refine pe_zast hx hb hK hP (hA.D _ _ _ _ _ _ _) hS 5 1 rfl rfl dX1_follow_100 i2 (rfl) (by omega) (by decide) (pe_nz (F2 i2 && !(F2 i2 && !zAns nx F2 (i2 / 8) (i2 % 8)))) (f' := fun j_ => nI ((va_up F2 i2 (F2 i2 && !(F2 i2 && !zAns nx F2 (i2 / 8) (i2 % 8)))) j_).toNat) (pe_upB _ _ _) (fun H locs hP hS => ?_)
              have hP : va_P G vwCl (yW ad cI cZ nx fr td kp (va_up F2 i2 (F2 i2 && !(F2 i2 && !zAns nx F2 (i2 / 8) (i2 % 8))))) H := hP
              refine lv_iload_n hx hb dX1_follow_101 rfl (lv_at hl 2 rfl) ?_
              refine pe_join 115 (.int (nI (mo2 || (F2 i2 && !zAns nx F2 (i2 / 8) (i2 % 8))).toNat)) [] (fun K115 => ?_) ?_
              · refine pe_ifneB hx hb 110 dX1_follow_102 (by decide) (fun c102 => ?_) (fun c102 => ?_)
                · refine lv_iconst (v := nI 1) hx hb dX1_follow_110 (by decide +kernel) ?_
                  refine lv_goto (tgt := 115) hx hb dX1_follow_111 (by decide) ?_
                  exact pe_top (by first | rfl | simp [c102]) K115
                · refine lv_iload hx hb dX1_follow_105 (lv_at hl 0 rfl) ?_
                  refine pe_ifeqB hx hb 114 dX1_follow_107 (by decide) (fun c107 => ?_) (fun c107 => ?_)
                  · refine lv_iconst (v := nI 0) hx hb dX1_follow_114 (by decide +kernel) ?_
                    exact pe_top (by first | rfl | simp [c102, c107]) K115
                  · refine lv_iconst (v := nI 1) hx hb dX1_follow_110 (by decide +kernel) ?_
                    refine lv_goto (tgt := 115) hx hb dX1_follow_111 (by decide) ?_
                    exact pe_top (by first | rfl | simp [c102, c107]) K115
              · refine lv_istore_n (lv' := [(1, .int (nI (mo2 || (F2 i2 && !zAns nx F2 (i2 / 8) (i2 % 8))).toNat)), (4, .int (nI (F2 i2 && !zAns nx F2 (i2 / 8) (i2 % 8)).toNat)), (0, .ref (ad 0)), (2, .int (nI r)), (3, .int (nI i2))]) hx hb dX1_follow_115 rfl hl (by decide) rfl (fun ls hl => ?_)
                refine pe_inc (k := 4) (a := i2) (lv' := [(3, .int (nI (i2 + 1))), (1, .int (nI (mo2 || (F2 i2 && !zAns nx F2 (i2 / 8) (i2 % 8))).toNat)), (4, .int (nI (F2 i2 && !zAns nx F2 (i2 / 8) (i2 % 8)).toNat)), (0, .ref (ad 0)), (2, .int (nI r))]) hx hb dX1_follow_116 hl rfl (by decide) rfl (fun ls hl => ?_)
                refine lv_goto (tgt := 39) hx hb dX1_follow_119 (by decide) ?_
                exact ih_i2 (by omega) _ _ ls (⟨_, _, hP, hS, lv_sub hl [3, 1, 4, 0] rfl, zPs_s (by omega) hps⟩)
  · refine lv_aload_n hx hb dX1_follow_8 rfl (lv_at hl 0 rfl) ?_
    refine va_get (D := G) (ci := 1) (v := .ref (ad 5)) (C := RX1) (T := TX1) (N := 5) hx hb hts in_X1 hown hK hP 0 rfl rfl 4 (by decide) (hts _ q213) (fun _ h9 => h9) rfl dX1_follow_9 ?_
    refine lv_iload_n hx hb dX1_follow_12 rfl (lv_at hl 1 rfl) ?_
    refine lv_iconst (v := nI 1) hx hb dX1_follow_13 (by decide +kernel) ?_
    refine pe_zast hx hb hK hP (hA.D _ _ _ _ _ _ _) hS 5 1 rfl rfl dX1_follow_14 i (rfl) (by omega) (by decide) (pe_nz true) (f' := fun j_ => nI ((va_up (pe_fl (fun _ => true) i af) i true) j_).toNat) (pe_upB _ _ _) (fun H locs hP hS => ?_)
    have hP : va_P G vwCl (yW ad cI cZ nx fr td kp (va_up (pe_fl (fun _ => true) i af) i true)) H := hP
    refine pe_inc (k := 1) (a := i) (lv' := [(1, .int (nI (i + 1))), (0, .ref (ad 0))]) hx hb dX1_follow_15 hl rfl (by decide) rfl (fun ls hl => ?_)
    refine lv_goto (tgt := 2) hx hb dX1_follow_18 (by decide) ?_
    exact ih_i (by omega) _ _ ls (⟨by rw [← pe_fl_up]; exact hP, hS, lv_sub hl [1, 0] rfl⟩)
theorem hd_X1_alike : yX1_alike.cls ≠ "java/lang/invoke/MethodHandle" ∧ yX1_alike.cls ≠ "java/lang/invoke/VarHandle" ∧ (parseMethodDescriptor yX1_alike.desc).map (fun d => d.parameters.length) = some 2 := by decide +kernel
set_option maxHeartbeats 4000000 in
theorem m_X1_alike (l : Launch) (G : va_G) (ad : Nat → Nat) (cI cZ : ClassId) (nx fr : Nat → Nat) (td kp : Nat → Int32) (af : Nat → Bool) (A : Nat → Prop) (hA : yD A ad) (x y : Int32) : Met l yX1_alike (ws_ yX1_alike cX1_alike 3 (some .boolean)) ({ frames := 4, cells := 0, slots := 0, locals := 97 }) (va_Pc [.ref (ad 0), .int x, .int y] (pB G vwCl (yW ad cI cZ nx fr td kp af) (yT cI cZ))) (pQ A (fun v H => v = some (.int (nI (zAlk nx x y).toNat)) ∧ yP G ad cI cZ nx H)) 0 0 A := by
  refine pe_start (by decide) (Nat.le_of_ble_eq_true rfl) ?_
  intro p e s m below meth c hx hb hr hml hown hts hlocks hB ls hl
  have hown : s.vm.findClass RX1 = some m.cls := hown
  have S : CallFix p m c cX1_alike 3 s _ lw_all RX1 := ⟨hx, hb, hml, hown, hts⟩
  have hP := hB.1
  have hK := hB.2
  have hS : va_S A s.heap s.heap [] := va_S.rf
  have hl : lv_has ls 3 [(0, .ref (ad 0)), (1, .int x), (2, .int y)] := hl
  refine lv_aload_n hx hb dX1_alike_0 rfl (lv_at hl 0 rfl) ?_
  refine pe_cW (n := 0) (rest := []) S hK hP (m_X1_tellSteps l G ad cI cZ nx fr td kp af A hA) (ci := 1) rfl rfl rfl q255 q257 qs18 q33 q258 ⟨rfl, hd_X1_tellSteps⟩ rfl ⟨rfl, rfl⟩ ⟨Nat.le_of_ble_eq_true rfl, Nat.le_of_ble_eq_true rfl⟩ ⟨Nat.le_of_ble_eq_true rfl, Nat.le_of_ble_eq_true rfl⟩ hl.1 rfl (Nat.le_of_ble_eq_true rfl) dX1_alike_1 hS (fun _ h => h) (fun r H locs hr_ hk_ hS => ?_)
  obtain ⟨rfl, hP⟩ := hr_
  refine lv_aload_n hx hb dX1_alike_4 rfl (lv_at hl 0 rfl) ?_
  refine lv_iload_n hx hb dX1_alike_5 rfl (lv_at hl 1 rfl) ?_
  refine pe_cV (n := 1) (rest := []) S hK hP (m_X1_state l G ad cI cZ nx nx (zT nx 8) kp af x) (ci := 1) rfl rfl rfl q231 q233 qs16 q33 q234 ⟨rfl, hd_X1_state⟩ rfl ⟨rfl, rfl⟩ ⟨Nat.le_of_ble_eq_true rfl, Nat.le_of_ble_eq_true rfl⟩ ⟨Nat.le_of_ble_eq_true rfl, Nat.le_of_ble_eq_true rfl⟩ hl.1 rfl (Nat.le_of_ble_eq_true rfl) dX1_alike_6 (fun r hr_ => ?_)
  subst hr_
  refine pe_ifeqB hx hb 38 dX1_alike_9 (by decide) (fun c9 => ?_) (fun c9 => ?_)
  · refine lv_iconst (v := nI 0) hx hb dX1_alike_38 (by decide +kernel) ?_
    exact pe_zret (b := false) hx hb hr hlocks hS dX1_alike_39 (⟨by rw [zAlk_x c9], ⟨_, _, _, _, hP⟩⟩)
  · refine lv_aload_n hx hb dX1_alike_12 rfl (lv_at hl 0 rfl) ?_
    refine lv_iload_n hx hb dX1_alike_13 rfl (lv_at hl 2 rfl) ?_
    refine pe_cV (n := 1) (rest := []) S hK hP (m_X1_state l G ad cI cZ nx nx (zT nx 8) kp af y) (ci := 1) rfl rfl rfl q231 q233 qs16 q33 q234 ⟨rfl, hd_X1_state⟩ rfl ⟨rfl, rfl⟩ ⟨Nat.le_of_ble_eq_true rfl, Nat.le_of_ble_eq_true rfl⟩ ⟨Nat.le_of_ble_eq_true rfl, Nat.le_of_ble_eq_true rfl⟩ hl.1 rfl (Nat.le_of_ble_eq_true rfl) dX1_alike_14 (fun r hr_ => ?_)
    subst hr_
    refine pe_ifeqB hx hb 38 dX1_alike_17 (by decide) (fun c17 => ?_) (fun c17 => ?_)
    · refine lv_iconst (v := nI 0) hx hb dX1_alike_38 (by decide +kernel) ?_
      exact pe_zret (b := false) hx hb hr hlocks hS dX1_alike_39 (⟨by rw [zAlk_y c17], ⟨_, _, _, _, hP⟩⟩)
    · obtain ⟨i, hi, rfl⟩ := zSt_of c9
      obtain ⟨j, hj, rfl⟩ := zSt_of c17
      refine lv_aload_n hx hb dX1_alike_20 rfl (lv_at hl 0 rfl) ?_
      refine va_get (D := G) (ci := 1) (v := .ref (ad 3)) (C := RX1) (T := TX1) (N := 5) hx hb hts in_X1 hown hK hP 0 rfl rfl 2 (by decide) (hts _ q211) (fun _ h9 => h9) rfl dX1_alike_21 ?_
      refine lv_bipush (v := nI 8) hx hb dX1_alike_24 (by decide +kernel) ?_
      refine lv_iload_n hx hb dX1_alike_26 rfl (lv_at hl 1 rfl) ?_
      refine pe_imul hx hb dX1_alike_27 ?_
      refine lv_iload_n hx hb dX1_alike_28 rfl (lv_at hl 2 rfl) ?_
      refine pe_iadd hx hb dX1_alike_29 ?_
      refine pe_iald hx hb hK hP 3 0 rfl rfl dX1_alike_30 (8 * i + j) (by omega) (by omega) (by decide) (v := ((zT nx 8) (8 * i + j))) rfl ?_
      refine lv_if_ge (tgt := 38) hx hb dX1_alike_31 (by decide) (fun c31 => ?_) (fun c31 => ?_)
      · refine lv_iconst (v := nI 0) hx hb dX1_alike_38 (by decide +kernel) ?_
        exact pe_zret (b := false) hx hb hr hlocks hS dX1_alike_39 (⟨by rw [zAlk_nI hi hj, Bool.eq_false_iff.mpr (fun q => z_ge_nlt c31 ((z_Tlt hj).mpr q))], ⟨_, _, _, _, hP⟩⟩)
      · refine lv_iconst (v := nI 1) hx hb dX1_alike_34 (by decide +kernel) ?_
        refine lv_goto (tgt := 39) hx hb dX1_alike_35 (by decide) ?_
        exact pe_zret (b := true) hx hb hr hlocks hS dX1_alike_39 (⟨by rw [zAlk_nI hi hj, (z_Tlt hj).mp (z_nge_lt c31)], ⟨_, _, _, _, hP⟩⟩)
theorem hd_X1_looselyAlike : yX1_looselyAlike.cls ≠ "java/lang/invoke/MethodHandle" ∧ yX1_looselyAlike.cls ≠ "java/lang/invoke/VarHandle" ∧ (parseMethodDescriptor yX1_looselyAlike.desc).map (fun d => d.parameters.length) = some 2 := by decide +kernel
set_option maxHeartbeats 4000000 in
theorem m_X1_looselyAlike (l : Launch) (G : va_G) (ad : Nat → Nat) (cI cZ : ClassId) (nx fr : Nat → Nat) (td kp : Nat → Int32) (af : Nat → Bool) (A : Nat → Prop) (hA : yD A ad) (x y : Int32) : Met l yX1_looselyAlike (ws_ yX1_looselyAlike cX1_looselyAlike 3 (some .boolean)) ({ frames := 5, cells := 0, slots := 0, locals := 114 }) (va_Pc [.ref (ad 0), .int x, .int y] (pB G vwCl (yW ad cI cZ nx fr td kp af) (yT cI cZ))) (pQ A (fun v H => v = some (.int (nI (zAlk (zLg nx) x y).toNat)) ∧ yP G ad cI cZ nx H)) 0 0 A := by
  refine pe_start (by decide) (Nat.le_of_ble_eq_true rfl) ?_
  intro p e s m below meth c hx hb hr hml hown hts hlocks hB ls hl
  have hown : s.vm.findClass RX1 = some m.cls := hown
  have S : CallFix p m c cX1_looselyAlike 3 s _ lw_all RX1 := ⟨hx, hb, hml, hown, hts⟩
  have hP := hB.1
  have hK := hB.2
  have hS : va_S A s.heap s.heap [] := va_S.rf
  have hl : lv_has ls 3 [(0, .ref (ad 0)), (1, .int x), (2, .int y)] := hl
  refine lv_aload_n hx hb dX1_looselyAlike_0 rfl (lv_at hl 0 rfl) ?_
  refine pe_cW (n := 0) (rest := []) S hK hP (m_X1_tellLongSteps l G ad cI cZ nx fr td kp af A hA) (ci := 1) rfl rfl rfl q299 q301 qs24 q33 q302 ⟨rfl, hd_X1_tellLongSteps⟩ rfl ⟨rfl, rfl⟩ ⟨Nat.le_of_ble_eq_true rfl, Nat.le_of_ble_eq_true rfl⟩ ⟨Nat.le_of_ble_eq_true rfl, Nat.le_of_ble_eq_true rfl⟩ hl.1 rfl (Nat.le_of_ble_eq_true rfl) dX1_looselyAlike_1 hS (fun _ h => h) (fun r H locs hr_ hk_ hS => ?_)
  obtain ⟨rfl, hP⟩ := hr_
  refine lv_aload_n hx hb dX1_looselyAlike_4 rfl (lv_at hl 0 rfl) ?_
  refine lv_iload_n hx hb dX1_looselyAlike_5 rfl (lv_at hl 1 rfl) ?_
  refine pe_cV (n := 1) (rest := []) S hK hP (m_X1_state l G ad cI cZ nx (zLg nx) (zT (zLg nx) 8) kp af x) (ci := 1) rfl rfl rfl q231 q233 qs16 q33 q234 ⟨rfl, hd_X1_state⟩ rfl ⟨rfl, rfl⟩ ⟨Nat.le_of_ble_eq_true rfl, Nat.le_of_ble_eq_true rfl⟩ ⟨Nat.le_of_ble_eq_true rfl, Nat.le_of_ble_eq_true rfl⟩ hl.1 rfl (Nat.le_of_ble_eq_true rfl) dX1_looselyAlike_6 (fun r hr_ => ?_)
  subst hr_
  refine pe_ifeqB hx hb 38 dX1_looselyAlike_9 (by decide) (fun c9 => ?_) (fun c9 => ?_)
  · refine lv_iconst (v := nI 0) hx hb dX1_looselyAlike_38 (by decide +kernel) ?_
    exact pe_zret (b := false) hx hb hr hlocks hS dX1_looselyAlike_39 (⟨by rw [zAlk_x c9], ⟨_, _, _, _, hP⟩⟩)
  · refine lv_aload_n hx hb dX1_looselyAlike_12 rfl (lv_at hl 0 rfl) ?_
    refine lv_iload_n hx hb dX1_looselyAlike_13 rfl (lv_at hl 2 rfl) ?_
    refine pe_cV (n := 1) (rest := []) S hK hP (m_X1_state l G ad cI cZ nx (zLg nx) (zT (zLg nx) 8) kp af y) (ci := 1) rfl rfl rfl q231 q233 qs16 q33 q234 ⟨rfl, hd_X1_state⟩ rfl ⟨rfl, rfl⟩ ⟨Nat.le_of_ble_eq_true rfl, Nat.le_of_ble_eq_true rfl⟩ ⟨Nat.le_of_ble_eq_true rfl, Nat.le_of_ble_eq_true rfl⟩ hl.1 rfl (Nat.le_of_ble_eq_true rfl) dX1_looselyAlike_14 (fun r hr_ => ?_)
    subst hr_
    refine pe_ifeqB hx hb 38 dX1_looselyAlike_17 (by decide) (fun c17 => ?_) (fun c17 => ?_)
    · refine lv_iconst (v := nI 0) hx hb dX1_looselyAlike_38 (by decide +kernel) ?_
      exact pe_zret (b := false) hx hb hr hlocks hS dX1_looselyAlike_39 (⟨by rw [zAlk_y c17], ⟨_, _, _, _, hP⟩⟩)
    · obtain ⟨i, hi, rfl⟩ := zSt_of c9
      obtain ⟨j, hj, rfl⟩ := zSt_of c17
      refine lv_aload_n hx hb dX1_looselyAlike_20 rfl (lv_at hl 0 rfl) ?_
      refine va_get (D := G) (ci := 1) (v := .ref (ad 3)) (C := RX1) (T := TX1) (N := 5) hx hb hts in_X1 hown hK hP 0 rfl rfl 2 (by decide) (hts _ q211) (fun _ h9 => h9) rfl dX1_looselyAlike_21 ?_
      refine lv_bipush (v := nI 8) hx hb dX1_looselyAlike_24 (by decide +kernel) ?_
      refine lv_iload_n hx hb dX1_looselyAlike_26 rfl (lv_at hl 1 rfl) ?_
      refine pe_imul hx hb dX1_looselyAlike_27 ?_
      refine lv_iload_n hx hb dX1_looselyAlike_28 rfl (lv_at hl 2 rfl) ?_
      refine pe_iadd hx hb dX1_looselyAlike_29 ?_
      refine pe_iald hx hb hK hP 3 0 rfl rfl dX1_looselyAlike_30 (8 * i + j) (by omega) (by omega) (by decide) (v := ((zT (zLg nx) 8) (8 * i + j))) rfl ?_
      refine lv_if_ge (tgt := 38) hx hb dX1_looselyAlike_31 (by decide) (fun c31 => ?_) (fun c31 => ?_)
      · refine lv_iconst (v := nI 0) hx hb dX1_looselyAlike_38 (by decide +kernel) ?_
        exact pe_zret (b := false) hx hb hr hlocks hS dX1_looselyAlike_39 (⟨by rw [zAlk_nI hi hj, Bool.eq_false_iff.mpr (fun q => z_ge_nlt c31 ((z_Tlt hj).mpr q))], ⟨_, _, _, _, hP⟩⟩)
      · refine lv_iconst (v := nI 1) hx hb dX1_looselyAlike_34 (by decide +kernel) ?_
        refine lv_goto (tgt := 39) hx hb dX1_looselyAlike_35 (by decide) ?_
        exact pe_zret (b := true) hx hb hr hlocks hS dX1_looselyAlike_39 (⟨by rw [zAlk_nI hi hj, (z_Tlt hj).mp (z_nge_lt c31)], ⟨_, _, _, _, hP⟩⟩)
theorem hd_X1_group : yX1_group.cls ≠ "java/lang/invoke/MethodHandle" ∧ yX1_group.cls ≠ "java/lang/invoke/VarHandle" ∧ (parseMethodDescriptor yX1_group.desc).map (fun d => d.parameters.length) = some 1 := by decide +kernel
set_option maxHeartbeats 4000000 in
theorem m_X1_group (l : Launch) (G : va_G) (ad : Nat → Nat) (cI cZ : ClassId) (nx fr : Nat → Nat) (td kp : Nat → Int32) (af : Nat → Bool) (A : Nat → Prop) (hA : yD A ad) (x : Int32) : Met l yX1_group (ws_ yX1_group cX1_group 4 (some .int)) ({ frames := 4, cells := 0, slots := 0, locals := 97 }) (va_Pc [.ref (ad 0), .int x] (pB G vwCl (yW ad cI cZ nx fr td kp af) (yT cI cZ))) (pQ A (fun v H => v = some (.int (nI (zGrp nx x))) ∧ yP G ad cI cZ nx H)) 0 0 A := by
  refine pe_start (by decide) (Nat.le_of_ble_eq_true rfl) ?_
  intro p e s m below meth c hx hb hr hml hown hts hlocks hB ls hl
  have hown : s.vm.findClass RX1 = some m.cls := hown
  have S : CallFix p m c cX1_group 4 s _ lw_all RX1 := ⟨hx, hb, hml, hown, hts⟩
  have hP := hB.1
  have hK := hB.2
  have hS : va_S A s.heap s.heap [] := va_S.rf
  have hl : lv_has ls 4 [(0, .ref (ad 0)), (1, .int x)] := hl
  refine lv_aload_n hx hb dX1_group_0 rfl (lv_at hl 0 rfl) ?_
  refine pe_cW (n := 0) (rest := []) S hK hP (m_X1_tellSteps l G ad cI cZ nx fr td kp af A hA) (ci := 1) rfl rfl rfl q255 q257 qs18 q33 q258 ⟨rfl, hd_X1_tellSteps⟩ rfl ⟨rfl, rfl⟩ ⟨Nat.le_of_ble_eq_true rfl, Nat.le_of_ble_eq_true rfl⟩ ⟨Nat.le_of_ble_eq_true rfl, Nat.le_of_ble_eq_true rfl⟩ hl.1 rfl (Nat.le_of_ble_eq_true rfl) dX1_group_1 hS (fun _ h => h) (fun r H locs hr_ hk_ hS => ?_)
  obtain ⟨rfl, hP⟩ := hr_
  refine lv_iconst (v := nI 0) hx hb dX1_group_4 (by decide +kernel) ?_
  refine lv_istore_n (lv' := [(2, .int (nI 0)), (0, .ref (ad 0)), (1, .int x)]) hx hb dX1_group_5 rfl hl (by decide) rfl (fun ls hl => ?_)
  refine lv_iconst (v := nI 0) hx hb dX1_group_6 (by decide +kernel) ?_
  refine lv_istore_n (lv' := [(3, .int (nI 0)), (2, .int (nI 0)), (0, .ref (ad 0)), (1, .int x)]) hx hb dX1_group_7 rfl hl (by decide) rfl (fun ls hl => ?_)
  refine pe_loopR (8) 8 (fun b ls => lv_has ls 4 [(0, .ref (ad 0)), (1, .int x), (2, .int (nI (orF 0 (fun j => if zSt x && zE nx 8 (tn x) j then 2 ^ j else 0) (b)))), (3, .int (nI b))]) (fun b hi_b ih_b ls hl => ?_) (0) (by omega) ls (lv_sub hl [2, 3, 1, 0] rfl)
  refine lv_iload_n hx hb dX1_group_8 rfl (lv_at hl 3 rfl) ?_
  refine lv_bipush (v := nI 8) hx hb dX1_group_9 (by decide +kernel) ?_
  refine pe_icmp_ge hx hb 52 dX1_group_11 (by decide) (by omega) (by omega) (fun c11 => ?_) (fun c11 => ?_)
  · obtain rfl : b = 8 := by omega
    refine lv_iload_n hx hb dX1_group_52 rfl (lv_at hl 2 rfl) ?_
    exact pe_iret (v := (nI (orF 0 (fun j => if zSt x && zE nx 8 (tn x) j then 2 ^ j else 0) (8)))) hx hb hr hlocks hS dX1_group_53 (⟨by rw [z_grpY], ⟨_, _, _, _, hP⟩⟩)
  · refine lv_aload_n hx hb dX1_group_14 rfl (lv_at hl 0 rfl) ?_
    refine lv_iload_n hx hb dX1_group_15 rfl (lv_at hl 1 rfl) ?_
    refine pe_cV (n := 1) (rest := []) S hK hP (m_X1_state l G ad cI cZ nx nx (zT nx 8) kp af x) (ci := 1) rfl rfl rfl q231 q233 qs16 q33 q234 ⟨rfl, hd_X1_state⟩ rfl ⟨rfl, rfl⟩ ⟨Nat.le_of_ble_eq_true rfl, Nat.le_of_ble_eq_true rfl⟩ ⟨Nat.le_of_ble_eq_true rfl, Nat.le_of_ble_eq_true rfl⟩ hl.1 rfl (Nat.le_of_ble_eq_true rfl) dX1_group_16 (fun r hr_ => ?_)
    subst hr_
    refine pe_ifeqB hx hb 52 dX1_group_19 (by decide) (fun c19 => ?_) (fun c19 => ?_)
    · refine lv_iload_n hx hb dX1_group_52 rfl (lv_at hl 2 rfl) ?_
      exact pe_iret (v := (nI (orF 0 (fun j => if zSt x && zE nx 8 (tn x) j then 2 ^ j else 0) (b)))) hx hb hr hlocks hS dX1_group_53 (⟨by rw [z_grpF c19, zGrp_f c19], ⟨_, _, _, _, hP⟩⟩)
    · refine lv_aload_n hx hb dX1_group_22 rfl (lv_at hl 0 rfl) ?_
      refine va_get (D := G) (ci := 1) (v := .ref (ad 3)) (C := RX1) (T := TX1) (N := 5) hx hb hts in_X1 hown hK hP 0 rfl rfl 2 (by decide) (hts _ q211) (fun _ h9 => h9) rfl dX1_group_23 ?_
      refine lv_bipush (v := nI 8) hx hb dX1_group_26 (by decide +kernel) ?_
      obtain ⟨i, hi, ex⟩ := zSt_of c19
      have hti : tn x = i := by rw [ex]; exact nI_clamp (by omega)
      refine lv_iload_n hx hb dX1_group_28 rfl (lv_at hl 1 rfl) ?_
      refine pe_top ex ?_
      refine pe_imul hx hb dX1_group_29 ?_
      refine lv_iload_n hx hb dX1_group_30 rfl (lv_at hl 3 rfl) ?_
      refine pe_iadd hx hb dX1_group_31 ?_
      refine pe_iald hx hb hK hP 3 0 rfl rfl dX1_group_32 (8 * tn x + b) (by omega) (by omega) (by decide) (v := ((zT nx 8) (8 * tn x + b))) rfl ?_
      refine pe_join 45 (.int (nI (orF 0 (fun j => if zSt x && zE nx 8 (tn x) j then 2 ^ j else 0) b ||| (if zSt x && zE nx 8 (tn x) b then 2 ^ b else 0)))) [] (fun K45 => ?_) ?_
      · refine lv_if_ge (tgt := 44) hx hb dX1_group_33 (by decide) (fun c33 => ?_) (fun c33 => ?_)
        · refine lv_iload_n hx hb dX1_group_44 rfl (lv_at hl 2 rfl) ?_
          exact pe_top (by simp [c19, z_tx0 c19 (by omega) c33]) K45
        · refine lv_iload_n hx hb dX1_group_36 rfl (lv_at hl 2 rfl) ?_
          refine lv_iconst (v := nI 1) hx hb dX1_group_37 (by decide +kernel) ?_
          refine lv_iload_n hx hb dX1_group_38 rfl (lv_at hl 3 rfl) ?_
          refine pe_shl hx hb (by omega) dX1_group_39 ?_
          refine pe_ior hx hb dX1_group_40 ?_
          refine lv_goto (tgt := 45) hx hb dX1_group_41 (by decide) ?_
          exact pe_top (by simp [c19, z_tx c19 (by omega) c33]) K45
      · refine lv_istore_n (lv' := [(2, .int (nI (orF 0 (fun j => if zSt x && zE nx 8 (tn x) j then 2 ^ j else 0) b ||| (if zSt x && zE nx 8 (tn x) b then 2 ^ b else 0)))), (0, .ref (ad 0)), (1, .int x), (3, .int (nI b))]) hx hb dX1_group_45 rfl hl (by decide) rfl (fun ls hl => ?_)
        refine pe_inc (k := 3) (a := b) (lv' := [(3, .int (nI (b + 1))), (2, .int (nI (orF 0 (fun j => if zSt x && zE nx 8 (tn x) j then 2 ^ j else 0) b ||| (if zSt x && zE nx 8 (tn x) b then 2 ^ b else 0)))), (0, .ref (ad 0)), (1, .int x)]) hx hb dX1_group_46 hl rfl (by decide) rfl (fun ls hl => ?_)
        refine lv_goto (tgt := 8) hx hb dX1_group_49 (by decide) ?_
        exact ih_b (by omega) ls (lv_sub hl [2, 3, 1, 0] rfl)
theorem hd_X1_groups : yX1_groups.cls ≠ "java/lang/invoke/MethodHandle" ∧ yX1_groups.cls ≠ "java/lang/invoke/VarHandle" ∧ (parseMethodDescriptor yX1_groups.desc).map (fun d => d.parameters.length) = some 0 := by decide +kernel
set_option maxHeartbeats 4000000 in
theorem m_X1_groups (l : Launch) (G : va_G) (ad : Nat → Nat) (cI cZ : ClassId) (nx fr : Nat → Nat) (td kp : Nat → Int32) (af : Nat → Bool) (A : Nat → Prop) (hA : yD A ad)  : Met l yX1_groups (ws_ yX1_groups cX1_groups 1 (some .int)) ({ frames := 4, cells := 0, slots := 0, locals := 97 }) (va_Pc [.ref (ad 0)] (pB G vwCl (yW ad cI cZ nx fr td kp af) (yT cI cZ))) (pQ A (fun v H => v = some (.int (nI (zCnt nx))) ∧ yP G ad cI cZ nx H)) 0 0 A := by
  refine pe_start (by decide) (Nat.le_of_ble_eq_true rfl) ?_
  intro p e s m below meth c hx hb hr hml hown hts hlocks hB ls hl
  have hown : s.vm.findClass RX1 = some m.cls := hown
  have S : CallFix p m c cX1_groups 1 s _ lw_all RX1 := ⟨hx, hb, hml, hown, hts⟩
  have hP := hB.1
  have hK := hB.2
  have hS : va_S A s.heap s.heap [] := va_S.rf
  have hl : lv_has ls 1 [(0, .ref (ad 0))] := hl
  refine lv_aload_n hx hb dX1_groups_0 rfl (lv_at hl 0 rfl) ?_
  refine pe_cW (n := 0) (rest := []) S hK hP (m_X1_tellSteps l G ad cI cZ nx fr td kp af A hA) (ci := 1) rfl rfl rfl q255 q257 qs18 q33 q258 ⟨rfl, hd_X1_tellSteps⟩ rfl ⟨rfl, rfl⟩ ⟨Nat.le_of_ble_eq_true rfl, Nat.le_of_ble_eq_true rfl⟩ ⟨Nat.le_of_ble_eq_true rfl, Nat.le_of_ble_eq_true rfl⟩ hl.1 rfl (Nat.le_of_ble_eq_true rfl) dX1_groups_1 hS (fun _ h => h) (fun r H locs hr_ hk_ hS => ?_)
  obtain ⟨rfl, hP⟩ := hr_
  refine lv_aload_n hx hb dX1_groups_4 rfl (lv_at hl 0 rfl) ?_
  refine pe_cV (n := 0) (rest := []) S hK hP (m_X1_count l G ad cI cZ nx nx (zT nx 8) kp af) (ci := 1) rfl rfl rfl q283 q285 qs23 q33 q286 ⟨rfl, hd_X1_count⟩ rfl ⟨rfl, rfl⟩ ⟨Nat.le_of_ble_eq_true rfl, Nat.le_of_ble_eq_true rfl⟩ ⟨Nat.le_of_ble_eq_true rfl, Nat.le_of_ble_eq_true rfl⟩ hl.1 rfl (Nat.le_of_ble_eq_true rfl) dX1_groups_5 (fun r hr_ => ?_)
  subst hr_
  exact pe_iret (v := (nI (smF (fun k => (alF (fun j => decide (0 ≤ (zT nx 8) (8 * k + j))) k).toNat) 8))) hx hb hr hlocks hS dX1_groups_8 (⟨by rw [z_cnt (fun _ _ => rfl)], ⟨_, _, _, _, hP⟩⟩)
theorem hd_X1_looseGroups : yX1_looseGroups.cls ≠ "java/lang/invoke/MethodHandle" ∧ yX1_looseGroups.cls ≠ "java/lang/invoke/VarHandle" ∧ (parseMethodDescriptor yX1_looseGroups.desc).map (fun d => d.parameters.length) = some 0 := by decide +kernel
set_option maxHeartbeats 4000000 in
theorem m_X1_looseGroups (l : Launch) (G : va_G) (ad : Nat → Nat) (cI cZ : ClassId) (nx fr : Nat → Nat) (td kp : Nat → Int32) (af : Nat → Bool) (A : Nat → Prop) (hA : yD A ad)  : Met l yX1_looseGroups (ws_ yX1_looseGroups cX1_looseGroups 1 (some .int)) ({ frames := 5, cells := 0, slots := 0, locals := 114 }) (va_Pc [.ref (ad 0)] (pB G vwCl (yW ad cI cZ nx fr td kp af) (yT cI cZ))) (pQ A (fun v H => v = some (.int (nI (zCnt (zLg nx)))) ∧ yP G ad cI cZ nx H)) 0 0 A := by
  refine pe_start (by decide) (Nat.le_of_ble_eq_true rfl) ?_
  intro p e s m below meth c hx hb hr hml hown hts hlocks hB ls hl
  have hown : s.vm.findClass RX1 = some m.cls := hown
  have S : CallFix p m c cX1_looseGroups 1 s _ lw_all RX1 := ⟨hx, hb, hml, hown, hts⟩
  have hP := hB.1
  have hK := hB.2
  have hS : va_S A s.heap s.heap [] := va_S.rf
  have hl : lv_has ls 1 [(0, .ref (ad 0))] := hl
  refine lv_aload_n hx hb dX1_looseGroups_0 rfl (lv_at hl 0 rfl) ?_
  refine pe_cW (n := 0) (rest := []) S hK hP (m_X1_tellLongSteps l G ad cI cZ nx fr td kp af A hA) (ci := 1) rfl rfl rfl q299 q301 qs24 q33 q302 ⟨rfl, hd_X1_tellLongSteps⟩ rfl ⟨rfl, rfl⟩ ⟨Nat.le_of_ble_eq_true rfl, Nat.le_of_ble_eq_true rfl⟩ ⟨Nat.le_of_ble_eq_true rfl, Nat.le_of_ble_eq_true rfl⟩ hl.1 rfl (Nat.le_of_ble_eq_true rfl) dX1_looseGroups_1 hS (fun _ h => h) (fun r H locs hr_ hk_ hS => ?_)
  obtain ⟨rfl, hP⟩ := hr_
  refine lv_aload_n hx hb dX1_looseGroups_4 rfl (lv_at hl 0 rfl) ?_
  refine pe_cV (n := 0) (rest := []) S hK hP (m_X1_count l G ad cI cZ nx (zLg nx) (zT (zLg nx) 8) kp af) (ci := 1) rfl rfl rfl q283 q285 qs23 q33 q286 ⟨rfl, hd_X1_count⟩ rfl ⟨rfl, rfl⟩ ⟨Nat.le_of_ble_eq_true rfl, Nat.le_of_ble_eq_true rfl⟩ ⟨Nat.le_of_ble_eq_true rfl, Nat.le_of_ble_eq_true rfl⟩ hl.1 rfl (Nat.le_of_ble_eq_true rfl) dX1_looseGroups_5 (fun r hr_ => ?_)
  subst hr_
  exact pe_iret (v := (nI (smF (fun k => (alF (fun j => decide (0 ≤ (zT (zLg nx) 8) (8 * k + j))) k).toNat) 8))) hx hb hr hlocks hS dX1_looseGroups_8 (⟨by rw [z_cnt (fun _ _ => rfl)], ⟨_, _, _, _, hP⟩⟩)
theorem hd_X1_toldAfter : yX1_toldAfter.cls ≠ "java/lang/invoke/MethodHandle" ∧ yX1_toldAfter.cls ≠ "java/lang/invoke/VarHandle" ∧ (parseMethodDescriptor yX1_toldAfter.desc).map (fun d => d.parameters.length) = some 2 := by decide +kernel
set_option maxHeartbeats 4000000 in
theorem m_X1_toldAfter (l : Launch) (G : va_G) (ad : Nat → Nat) (cI cZ : ClassId) (nx fr : Nat → Nat) (td kp : Nat → Int32) (af : Nat → Bool) (A : Nat → Prop) (hA : yD A ad) (x y : Int32) : Met l yX1_toldAfter (ws_ yX1_toldAfter cX1_toldAfter 3 (some .int)) ({ frames := 4, cells := 0, slots := 0, locals := 97 }) (va_Pc [.ref (ad 0), .int x, .int y] (pB G vwCl (yW ad cI cZ nx fr td kp af) (yT cI cZ))) (pQ A (fun v H => v = some (.int (zTol nx x y)) ∧ yP G ad cI cZ nx H)) 0 0 A := by
  refine pe_start (by decide) (Nat.le_of_ble_eq_true rfl) ?_
  intro p e s m below meth c hx hb hr hml hown hts hlocks hB ls hl
  have hown : s.vm.findClass RX1 = some m.cls := hown
  have S : CallFix p m c cX1_toldAfter 3 s _ lw_all RX1 := ⟨hx, hb, hml, hown, hts⟩
  have hP := hB.1
  have hK := hB.2
  have hS : va_S A s.heap s.heap [] := va_S.rf
  have hl : lv_has ls 3 [(0, .ref (ad 0)), (1, .int x), (2, .int y)] := hl
  refine lv_aload_n hx hb dX1_toldAfter_0 rfl (lv_at hl 0 rfl) ?_
  refine pe_cW (n := 0) (rest := []) S hK hP (m_X1_tellSteps l G ad cI cZ nx fr td kp af A hA) (ci := 1) rfl rfl rfl q255 q257 qs18 q33 q258 ⟨rfl, hd_X1_tellSteps⟩ rfl ⟨rfl, rfl⟩ ⟨Nat.le_of_ble_eq_true rfl, Nat.le_of_ble_eq_true rfl⟩ ⟨Nat.le_of_ble_eq_true rfl, Nat.le_of_ble_eq_true rfl⟩ hl.1 rfl (Nat.le_of_ble_eq_true rfl) dX1_toldAfter_1 hS (fun _ h => h) (fun r H locs hr_ hk_ hS => ?_)
  obtain ⟨rfl, hP⟩ := hr_
  refine lv_aload_n hx hb dX1_toldAfter_4 rfl (lv_at hl 0 rfl) ?_
  refine lv_iload_n hx hb dX1_toldAfter_5 rfl (lv_at hl 1 rfl) ?_
  refine pe_cV (n := 1) (rest := []) S hK hP (m_X1_state l G ad cI cZ nx nx (zT nx 8) kp af x) (ci := 1) rfl rfl rfl q231 q233 qs16 q33 q234 ⟨rfl, hd_X1_state⟩ rfl ⟨rfl, rfl⟩ ⟨Nat.le_of_ble_eq_true rfl, Nat.le_of_ble_eq_true rfl⟩ ⟨Nat.le_of_ble_eq_true rfl, Nat.le_of_ble_eq_true rfl⟩ hl.1 rfl (Nat.le_of_ble_eq_true rfl) dX1_toldAfter_6 (fun r hr_ => ?_)
  subst hr_
  refine pe_ifeqB hx hb 34 dX1_toldAfter_9 (by decide) (fun c9 => ?_) (fun c9 => ?_)
  · refine lv_iconst (v := -1) hx hb dX1_toldAfter_34 (by decide +kernel) ?_
    exact pe_iret (v := (-1)) hx hb hr hlocks hS dX1_toldAfter_35 (⟨by rw [zTol_x c9], ⟨_, _, _, _, hP⟩⟩)
  · refine lv_aload_n hx hb dX1_toldAfter_12 rfl (lv_at hl 0 rfl) ?_
    refine lv_iload_n hx hb dX1_toldAfter_13 rfl (lv_at hl 2 rfl) ?_
    refine pe_cV (n := 1) (rest := []) S hK hP (m_X1_state l G ad cI cZ nx nx (zT nx 8) kp af y) (ci := 1) rfl rfl rfl q231 q233 qs16 q33 q234 ⟨rfl, hd_X1_state⟩ rfl ⟨rfl, rfl⟩ ⟨Nat.le_of_ble_eq_true rfl, Nat.le_of_ble_eq_true rfl⟩ ⟨Nat.le_of_ble_eq_true rfl, Nat.le_of_ble_eq_true rfl⟩ hl.1 rfl (Nat.le_of_ble_eq_true rfl) dX1_toldAfter_14 (fun r hr_ => ?_)
    subst hr_
    refine pe_ifeqB hx hb 34 dX1_toldAfter_17 (by decide) (fun c17 => ?_) (fun c17 => ?_)
    · refine lv_iconst (v := -1) hx hb dX1_toldAfter_34 (by decide +kernel) ?_
      exact pe_iret (v := (-1)) hx hb hr hlocks hS dX1_toldAfter_35 (⟨by rw [zTol_y c17], ⟨_, _, _, _, hP⟩⟩)
    · obtain ⟨i, hi, rfl⟩ := zSt_of c9
      obtain ⟨j, hj, rfl⟩ := zSt_of c17
      refine lv_aload_n hx hb dX1_toldAfter_20 rfl (lv_at hl 0 rfl) ?_
      refine va_get (D := G) (ci := 1) (v := .ref (ad 3)) (C := RX1) (T := TX1) (N := 5) hx hb hts in_X1 hown hK hP 0 rfl rfl 2 (by decide) (hts _ q211) (fun _ h9 => h9) rfl dX1_toldAfter_21 ?_
      refine lv_bipush (v := nI 8) hx hb dX1_toldAfter_24 (by decide +kernel) ?_
      refine lv_iload_n hx hb dX1_toldAfter_26 rfl (lv_at hl 1 rfl) ?_
      refine pe_imul hx hb dX1_toldAfter_27 ?_
      refine lv_iload_n hx hb dX1_toldAfter_28 rfl (lv_at hl 2 rfl) ?_
      refine pe_iadd hx hb dX1_toldAfter_29 ?_
      refine pe_iald hx hb hK hP 3 0 rfl rfl dX1_toldAfter_30 (8 * i + j) (by omega) (by omega) (by decide) (v := ((zT nx 8) (8 * i + j))) rfl ?_
      refine lv_goto (tgt := 35) hx hb dX1_toldAfter_31 (by decide) ?_
      exact pe_iret (v := ((zT nx 8) (8 * i + j))) hx hb hr hlocks hS dX1_toldAfter_35 (⟨by rw [zTol_nI hi hj], ⟨_, _, _, _, hP⟩⟩)
theorem hd_X1_rounds : yX1_rounds.cls ≠ "java/lang/invoke/MethodHandle" ∧ yX1_rounds.cls ≠ "java/lang/invoke/VarHandle" ∧ (parseMethodDescriptor yX1_rounds.desc).map (fun d => d.parameters.length) = some 0 := by decide +kernel
set_option maxHeartbeats 4000000 in
theorem m_X1_rounds (l : Launch) (G : va_G) (ad : Nat → Nat) (cI cZ : ClassId) (nx fr : Nat → Nat) (td kp : Nat → Int32) (af : Nat → Bool) (A : Nat → Prop) (hA : yD A ad)  : Met l yX1_rounds (ws_ yX1_rounds cX1_rounds 3 (some .int)) ({ frames := 4, cells := 0, slots := 0, locals := 97 }) (va_Pc [.ref (ad 0)] (pB G vwCl (yW ad cI cZ nx fr td kp af) (yT cI cZ))) (pQ A (fun v H => v = some (.int (nI (zL nx 8))) ∧ yP G ad cI cZ nx H)) 0 0 A := by
  refine pe_start (by decide) (Nat.le_of_ble_eq_true rfl) ?_
  intro p e s m below meth c hx hb hr hml hown hts hlocks hB ls hl
  have hown : s.vm.findClass RX1 = some m.cls := hown
  have S : CallFix p m c cX1_rounds 3 s _ lw_all RX1 := ⟨hx, hb, hml, hown, hts⟩
  have hP := hB.1
  have hK := hB.2
  have hS : va_S A s.heap s.heap [] := va_S.rf
  have hl : lv_has ls 3 [(0, .ref (ad 0))] := hl
  refine lv_aload_n hx hb dX1_rounds_0 rfl (lv_at hl 0 rfl) ?_
  refine pe_cW (n := 0) (rest := []) S hK hP (m_X1_tellSteps l G ad cI cZ nx fr td kp af A hA) (ci := 1) rfl rfl rfl q255 q257 qs18 q33 q258 ⟨rfl, hd_X1_tellSteps⟩ rfl ⟨rfl, rfl⟩ ⟨Nat.le_of_ble_eq_true rfl, Nat.le_of_ble_eq_true rfl⟩ ⟨Nat.le_of_ble_eq_true rfl, Nat.le_of_ble_eq_true rfl⟩ hl.1 rfl (Nat.le_of_ble_eq_true rfl) dX1_rounds_1 hS (fun _ h => h) (fun r H locs hr_ hk_ hS => ?_)
  obtain ⟨rfl, hP⟩ := hr_
  refine lv_iconst (v := nI 0) hx hb dX1_rounds_4 (by decide +kernel) ?_
  refine lv_istore_n (lv' := [(1, .int (nI 0)), (0, .ref (ad 0))]) hx hb dX1_rounds_5 rfl hl (by decide) rfl (fun ls hl => ?_)
  refine lv_iconst (v := nI 0) hx hb dX1_rounds_6 (by decide +kernel) ?_
  refine lv_istore_n (lv' := [(2, .int (nI 0)), (1, .int (nI 0)), (0, .ref (ad 0))]) hx hb dX1_rounds_7 rfl hl (by decide) rfl (fun ls hl => ?_)
  refine pe_loopR (64) 8 (fun i ls => lv_has ls 3 [(0, .ref (ad 0)), (1, .int (zMx (zT nx 8) (i))), (2, .int (nI i))]) (fun i hi_i ih_i ls hl => ?_) (0) (by omega) ls (lv_sub hl [2, 1, 0] rfl)
  refine lv_iload_n hx hb dX1_rounds_8 rfl (lv_at hl 2 rfl) ?_
  refine lv_bipush (v := nI 64) hx hb dX1_rounds_9 (by decide +kernel) ?_
  refine pe_icmp_ge hx hb 41 dX1_rounds_11 (by decide) (by omega) (by omega) (fun c11 => ?_) (fun c11 => ?_)
  · obtain rfl : i = 64 := by omega
    refine lv_iload_n hx hb dX1_rounds_41 rfl (lv_at hl 1 rfl) ?_
    exact pe_iret (v := (zMx (zT nx 8) (64))) hx hb hr hlocks hS dX1_rounds_42 (⟨by rw [zMx_L (fun _ _ => rfl)], ⟨_, _, _, _, hP⟩⟩)
  · refine lv_aload_n hx hb dX1_rounds_14 rfl (lv_at hl 0 rfl) ?_
    refine va_get (D := G) (ci := 1) (v := .ref (ad 3)) (C := RX1) (T := TX1) (N := 5) hx hb hts in_X1 hown hK hP 0 rfl rfl 2 (by decide) (hts _ q211) (fun _ h9 => h9) rfl dX1_rounds_15 ?_
    refine lv_iload_n hx hb dX1_rounds_18 rfl (lv_at hl 2 rfl) ?_
    refine pe_iald hx hb hK hP 3 0 rfl rfl dX1_rounds_19 i (rfl) (by omega) (by decide) (v := ((zT nx 8) i)) rfl ?_
    refine lv_iload_n hx hb dX1_rounds_20 rfl (lv_at hl 1 rfl) ?_
    refine pe_join 34 (.int (if zMx (zT nx 8) i < zT nx 8 i then zT nx 8 i else zMx (zT nx 8) i)) [] (fun K34 => ?_) ?_
    · refine lv_icmp_le (tgt := 33) hx hb dX1_rounds_21 (by decide) (fun c21 => ?_) (fun c21 => ?_)
      · refine lv_iload_n hx hb dX1_rounds_33 rfl (lv_at hl 1 rfl) ?_
        exact pe_top (by rw [if_neg (z_le_ngt c21)]) K34
      · refine lv_aload_n hx hb dX1_rounds_24 rfl (lv_at hl 0 rfl) ?_
        refine va_get (D := G) (ci := 1) (v := .ref (ad 3)) (C := RX1) (T := TX1) (N := 5) hx hb hts in_X1 hown hK hP 0 rfl rfl 2 (by decide) (hts _ q211) (fun _ h9 => h9) rfl dX1_rounds_25 ?_
        refine lv_iload_n hx hb dX1_rounds_28 rfl (lv_at hl 2 rfl) ?_
        refine pe_iald hx hb hK hP 3 0 rfl rfl dX1_rounds_29 i (rfl) (by omega) (by decide) (v := ((zT nx 8) i)) rfl ?_
        refine lv_goto (tgt := 34) hx hb dX1_rounds_30 (by decide) ?_
        exact pe_top (by rw [if_pos (z_le_gt c21)]) K34
    · refine lv_istore_n (lv' := [(1, .int (if zMx (zT nx 8) i < zT nx 8 i then zT nx 8 i else zMx (zT nx 8) i)), (0, .ref (ad 0)), (2, .int (nI i))]) hx hb dX1_rounds_34 rfl hl (by decide) rfl (fun ls hl => ?_)
      refine pe_inc (k := 2) (a := i) (lv' := [(2, .int (nI (i + 1))), (1, .int (if zMx (zT nx 8) i < zT nx 8 i then zT nx 8 i else zMx (zT nx 8) i)), (0, .ref (ad 0))]) hx hb dX1_rounds_35 hl rfl (by decide) rfl (fun ls hl => ?_)
      refine lv_goto (tgt := 8) hx hb dX1_rounds_38 (by decide) ?_
      exact ih_i (by omega) ls (lv_sub hl [2, 1, 0] rfl)
theorem hd_X1_follows : yX1_follows.cls ≠ "java/lang/invoke/MethodHandle" ∧ yX1_follows.cls ≠ "java/lang/invoke/VarHandle" ∧ (parseMethodDescriptor yX1_follows.desc).map (fun d => d.parameters.length) = some 2 := by decide +kernel
set_option maxHeartbeats 4000000 in
theorem m_X1_follows (l : Launch) (G : va_G) (ad : Nat → Nat) (cI cZ : ClassId) (nx fr : Nat → Nat) (td kp : Nat → Int32) (af : Nat → Bool) (A : Nat → Prop) (hA : yD A ad) (x y : Int32) : Met l yX1_follows (ws_ yX1_follows cX1_follows 3 (some .boolean)) ({ frames := 2, cells := 0, slots := 0, locals := 52 }) (va_Pc [.ref (ad 0), .int x, .int y] (pB G vwCl (yW ad cI cZ nx fr td kp af) (yT cI cZ))) (pQ A (fun v H => v = some (.int (nI (zFlw nx x y).toNat)) ∧ yP G ad cI cZ nx H)) 0 0 A := by
  refine pe_start (by decide) (Nat.le_of_ble_eq_true rfl) ?_
  intro p e s m below meth c hx hb hr hml hown hts hlocks hB ls hl
  have hown : s.vm.findClass RX1 = some m.cls := hown
  have S : CallFix p m c cX1_follows 3 s _ lw_all RX1 := ⟨hx, hb, hml, hown, hts⟩
  have hP := hB.1
  have hK := hB.2
  have hS : va_S A s.heap s.heap [] := va_S.rf
  have hl : lv_has ls 3 [(0, .ref (ad 0)), (1, .int x), (2, .int y)] := hl
  refine lv_aload_n hx hb dX1_follows_0 rfl (lv_at hl 0 rfl) ?_
  refine pe_cW (n := 0) (rest := []) S hK hP (m_X1_follow l G ad cI cZ nx fr td kp af A hA) (ci := 1) rfl rfl rfl q327 q329 qs29 q33 q330 ⟨rfl, hd_X1_follow⟩ rfl ⟨rfl, rfl⟩ ⟨Nat.le_of_ble_eq_true rfl, Nat.le_of_ble_eq_true rfl⟩ ⟨Nat.le_of_ble_eq_true rfl, Nat.le_of_ble_eq_true rfl⟩ hl.1 rfl (Nat.le_of_ble_eq_true rfl) dX1_follows_1 hS (fun _ h => h) (fun r H locs hr_ hk_ hS => ?_)
  obtain ⟨rfl, F_1, hP, hft⟩ := hr_
  refine lv_aload_n hx hb dX1_follows_4 rfl (lv_at hl 0 rfl) ?_
  refine lv_iload_n hx hb dX1_follows_5 rfl (lv_at hl 2 rfl) ?_
  refine pe_cV (n := 1) (rest := []) S hK hP (m_X1_state l G ad cI cZ nx fr td kp F_1 y) (ci := 1) rfl rfl rfl q231 q233 qs16 q33 q234 ⟨rfl, hd_X1_state⟩ rfl ⟨rfl, rfl⟩ ⟨Nat.le_of_ble_eq_true rfl, Nat.le_of_ble_eq_true rfl⟩ ⟨Nat.le_of_ble_eq_true rfl, Nat.le_of_ble_eq_true rfl⟩ hl.1 rfl (Nat.le_of_ble_eq_true rfl) dX1_follows_6 (fun r hr_ => ?_)
  subst hr_
  refine pe_ifeqB hx hb 38 dX1_follows_9 (by decide) (fun c9 => ?_) (fun c9 => ?_)
  · refine lv_iconst (v := nI 0) hx hb dX1_follows_38 (by decide +kernel) ?_
    exact pe_zret (b := false) hx hb hr hlocks hS dX1_follows_39 (⟨by rw [zFlw_y c9], ⟨_, _, _, _, hP⟩⟩)
  · refine lv_aload_n hx hb dX1_follows_12 rfl (lv_at hl 0 rfl) ?_
    refine lv_iload_n hx hb dX1_follows_13 rfl (lv_at hl 1 rfl) ?_
    refine pe_cV (n := 1) (rest := []) S hK hP (m_X1_state l G ad cI cZ nx fr td kp F_1 x) (ci := 1) rfl rfl rfl q231 q233 qs16 q33 q234 ⟨rfl, hd_X1_state⟩ rfl ⟨rfl, rfl⟩ ⟨Nat.le_of_ble_eq_true rfl, Nat.le_of_ble_eq_true rfl⟩ ⟨Nat.le_of_ble_eq_true rfl, Nat.le_of_ble_eq_true rfl⟩ hl.1 rfl (Nat.le_of_ble_eq_true rfl) dX1_follows_14 (fun r hr_ => ?_)
    subst hr_
    refine pe_ifeqB hx hb 38 dX1_follows_17 (by decide) (fun c17 => ?_) (fun c17 => ?_)
    · refine lv_iconst (v := nI 0) hx hb dX1_follows_38 (by decide +kernel) ?_
      exact pe_zret (b := false) hx hb hr hlocks hS dX1_follows_39 (⟨by rw [zFlw_x c17], ⟨_, _, _, _, hP⟩⟩)
    · obtain ⟨i, hi, rfl⟩ := zSt_of c17
      obtain ⟨j, hj, rfl⟩ := zSt_of c9
      refine lv_aload_n hx hb dX1_follows_20 rfl (lv_at hl 0 rfl) ?_
      refine va_get (D := G) (ci := 1) (v := .ref (ad 5)) (C := RX1) (T := TX1) (N := 5) hx hb hts in_X1 hown hK hP 0 rfl rfl 4 (by decide) (hts _ q213) (fun _ h9 => h9) rfl dX1_follows_21 ?_
      refine lv_bipush (v := nI 8) hx hb dX1_follows_24 (by decide +kernel) ?_
      refine lv_iload_n hx hb dX1_follows_26 rfl (lv_at hl 1 rfl) ?_
      refine pe_imul hx hb dX1_follows_27 ?_
      refine lv_iload_n hx hb dX1_follows_28 rfl (lv_at hl 2 rfl) ?_
      refine pe_iadd hx hb dX1_follows_29 ?_
      refine pe_zald hx hb hK hP 5 1 rfl rfl dX1_follows_30 (8 * i + j) (by omega) (by omega) (by decide) (v := (nI (F_1 (8 * i + j)).toNat)) rfl ?_
      refine pe_ifeqB hx hb 38 dX1_follows_31 (by decide) (fun c31 => ?_) (fun c31 => ?_)
      · refine lv_iconst (v := nI 0) hx hb dX1_follows_38 (by decide +kernel) ?_
        exact pe_zret (b := false) hx hb hr hlocks hS dX1_follows_39 (⟨by rw [zFlw_nI hi hj, z_fty hi hj hft, c31], ⟨_, _, _, _, hP⟩⟩)
      · refine lv_iconst (v := nI 1) hx hb dX1_follows_34 (by decide +kernel) ?_
        refine lv_goto (tgt := 39) hx hb dX1_follows_35 (by decide) ?_
        exact pe_zret (b := true) hx hb hr hlocks hS dX1_follows_39 (⟨by rw [zFlw_nI hi hj, z_fty hi hj hft, c31], ⟨_, _, _, _, hP⟩⟩)
theorem hd_X1_followers : yX1_followers.cls ≠ "java/lang/invoke/MethodHandle" ∧ yX1_followers.cls ≠ "java/lang/invoke/VarHandle" ∧ (parseMethodDescriptor yX1_followers.desc).map (fun d => d.parameters.length) = some 1 := by decide +kernel
set_option maxHeartbeats 4000000 in
theorem m_X1_followers (l : Launch) (G : va_G) (ad : Nat → Nat) (cI cZ : ClassId) (nx fr : Nat → Nat) (td kp : Nat → Int32) (af : Nat → Bool) (A : Nat → Prop) (hA : yD A ad) (x : Int32) : Met l yX1_followers (ws_ yX1_followers cX1_followers 4 (some .int)) ({ frames := 2, cells := 0, slots := 0, locals := 52 }) (va_Pc [.ref (ad 0), .int x] (pB G vwCl (yW ad cI cZ nx fr td kp af) (yT cI cZ))) (pQ A (fun v H => v = some (.int (nI (zFls nx x))) ∧ yP G ad cI cZ nx H)) 0 0 A := by
  refine pe_start (by decide) (Nat.le_of_ble_eq_true rfl) ?_
  intro p e s m below meth c hx hb hr hml hown hts hlocks hB ls hl
  have hown : s.vm.findClass RX1 = some m.cls := hown
  have S : CallFix p m c cX1_followers 4 s _ lw_all RX1 := ⟨hx, hb, hml, hown, hts⟩
  have hP := hB.1
  have hK := hB.2
  have hS : va_S A s.heap s.heap [] := va_S.rf
  have hl : lv_has ls 4 [(0, .ref (ad 0)), (1, .int x)] := hl
  refine lv_aload_n hx hb dX1_followers_0 rfl (lv_at hl 0 rfl) ?_
  refine pe_cW (n := 0) (rest := []) S hK hP (m_X1_follow l G ad cI cZ nx fr td kp af A hA) (ci := 1) rfl rfl rfl q327 q329 qs29 q33 q330 ⟨rfl, hd_X1_follow⟩ rfl ⟨rfl, rfl⟩ ⟨Nat.le_of_ble_eq_true rfl, Nat.le_of_ble_eq_true rfl⟩ ⟨Nat.le_of_ble_eq_true rfl, Nat.le_of_ble_eq_true rfl⟩ hl.1 rfl (Nat.le_of_ble_eq_true rfl) dX1_followers_1 hS (fun _ h => h) (fun r H locs hr_ hk_ hS => ?_)
  obtain ⟨rfl, F_2, hP, hft⟩ := hr_
  refine lv_iconst (v := nI 0) hx hb dX1_followers_4 (by decide +kernel) ?_
  refine lv_istore_n (lv' := [(2, .int (nI 0)), (0, .ref (ad 0)), (1, .int x)]) hx hb dX1_followers_5 rfl hl (by decide) rfl (fun ls hl => ?_)
  refine lv_iconst (v := nI 0) hx hb dX1_followers_6 (by decide +kernel) ?_
  refine lv_istore_n (lv' := [(3, .int (nI 0)), (2, .int (nI 0)), (0, .ref (ad 0)), (1, .int x)]) hx hb dX1_followers_7 rfl hl (by decide) rfl (fun ls hl => ?_)
  refine pe_loopR (8) 8 (fun b ls => lv_has ls 4 [(0, .ref (ad 0)), (1, .int x), (2, .int (nI (orF 0 (fun j => if zSt x && zFo nx j (tn x) then 2 ^ j else 0) (b)))), (3, .int (nI b))]) (fun b hi_b ih_b ls hl => ?_) (0) (by omega) ls (lv_sub hl [2, 3, 1, 0] rfl)
  refine lv_iload_n hx hb dX1_followers_8 rfl (lv_at hl 3 rfl) ?_
  refine lv_bipush (v := nI 8) hx hb dX1_followers_9 (by decide +kernel) ?_
  refine pe_icmp_ge hx hb 52 dX1_followers_11 (by decide) (by omega) (by omega) (fun c11 => ?_) (fun c11 => ?_)
  · obtain rfl : b = 8 := by omega
    refine lv_iload_n hx hb dX1_followers_52 rfl (lv_at hl 2 rfl) ?_
    exact pe_iret (v := (nI (orF 0 (fun j => if zSt x && zFo nx j (tn x) then 2 ^ j else 0) (8)))) hx hb hr hlocks hS dX1_followers_53 (⟨by rw [z_flsY], ⟨_, _, _, _, hP⟩⟩)
  · refine lv_aload_n hx hb dX1_followers_14 rfl (lv_at hl 0 rfl) ?_
    refine lv_iload_n hx hb dX1_followers_15 rfl (lv_at hl 1 rfl) ?_
    refine pe_cV (n := 1) (rest := []) S hK hP (m_X1_state l G ad cI cZ nx fr td kp F_2 x) (ci := 1) rfl rfl rfl q231 q233 qs16 q33 q234 ⟨rfl, hd_X1_state⟩ rfl ⟨rfl, rfl⟩ ⟨Nat.le_of_ble_eq_true rfl, Nat.le_of_ble_eq_true rfl⟩ ⟨Nat.le_of_ble_eq_true rfl, Nat.le_of_ble_eq_true rfl⟩ hl.1 rfl (Nat.le_of_ble_eq_true rfl) dX1_followers_16 (fun r hr_ => ?_)
    subst hr_
    refine pe_ifeqB hx hb 52 dX1_followers_19 (by decide) (fun c19 => ?_) (fun c19 => ?_)
    · refine lv_iload_n hx hb dX1_followers_52 rfl (lv_at hl 2 rfl) ?_
      exact pe_iret (v := (nI (orF 0 (fun j => if zSt x && zFo nx j (tn x) then 2 ^ j else 0) (b)))) hx hb hr hlocks hS dX1_followers_53 (⟨by rw [z_grpF c19, zFls_f c19], ⟨_, _, _, _, hP⟩⟩)
    · refine lv_aload_n hx hb dX1_followers_22 rfl (lv_at hl 0 rfl) ?_
      refine va_get (D := G) (ci := 1) (v := .ref (ad 5)) (C := RX1) (T := TX1) (N := 5) hx hb hts in_X1 hown hK hP 0 rfl rfl 4 (by decide) (hts _ q213) (fun _ h9 => h9) rfl dX1_followers_23 ?_
      refine lv_bipush (v := nI 8) hx hb dX1_followers_26 (by decide +kernel) ?_
      obtain ⟨i, hi, ex⟩ := zSt_of c19
      have hti : tn x = i := by rw [ex]; exact nI_clamp (by omega)
      refine lv_iload_n hx hb dX1_followers_28 rfl (lv_at hl 3 rfl) ?_
      refine pe_imul hx hb dX1_followers_29 ?_
      refine lv_iload_n hx hb dX1_followers_30 rfl (lv_at hl 1 rfl) ?_
      refine pe_top ex ?_
      refine pe_iadd hx hb dX1_followers_31 ?_
      refine pe_zald hx hb hK hP 5 1 rfl rfl dX1_followers_32 (8 * b + tn x) (by omega) (by omega) (by decide) (v := (nI (F_2 (8 * b + tn x)).toNat)) rfl ?_
      refine pe_join 45 (.int (nI (orF 0 (fun j => if zSt x && zFo nx j (tn x) then 2 ^ j else 0) b ||| (if zSt x && zFo nx b (tn x) then 2 ^ b else 0)))) [] (fun K45 => ?_) ?_
      · refine pe_ifeqB hx hb 44 dX1_followers_33 (by decide) (fun c33 => ?_) (fun c33 => ?_)
        · refine lv_iload_n hx hb dX1_followers_44 rfl (lv_at hl 2 rfl) ?_
          exact pe_top (by simp [c19, z_fx c19 (by omega) hft c33]) K45
        · refine lv_iload_n hx hb dX1_followers_36 rfl (lv_at hl 2 rfl) ?_
          refine lv_iconst (v := nI 1) hx hb dX1_followers_37 (by decide +kernel) ?_
          refine lv_iload_n hx hb dX1_followers_38 rfl (lv_at hl 3 rfl) ?_
          refine pe_shl hx hb (by omega) dX1_followers_39 ?_
          refine pe_ior hx hb dX1_followers_40 ?_
          refine lv_goto (tgt := 45) hx hb dX1_followers_41 (by decide) ?_
          exact pe_top (by simp [c19, z_fx c19 (by omega) hft c33]) K45
      · refine lv_istore_n (lv' := [(2, .int (nI (orF 0 (fun j => if zSt x && zFo nx j (tn x) then 2 ^ j else 0) b ||| (if zSt x && zFo nx b (tn x) then 2 ^ b else 0)))), (0, .ref (ad 0)), (1, .int x), (3, .int (nI b))]) hx hb dX1_followers_45 rfl hl (by decide) rfl (fun ls hl => ?_)
        refine pe_inc (k := 3) (a := b) (lv' := [(3, .int (nI (b + 1))), (2, .int (nI (orF 0 (fun j => if zSt x && zFo nx j (tn x) then 2 ^ j else 0) b ||| (if zSt x && zFo nx b (tn x) then 2 ^ b else 0)))), (0, .ref (ad 0)), (1, .int x)]) hx hb dX1_followers_46 hl rfl (by decide) rfl (fun ls hl => ?_)
        refine lv_goto (tgt := 8) hx hb dX1_followers_49 (by decide) ?_
        exact ih_b (by omega) ls (lv_sub hl [2, 3, 1, 0] rfl)
theorem hd_X1_idle : yX1_idle.cls ≠ "java/lang/invoke/MethodHandle" ∧ yX1_idle.cls ≠ "java/lang/invoke/VarHandle" ∧ (parseMethodDescriptor yX1_idle.desc).map (fun d => d.parameters.length) = some 3 := by decide +kernel
set_option maxHeartbeats 4000000 in
theorem m_X1_idle (l : Launch) (G : va_G) (ad : Nat → Nat) (cI cZ : ClassId) (nx fr : Nat → Nat) (td kp : Nat → Int32) (af : Nat → Bool) (A : Nat → Prop) (hA : yD A ad) (x y z : Int32) : Met l yX1_idle (ws_ yX1_idle cX1_idle 6 (some .boolean)) ({ frames := 4, cells := 0, slots := 0, locals := 97 }) (va_Pc [.ref (ad 0), .int x, .int y, .int z] (pB G vwCl (yW ad cI cZ nx fr td kp af) (yT cI cZ))) (pQ A (fun v H => v = some (.int (nI (zIdl nx x y z).toNat)) ∧ yP G ad cI cZ nx H)) 0 0 A := by
  refine pe_start (by decide) (Nat.le_of_ble_eq_true rfl) ?_
  intro p e s m below meth c hx hb hr hml hown hts hlocks hB ls hl
  have hown : s.vm.findClass RX1 = some m.cls := hown
  have S : CallFix p m c cX1_idle 6 s _ lw_all RX1 := ⟨hx, hb, hml, hown, hts⟩
  have hP := hB.1
  have hK := hB.2
  have hS : va_S A s.heap s.heap [] := va_S.rf
  have hl : lv_has ls 6 [(0, .ref (ad 0)), (1, .int x), (2, .int y), (3, .int z)] := hl
  refine lv_aload_n hx hb dX1_idle_0 rfl (lv_at hl 0 rfl) ?_
  refine lv_iload_n hx hb dX1_idle_1 rfl (lv_at hl 1 rfl) ?_
  refine lv_iload_n hx hb dX1_idle_2 rfl (lv_at hl 2 rfl) ?_
  refine lv_iload_n hx hb dX1_idle_3 rfl (lv_at hl 3 rfl) ?_
  refine pe_cV (n := 3) (rest := []) S hK hP (m_X1_step l G ad cI cZ nx fr td kp af x y z) (ci := 1) rfl rfl rfl q239 q241 qs17 q33 q242 ⟨rfl, hd_X1_step⟩ rfl ⟨rfl, rfl⟩ ⟨Nat.le_of_ble_eq_true rfl, Nat.le_of_ble_eq_true rfl⟩ ⟨Nat.le_of_ble_eq_true rfl, Nat.le_of_ble_eq_true rfl⟩ hl.1 rfl (Nat.le_of_ble_eq_true rfl) dX1_idle_4 (fun r hr_ => ?_)
  subst hr_
  refine pe_ifneB hx hb 12 dX1_idle_7 (by decide) (fun c7 => ?_) (fun c7 => ?_)
  · refine lv_aload_n hx hb dX1_idle_12 rfl (lv_at hl 0 rfl) ?_
    refine pe_cW (n := 0) (rest := []) S hK hP (m_X1_tellSteps l G ad cI cZ nx fr td kp af A hA) (ci := 1) rfl rfl rfl q255 q257 qs18 q33 q258 ⟨rfl, hd_X1_tellSteps⟩ rfl ⟨rfl, rfl⟩ ⟨Nat.le_of_ble_eq_true rfl, Nat.le_of_ble_eq_true rfl⟩ ⟨Nat.le_of_ble_eq_true rfl, Nat.le_of_ble_eq_true rfl⟩ hl.1 rfl (Nat.le_of_ble_eq_true rfl) dX1_idle_13 hS (fun _ h => h) (fun r H locs hr_ hk_ hS => ?_)
    obtain ⟨rfl, hP⟩ := hr_
    refine lv_iconst (v := nI 0) hx hb dX1_idle_16 (by decide +kernel) ?_
    refine lv_istore (lv' := [(4, .int (nI 0)), (0, .ref (ad 0)), (1, .int x), (2, .int y), (3, .int z)]) hx hb dX1_idle_17 hl (by decide) rfl (fun ls hl => ?_)
    refine pe_loop (64) 19 (fun i H locs ls => va_P G vwCl (yW ad cI cZ nx nx (zT nx 8) (pe_fl (zT nx 8) i kp) af) H ∧ va_S A s.heap H locs ∧ lv_has ls 6 [(0, .ref (ad 0)), (1, .int x), (2, .int y), (3, .int z), (4, .int (nI i))]) (fun i hi_i ih_i H locs ls hl => ?_) (0) (by omega) _ _ ls (⟨by rw [pe_fl_0]; exact hP, hS, lv_sub hl [1, 2, 3, 4, 0] rfl⟩)
    obtain ⟨hP, hS, hl⟩ := hl
    refine lv_iload hx hb dX1_idle_19 (lv_at hl 4 rfl) ?_
    refine lv_bipush (v := nI 64) hx hb dX1_idle_21 (by decide +kernel) ?_
    refine pe_icmp_ge hx hb 46 dX1_idle_23 (by decide) (by omega) (by omega) (fun c23 => ?_) (fun c23 => ?_)
    · obtain rfl : i = 64 := by omega
      refine lv_aload_n hx hb dX1_idle_46 rfl (lv_at hl 0 rfl) ?_
      refine lv_iload_n hx hb dX1_idle_47 rfl (lv_at hl 1 rfl) ?_
      refine lv_iload_n hx hb dX1_idle_48 rfl (lv_at hl 2 rfl) ?_
      refine lv_iload_n hx hb dX1_idle_49 rfl (lv_at hl 3 rfl) ?_
      refine pe_cW (n := 3) (rest := []) S hK hP (m_X1_cut l G ad cI cZ nx nx (zT nx 8) (pe_fl (zT nx 8) 64 kp) af A hA x y z) (ci := 1) rfl rfl rfl q347 q236 q237 q33 q238 ⟨rfl, hd_X1_cut⟩ rfl ⟨rfl, rfl⟩ ⟨Nat.le_of_ble_eq_true rfl, Nat.le_of_ble_eq_true rfl⟩ ⟨Nat.le_of_ble_eq_true rfl, Nat.le_of_ble_eq_true rfl⟩ hl.1 rfl (Nat.le_of_ble_eq_true rfl) dX1_idle_50 hS (fun _ h => h) (fun r H locs hr_ hk_ hS => ?_)
      obtain ⟨rfl, hP⟩ := hr_
      refine lv_pop hx hb dX1_idle_53 rfl ?_
      refine lv_aload_n hx hb dX1_idle_54 rfl (lv_at hl 0 rfl) ?_
      refine pe_cW (n := 0) (rest := []) S hK hP (m_X1_tellSteps l G ad cI cZ (zCut nx x y z) nx (zT nx 8) (pe_fl (zT nx 8) 64 kp) af A hA) (ci := 1) rfl rfl rfl q255 q257 qs18 q33 q258 ⟨rfl, hd_X1_tellSteps⟩ rfl ⟨rfl, rfl⟩ ⟨Nat.le_of_ble_eq_true rfl, Nat.le_of_ble_eq_true rfl⟩ ⟨Nat.le_of_ble_eq_true rfl, Nat.le_of_ble_eq_true rfl⟩ hl.1 rfl (Nat.le_of_ble_eq_true rfl) dX1_idle_55 hS (fun _ h => h) (fun r H locs hr_ hk_ hS => ?_)
      obtain ⟨rfl, hP⟩ := hr_
      refine lv_aload_n hx hb dX1_idle_58 rfl (lv_at hl 0 rfl) ?_
      refine lv_iload_n hx hb dX1_idle_59 rfl (lv_at hl 1 rfl) ?_
      refine lv_iload_n hx hb dX1_idle_60 rfl (lv_at hl 2 rfl) ?_
      refine lv_iload_n hx hb dX1_idle_61 rfl (lv_at hl 3 rfl) ?_
      refine pe_cW (n := 3) (rest := []) S hK hP (m_X1_join l G ad cI cZ (zCut nx x y z) (zCut nx x y z) (zT (zCut nx x y z) 8) (pe_fl (zT nx 8) 64 kp) af A hA x y z) (ci := 1) rfl rfl rfl q348 q228 q229 q33 q230 ⟨rfl, hd_X1_join⟩ rfl ⟨rfl, rfl⟩ ⟨Nat.le_of_ble_eq_true rfl, Nat.le_of_ble_eq_true rfl⟩ ⟨Nat.le_of_ble_eq_true rfl, Nat.le_of_ble_eq_true rfl⟩ hl.1 rfl (Nat.le_of_ble_eq_true rfl) dX1_idle_62 hS (fun _ h => h) (fun r H locs hr_ hk_ hS => ?_)
      obtain ⟨rfl, hP⟩ := hr_
      rw [z_cutjoin c7] at hP
      have hP : va_P G vwCl (yW ad cI cZ nx (zCut nx x y z) (zT (zCut nx x y z) 8) (pe_fl (zT nx 8) 64 kp) af) H := hP
      refine lv_pop hx hb dX1_idle_65 rfl ?_
      refine lv_iconst (v := nI 1) hx hb dX1_idle_66 (by decide +kernel) ?_
      refine lv_istore (lv' := [(4, .int (nI 1)), (0, .ref (ad 0)), (1, .int x), (2, .int y), (3, .int z)]) hx hb dX1_idle_67 hl (by decide) rfl (fun ls hl => ?_)
      refine lv_iconst (v := nI 0) hx hb dX1_idle_69 (by decide +kernel) ?_
      refine lv_istore (lv' := [(5, .int (nI 0)), (4, .int (nI 1)), (0, .ref (ad 0)), (1, .int x), (2, .int y), (3, .int z)]) hx hb dX1_idle_70 hl (by decide) rfl (fun ls hl => ?_)
      refine pe_loopR (64) 72 (fun i2 ls => lv_has ls 6 [(0, .ref (ad 0)), (1, .int x), (2, .int y), (3, .int z), (4, .int (nI (alF (fun t => decide (pe_fl (zT nx 8) 64 kp t < 0) == decide (zT (zCut nx x y z) 8 t < 0)) (i2)).toNat)), (5, .int (nI i2))]) (fun i2 hi_i2 ih_i2 ls hl => ?_) (0) (by omega) ls (lv_sub hl [2, 3, 4, 5, 1, 0] rfl)
      refine lv_iload hx hb dX1_idle_72 (lv_at hl 5 rfl) ?_
      refine lv_bipush (v := nI 64) hx hb dX1_idle_74 (by decide +kernel) ?_
      refine pe_icmp_ge hx hb 130 dX1_idle_76 (by decide) (by omega) (by omega) (fun c76 => ?_) (fun c76 => ?_)
      · obtain rfl : i2 = 64 := by omega
        refine lv_iload hx hb dX1_idle_130 (lv_at hl 4 rfl) ?_
        exact pe_zret (b := (alF (fun t => decide (pe_fl (zT nx 8) 64 kp t < 0) == decide (zT (zCut nx x y z) 8 t < 0)) (64))) hx hb hr hlocks hS dX1_idle_132 (⟨by rw [z_idY c7], ⟨_, _, _, _, hP⟩⟩)
      · refine lv_iload hx hb dX1_idle_79 (lv_at hl 4 rfl) ?_
        refine pe_join 122 (.int (nI (alF (fun t => decide (pe_fl (zT nx 8) 64 kp t < 0) == decide (zT (zCut nx x y z) 8 t < 0)) i2 && (decide (pe_fl (zT nx 8) 64 kp i2 < 0) == decide (zT (zCut nx x y z) 8 i2 < 0))).toNat)) [] (fun K122 => ?_) ?_
        · refine pe_ifeqB hx hb 121 dX1_idle_81 (by decide) (fun c81 => ?_) (fun c81 => ?_)
          · refine lv_iconst (v := nI 0) hx hb dX1_idle_121 (by decide +kernel) ?_
            exact pe_top (by rw [c81]; rfl) K122
          · refine lv_aload_n hx hb dX1_idle_84 rfl (lv_at hl 0 rfl) ?_
            refine va_get (D := G) (ci := 1) (v := .ref (ad 4)) (C := RX1) (T := TX1) (N := 5) hx hb hts in_X1 hown hK hP 0 rfl rfl 3 (by decide) (hts _ q212) (fun _ h9 => h9) rfl dX1_idle_85 ?_
            refine lv_iload hx hb dX1_idle_88 (lv_at hl 5 rfl) ?_
            refine pe_iald hx hb hK hP 4 0 rfl rfl dX1_idle_90 i2 (rfl) (by omega) (by decide) (v := ((pe_fl (zT nx 8) 64 kp) i2)) rfl ?_
            refine pe_join 99 (.int (nI (decide (pe_fl (zT nx 8) 64 kp i2 < 0)).toNat)) [] (fun K99 => ?_) ?_
            · refine lv_if_ge (tgt := 98) hx hb dX1_idle_91 (by decide) (fun c91 => ?_) (fun c91 => ?_)
              · refine lv_iconst (v := nI 0) hx hb dX1_idle_98 (by decide +kernel) ?_
                exact pe_top (by rw [decide_eq_false (z_ge_nlt c91)]; rfl) K99
              · refine lv_iconst (v := nI 1) hx hb dX1_idle_94 (by decide +kernel) ?_
                refine lv_goto (tgt := 99) hx hb dX1_idle_95 (by decide) ?_
                exact pe_top (by rw [decide_eq_true (z_nge_lt c91)]; rfl) K99
            · refine lv_aload_n hx hb dX1_idle_99 rfl (lv_at hl 0 rfl) ?_
              refine va_get (D := G) (ci := 1) (v := .ref (ad 3)) (C := RX1) (T := TX1) (N := 5) hx hb hts in_X1 hown hK hP 0 rfl rfl 2 (by decide) (hts _ q211) (fun _ h9 => h9) rfl dX1_idle_100 ?_
              refine lv_iload hx hb dX1_idle_103 (lv_at hl 5 rfl) ?_
              refine pe_iald hx hb hK hP 3 0 rfl rfl dX1_idle_105 i2 (rfl) (by omega) (by decide) (v := ((zT (zCut nx x y z) 8) i2)) rfl ?_
              refine pe_join 114 (.int (nI (decide (zT (zCut nx x y z) 8 i2 < 0)).toNat)) [.int (nI (decide (pe_fl (zT nx 8) 64 kp i2 < 0)).toNat)] (fun K114 => ?_) ?_
              · refine lv_if_ge (tgt := 113) hx hb dX1_idle_106 (by decide) (fun c106 => ?_) (fun c106 => ?_)
                · refine lv_iconst (v := nI 0) hx hb dX1_idle_113 (by decide +kernel) ?_
                  exact pe_top (by rw [decide_eq_false (z_ge_nlt c106)]; rfl) K114
                · refine lv_iconst (v := nI 1) hx hb dX1_idle_109 (by decide +kernel) ?_
                  refine lv_goto (tgt := 114) hx hb dX1_idle_110 (by decide) ?_
                  exact pe_top (by rw [decide_eq_true (z_nge_lt c106)]; rfl) K114
              · refine pe_icmp_neBB hx hb 121 dX1_idle_114 (by decide) (fun c114 => ?_) (fun c114 => ?_)
                · refine lv_iconst (v := nI 0) hx hb dX1_idle_121 (by decide +kernel) ?_
                  exact pe_top (by rw [beq_eq_false_iff_ne.mpr c114, Bool.and_false]; rfl) K122
                · refine lv_iconst (v := nI 1) hx hb dX1_idle_117 (by decide +kernel) ?_
                  refine lv_goto (tgt := 122) hx hb dX1_idle_118 (by decide) ?_
                  exact pe_top (by rw [c81, c114]; simp) K122
        · refine lv_istore (lv' := [(4, .int (nI (alF (fun t => decide (pe_fl (zT nx 8) 64 kp t < 0) == decide (zT (zCut nx x y z) 8 t < 0)) i2 && (decide (pe_fl (zT nx 8) 64 kp i2 < 0) == decide (zT (zCut nx x y z) 8 i2 < 0))).toNat)), (0, .ref (ad 0)), (1, .int x), (2, .int y), (3, .int z), (5, .int (nI i2))]) hx hb dX1_idle_122 hl (by decide) rfl (fun ls hl => ?_)
          refine pe_inc (k := 5) (a := i2) (lv' := [(5, .int (nI (i2 + 1))), (4, .int (nI (alF (fun t => decide (pe_fl (zT nx 8) 64 kp t < 0) == decide (zT (zCut nx x y z) 8 t < 0)) i2 && (decide (pe_fl (zT nx 8) 64 kp i2 < 0) == decide (zT (zCut nx x y z) 8 i2 < 0))).toNat)), (0, .ref (ad 0)), (1, .int x), (2, .int y), (3, .int z)]) hx hb dX1_idle_124 hl rfl (by decide) rfl (fun ls hl => ?_)
          refine lv_goto (tgt := 72) hx hb dX1_idle_127 (by decide) ?_
          exact ih_i2 (by omega) ls (lv_sub hl [2, 3, 4, 5, 1, 0] rfl)
    · refine lv_aload_n hx hb dX1_idle_26 rfl (lv_at hl 0 rfl) ?_
      refine va_get (D := G) (ci := 1) (v := .ref (ad 4)) (C := RX1) (T := TX1) (N := 5) hx hb hts in_X1 hown hK hP 0 rfl rfl 3 (by decide) (hts _ q212) (fun _ h9 => h9) rfl dX1_idle_27 ?_
      refine lv_iload hx hb dX1_idle_30 (lv_at hl 4 rfl) ?_
      refine lv_aload_n hx hb dX1_idle_32 rfl (lv_at hl 0 rfl) ?_
      refine va_get (D := G) (ci := 1) (v := .ref (ad 3)) (C := RX1) (T := TX1) (N := 5) hx hb hts in_X1 hown hK hP 0 rfl rfl 2 (by decide) (hts _ q211) (fun _ h9 => h9) rfl dX1_idle_33 ?_
      refine lv_iload hx hb dX1_idle_36 (lv_at hl 4 rfl) ?_
      refine pe_iald hx hb hK hP 3 0 rfl rfl dX1_idle_38 i (rfl) (by omega) (by decide) (v := ((zT nx 8) i)) rfl ?_
      refine pe_iast hx hb hK hP (hA.D _ _ _ _ _ _ _) hS 4 0 rfl rfl dX1_idle_39 i (rfl) (by omega) (by decide) (f' := va_up (pe_fl (zT nx 8) i kp) i ((zT nx 8) i)) (rfl) (fun H locs hP hS => ?_)
      have hP : va_P G vwCl (yW ad cI cZ nx nx (zT nx 8) (va_up (pe_fl (zT nx 8) i kp) i ((zT nx 8) i)) af) H := hP
      refine pe_inc (k := 4) (a := i) (lv' := [(4, .int (nI (i + 1))), (0, .ref (ad 0)), (1, .int x), (2, .int y), (3, .int z)]) hx hb dX1_idle_40 hl rfl (by decide) rfl (fun ls hl => ?_)
      refine lv_goto (tgt := 19) hx hb dX1_idle_43 (by decide) ?_
      exact ih_i (by omega) _ _ ls (⟨by rw [← pe_fl_up]; exact hP, hS, lv_sub hl [1, 2, 3, 4, 0] rfl⟩)
  · refine lv_iconst (v := nI 0) hx hb dX1_idle_10 (by decide +kernel) ?_
    exact pe_zret (b := false) hx hb hr hlocks hS dX1_idle_11 (⟨by rw [zIdl_f c7], ⟨_, _, _, _, hP⟩⟩)
end
section
/-! the constructors (printed by gen/init.py) -/
set_option maxRecDepth 100000
theorem pe_startI {l : Launch} {y : MethodName} {code : ByteArray} {maxL : Nat} {ret : Option FieldType} {rm : Room} {av : List Value} {B : State → Prop} {Qc : Array Value → State → Outcome → State → Prop} {mc ms : Nat} {free : Addr → Prop}
    (hy : plainName y.cls = true) (hle : (lg_sl av).length ≤ maxL)
    (body : ∀ (p : Program) (e : Env) (s : State) (m : MethodId) (below : List Frame) (meth : Method) (c : Code), p.tables.exec = Jvm.exec → c.code = code → meth.sig.returnType = ret → c.maxLocals = maxL → s.vm.findClass y.cls = some m.cls → (∀ w ∈ lw_all, w.before av.toArray s = true) → meth.locks = false → meth.name = y.name → B s → ∀ ls, lv_has ls maxL (lv_args 0 av) → W p l e rm s m av.toArray below meth c s.heap [] 0 0 (MQ below Qc av.toArray s mc ms free) (F0 m 0 ls [])) :
    Met l y (ws_ y code maxL ret) rm (va_Pc av B) Qc mc ms free := by
  refine Met.ofW (cc := code) (maxL := maxL) (ret := ret) hy rfl ?_
  intro p e s m args below meth c s₁ Bd hml hv
  obtain ⟨rfl, hB⟩ := hv
  have hts := atoms_spec (ws := ws_ y code maxL ret) Bd.pre
  have hts : ∀ w ∈ lw_all, w.before _ s = true := fun w h => hts w (List.mem_cons_of_mem _ h)
  rw [lg_entry_eq]
  exact body p e s m below meth c Bd.exec Bd.bytes Bd.returns hml (findClass_of_methodNamed Bd.named) hts Bd.notSynchronized (name_of_methodNamed Bd.named Bd.method).1 hB _ (lv_entry av hle)
theorem pe_sameS {G : va_G} {cl : List vw_C} {tys : List (ClassId × FieldType)} {U : State} (hK : va_K G cl tys U) (i j : Nat) {c c' : ClassId} (h1 : tys[i]? = some (c, .short)) (h2 : tys[j]? = some (c', .short)) : c' = c := by
  have a : U.vm.findClass ("[" ++ FieldType.short.toString) = some c := (hK.2 i _ h1).2
  have b : U.vm.findClass ("[" ++ FieldType.short.toString) = some c' := (hK.2 j _ h2).2
  exact Option.some.inj (b.symm.trans a)
theorem pe_sameB {G : va_G} {cl : List vw_C} {tys : List (ClassId × FieldType)} {U : State} (hK : va_K G cl tys U) (i j : Nat) {c c' : ClassId} (h1 : tys[i]? = some (c, .byte)) (h2 : tys[j]? = some (c', .byte)) : c' = c := by
  have a : U.vm.findClass ("[" ++ FieldType.byte.toString) = some c := (hK.2 i _ h1).2
  have b : U.vm.findClass ("[" ++ FieldType.byte.toString) = some c' := (hK.2 j _ h2).2
  exact Option.some.inj (b.symm.trans a)
theorem pe_sameI {G : va_G} {cl : List vw_C} {tys : List (ClassId × FieldType)} {U : State} (hK : va_K G cl tys U) (i j : Nat) {c c' : ClassId} (h1 : tys[i]? = some (c, .int)) (h2 : tys[j]? = some (c', .int)) : c' = c := by
  have a : U.vm.findClass ("[" ++ FieldType.int.toString) = some c := (hK.2 i _ h1).2
  have b : U.vm.findClass ("[" ++ FieldType.int.toString) = some c' := (hK.2 j _ h2).2
  exact Option.some.inj (b.symm.trans a)
set_option maxHeartbeats 4000000 in
theorem m_X0_init (l : Launch) (G : va_G) (h0 sz : Nat) : Met l yX0_init (ws_ yX0_init cX0_init 1 none) ({ frames := 1, cells := 6, slots := 136, locals := 12 }) (va_Pc [.ref h0] (fun U => U.heap.size = sz ∧ va_P G vwCl [(h0, .inr (0, [.null, .null, .null, .null, .null, .int 0, .null]))] U.heap ∧ va_K G vwCl [] U ∧ va_D (fun _ => True) [(h0, .inr (0, [.null, .null, .null, .null, .null, .int 0, .null]))])) (va_Qv (fun _ : Unit => True) (fun _ t => ∃ (ad : Nat → Nat) (cS cB : ClassId), ad 0 = h0 ∧ va_P G vwCl (xW ad cS cB (fun _ => 0) (fun _ => 0) (fun _ => 0) (fun _ => 0) (fun _ => nI 0) (nI 0) (fun _ => 0)) t.heap ∧ va_K G vwCl (xT cS cB) t ∧ va_D (va_A [(h0, .inr (0, [.null, .null, .null, .null, .null, .int 0, .null]))] sz) (xW ad cS cB (fun _ => 0) (fun _ => 0) (fun _ => 0) (fun _ => 0) (fun _ => nI 0) (nI 0) (fun _ => 0))) (va_A [(h0, .inr (0, [.null, .null, .null, .null, .null, .int 0, .null]))] sz)) 6 136 (va_A [(h0, .inr (0, [.null, .null, .null, .null, .null, .int 0, .null]))] sz) := by
  refine pe_startI (by decide) (Nat.le_of_ble_eq_true rfl) ?_
  intro p e s m below meth c hx hb hr hml hown hts hlocks hin hB ls hl
  obtain ⟨hsz, hP, hK, hD0⟩ := hB
  have hown : s.vm.findClass RX0 = some m.cls := hown
  subst hsz
  have hD := hD0.self (sz := s.heap.size)
  generalize hAe : va_A [(h0, .inr (0, [.null, .null, .null, .null, .null, .int 0, .null]))] s.heap.size = A at hD ⊢
  have hA : ∀ q : Nat, s.heap.size ≤ q → A q := fun q h => by rw [← hAe]; exact Or.inr h
  have hS : va_S A s.heap s.heap [] := va_S.rf
  have hl : lv_has ls 1 [(0, .ref h0)] := hl
  refine lv_aload_n hx hb dX0_init_0 rfl (lv_at hl 0 rfl) ?_
  refine W.objInit hx hb hown (hts _ q39) (hts _ q40) (hts _ q41) rfl (by rw [hml]; exact hl.1) rfl dX0_init_1 (Nat.le_of_ble_eq_true rfl) (Nat.le_of_ble_eq_true rfl) ?_
  refine W.eq (g2 := F0 m 4 ls []) rfl ?_
  refine lv_aload_n hx hb dX0_init_4 rfl (lv_at hl 0 rfl) ?_
  refine lv_bipush (v := nI 24) hx hb dX0_init_5 (by decide +kernel) ?_
  refine va_newa (atype := .short) hx hb (hts _ q64) (ty := .short) rfl hK hP hD hS hA (N' := 24) (a0 := (24, .inl (fun _ => nI 0))) (fun _ => rfl) (by decide +kernel) (by decide +kernel) (by decide +kernel) (Nat.le_of_ble_eq_true rfl) (Nat.le_of_ble_eq_true rfl) dX0_init_7 (fun q1_ c1_ H hK hP hD hS => ?_)
  have hP : va_P G vwCl [(h0, .inr (0, [.null, .null, .null, .null, .null, .int 0, .null])), (q1_, .inl (c1_, 24, .inl (fun _ => nI 0)))] H := hP
  have hD : va_D A [(h0, .inr (0, [.null, .null, .null, .null, .null, .int 0, .null])), (q1_, .inl (c1_, 24, .inl (fun _ => nI 0)))] := hD
  have hK : va_K G vwCl [(c1_, .short)] s := hK
  refine va_putF (D := G) (ci := 0) (v := .ref q1_) (ty := .array .short) (C := RX0) (T := TX0) (N := 7) hx hb hts in_X0 tyX0 tyX0_ok nmX0 hown hK hP hD hS 0 rfl rfl 0 (by decide) (hts _ q42) (fun _ h9 => h9) rfl hin rfl (by decide +kernel) rfl rfl (Nat.le_of_ble_eq_true rfl) dX0_init_9 (fun H locs hP hD hS => ?_)
  have hP : va_P G vwCl [(h0, .inr (0, [.ref q1_, .null, .null, .null, .null, .int 0, .null])), (q1_, .inl (c1_, 24, .inl (fun _ => nI 0)))] H := hP
  have hD : va_D A [(h0, .inr (0, [.ref q1_, .null, .null, .null, .null, .int 0, .null])), (q1_, .inl (c1_, 24, .inl (fun _ => nI 0)))] := hD
  refine lv_aload_n hx hb dX0_init_12 rfl (lv_at hl 0 rfl) ?_
  refine lv_bipush (v := nI 24) hx hb dX0_init_13 (by decide +kernel) ?_
  refine va_newa (atype := .short) hx hb (hts _ q64) (ty := .short) rfl hK hP hD hS hA (N' := 24) (a0 := (24, .inl (fun _ => nI 0))) (fun _ => rfl) (by decide +kernel) (by decide +kernel) (by decide +kernel) (Nat.le_of_ble_eq_true rfl) (Nat.le_of_ble_eq_true rfl) dX0_init_15 (fun q2_ c2_ H hK hP hD hS => ?_)
  have hP : va_P G vwCl [(h0, .inr (0, [.ref q1_, .null, .null, .null, .null, .int 0, .null])), (q1_, .inl (c1_, 24, .inl (fun _ => nI 0))), (q2_, .inl (c2_, 24, .inl (fun _ => nI 0)))] H := hP
  have hD : va_D A [(h0, .inr (0, [.ref q1_, .null, .null, .null, .null, .int 0, .null])), (q1_, .inl (c1_, 24, .inl (fun _ => nI 0))), (q2_, .inl (c2_, 24, .inl (fun _ => nI 0)))] := hD
  have hK : va_K G vwCl [(c1_, .short), (c2_, .short)] s := hK
  refine va_putF (D := G) (ci := 0) (v := .ref q2_) (ty := .array .short) (C := RX0) (T := TX0) (N := 7) hx hb hts in_X0 tyX0 tyX0_ok nmX0 hown hK hP hD hS 0 rfl rfl 1 (by decide) (hts _ q43) (fun _ h9 => h9) rfl hin rfl (by decide +kernel) rfl rfl (Nat.le_of_ble_eq_true rfl) dX0_init_17 (fun H locs hP hD hS => ?_)
  have hP : va_P G vwCl [(h0, .inr (0, [.ref q1_, .ref q2_, .null, .null, .null, .int 0, .null])), (q1_, .inl (c1_, 24, .inl (fun _ => nI 0))), (q2_, .inl (c2_, 24, .inl (fun _ => nI 0)))] H := hP
  have hD : va_D A [(h0, .inr (0, [.ref q1_, .ref q2_, .null, .null, .null, .int 0, .null])), (q1_, .inl (c1_, 24, .inl (fun _ => nI 0))), (q2_, .inl (c2_, 24, .inl (fun _ => nI 0)))] := hD
  refine lv_aload_n hx hb dX0_init_20 rfl (lv_at hl 0 rfl) ?_
  refine lv_bipush (v := nI 8) hx hb dX0_init_21 (by decide +kernel) ?_
  refine va_newa (atype := .byte) hx hb (hts _ q65) (ty := .byte) rfl hK hP hD hS hA (N' := 8) (a0 := (8, .inl (fun _ => nI 0))) (fun _ => rfl) (by decide +kernel) (by decide +kernel) (by decide +kernel) (Nat.le_of_ble_eq_true rfl) (Nat.le_of_ble_eq_true rfl) dX0_init_23 (fun q3_ c3_ H hK hP hD hS => ?_)
  have hP : va_P G vwCl [(h0, .inr (0, [.ref q1_, .ref q2_, .null, .null, .null, .int 0, .null])), (q1_, .inl (c1_, 24, .inl (fun _ => nI 0))), (q2_, .inl (c2_, 24, .inl (fun _ => nI 0))), (q3_, .inl (c3_, 8, .inl (fun _ => nI 0)))] H := hP
  have hD : va_D A [(h0, .inr (0, [.ref q1_, .ref q2_, .null, .null, .null, .int 0, .null])), (q1_, .inl (c1_, 24, .inl (fun _ => nI 0))), (q2_, .inl (c2_, 24, .inl (fun _ => nI 0))), (q3_, .inl (c3_, 8, .inl (fun _ => nI 0)))] := hD
  have hK : va_K G vwCl [(c1_, .short), (c2_, .short), (c3_, .byte)] s := hK
  refine va_putF (D := G) (ci := 0) (v := .ref q3_) (ty := .array .byte) (C := RX0) (T := TX0) (N := 7) hx hb hts in_X0 tyX0 tyX0_ok nmX0 hown hK hP hD hS 0 rfl rfl 2 (by decide) (hts _ q44) (fun _ h9 => h9) rfl hin rfl (by decide +kernel) rfl rfl (Nat.le_of_ble_eq_true rfl) dX0_init_25 (fun H locs hP hD hS => ?_)
  have hP : va_P G vwCl [(h0, .inr (0, [.ref q1_, .ref q2_, .ref q3_, .null, .null, .int 0, .null])), (q1_, .inl (c1_, 24, .inl (fun _ => nI 0))), (q2_, .inl (c2_, 24, .inl (fun _ => nI 0))), (q3_, .inl (c3_, 8, .inl (fun _ => nI 0)))] H := hP
  have hD : va_D A [(h0, .inr (0, [.ref q1_, .ref q2_, .ref q3_, .null, .null, .int 0, .null])), (q1_, .inl (c1_, 24, .inl (fun _ => nI 0))), (q2_, .inl (c2_, 24, .inl (fun _ => nI 0))), (q3_, .inl (c3_, 8, .inl (fun _ => nI 0)))] := hD
  refine lv_aload_n hx hb dX0_init_28 rfl (lv_at hl 0 rfl) ?_
  refine lv_bipush (v := nI 8) hx hb dX0_init_29 (by decide +kernel) ?_
  refine va_newa (atype := .byte) hx hb (hts _ q65) (ty := .byte) rfl hK hP hD hS hA (N' := 8) (a0 := (8, .inl (fun _ => nI 0))) (fun _ => rfl) (by decide +kernel) (by decide +kernel) (by decide +kernel) (Nat.le_of_ble_eq_true rfl) (Nat.le_of_ble_eq_true rfl) dX0_init_31 (fun q4_ c4_ H hK hP hD hS => ?_)
  have hP : va_P G vwCl [(h0, .inr (0, [.ref q1_, .ref q2_, .ref q3_, .null, .null, .int 0, .null])), (q1_, .inl (c1_, 24, .inl (fun _ => nI 0))), (q2_, .inl (c2_, 24, .inl (fun _ => nI 0))), (q3_, .inl (c3_, 8, .inl (fun _ => nI 0))), (q4_, .inl (c4_, 8, .inl (fun _ => nI 0)))] H := hP
  have hD : va_D A [(h0, .inr (0, [.ref q1_, .ref q2_, .ref q3_, .null, .null, .int 0, .null])), (q1_, .inl (c1_, 24, .inl (fun _ => nI 0))), (q2_, .inl (c2_, 24, .inl (fun _ => nI 0))), (q3_, .inl (c3_, 8, .inl (fun _ => nI 0))), (q4_, .inl (c4_, 8, .inl (fun _ => nI 0)))] := hD
  have hK : va_K G vwCl [(c1_, .short), (c2_, .short), (c3_, .byte), (c4_, .byte)] s := hK
  refine va_putF (D := G) (ci := 0) (v := .ref q4_) (ty := .array .byte) (C := RX0) (T := TX0) (N := 7) hx hb hts in_X0 tyX0 tyX0_ok nmX0 hown hK hP hD hS 0 rfl rfl 3 (by decide) (hts _ q45) (fun _ h9 => h9) rfl hin rfl (by decide +kernel) rfl rfl (Nat.le_of_ble_eq_true rfl) dX0_init_33 (fun H locs hP hD hS => ?_)
  have hP : va_P G vwCl [(h0, .inr (0, [.ref q1_, .ref q2_, .ref q3_, .ref q4_, .null, .int 0, .null])), (q1_, .inl (c1_, 24, .inl (fun _ => nI 0))), (q2_, .inl (c2_, 24, .inl (fun _ => nI 0))), (q3_, .inl (c3_, 8, .inl (fun _ => nI 0))), (q4_, .inl (c4_, 8, .inl (fun _ => nI 0)))] H := hP
  have hD : va_D A [(h0, .inr (0, [.ref q1_, .ref q2_, .ref q3_, .ref q4_, .null, .int 0, .null])), (q1_, .inl (c1_, 24, .inl (fun _ => nI 0))), (q2_, .inl (c2_, 24, .inl (fun _ => nI 0))), (q3_, .inl (c3_, 8, .inl (fun _ => nI 0))), (q4_, .inl (c4_, 8, .inl (fun _ => nI 0)))] := hD
  refine lv_aload_n hx hb dX0_init_36 rfl (lv_at hl 0 rfl) ?_
  refine lv_bipush (v := nI 64) hx hb dX0_init_37 (by decide +kernel) ?_
  refine va_newa (atype := .byte) hx hb (hts _ q65) (ty := .byte) rfl hK hP hD hS hA (N' := 64) (a0 := (64, .inl (fun _ => nI 0))) (fun _ => rfl) (by decide +kernel) (by decide +kernel) (by decide +kernel) (Nat.le_of_ble_eq_true rfl) (Nat.le_of_ble_eq_true rfl) dX0_init_39 (fun q5_ c5_ H hK hP hD hS => ?_)
  have hP : va_P G vwCl [(h0, .inr (0, [.ref q1_, .ref q2_, .ref q3_, .ref q4_, .null, .int 0, .null])), (q1_, .inl (c1_, 24, .inl (fun _ => nI 0))), (q2_, .inl (c2_, 24, .inl (fun _ => nI 0))), (q3_, .inl (c3_, 8, .inl (fun _ => nI 0))), (q4_, .inl (c4_, 8, .inl (fun _ => nI 0))), (q5_, .inl (c5_, 64, .inl (fun _ => nI 0)))] H := hP
  have hD : va_D A [(h0, .inr (0, [.ref q1_, .ref q2_, .ref q3_, .ref q4_, .null, .int 0, .null])), (q1_, .inl (c1_, 24, .inl (fun _ => nI 0))), (q2_, .inl (c2_, 24, .inl (fun _ => nI 0))), (q3_, .inl (c3_, 8, .inl (fun _ => nI 0))), (q4_, .inl (c4_, 8, .inl (fun _ => nI 0))), (q5_, .inl (c5_, 64, .inl (fun _ => nI 0)))] := hD
  have hK : va_K G vwCl [(c1_, .short), (c2_, .short), (c3_, .byte), (c4_, .byte), (c5_, .byte)] s := hK
  refine va_putF (D := G) (ci := 0) (v := .ref q5_) (ty := .array .byte) (C := RX0) (T := TX0) (N := 7) hx hb hts in_X0 tyX0 tyX0_ok nmX0 hown hK hP hD hS 0 rfl rfl 4 (by decide) (hts _ q46) (fun _ h9 => h9) rfl hin rfl (by decide +kernel) rfl rfl (Nat.le_of_ble_eq_true rfl) dX0_init_41 (fun H locs hP hD hS => ?_)
  have hP : va_P G vwCl [(h0, .inr (0, [.ref q1_, .ref q2_, .ref q3_, .ref q4_, .ref q5_, .int 0, .null])), (q1_, .inl (c1_, 24, .inl (fun _ => nI 0))), (q2_, .inl (c2_, 24, .inl (fun _ => nI 0))), (q3_, .inl (c3_, 8, .inl (fun _ => nI 0))), (q4_, .inl (c4_, 8, .inl (fun _ => nI 0))), (q5_, .inl (c5_, 64, .inl (fun _ => nI 0)))] H := hP
  have hD : va_D A [(h0, .inr (0, [.ref q1_, .ref q2_, .ref q3_, .ref q4_, .ref q5_, .int 0, .null])), (q1_, .inl (c1_, 24, .inl (fun _ => nI 0))), (q2_, .inl (c2_, 24, .inl (fun _ => nI 0))), (q3_, .inl (c3_, 8, .inl (fun _ => nI 0))), (q4_, .inl (c4_, 8, .inl (fun _ => nI 0))), (q5_, .inl (c5_, 64, .inl (fun _ => nI 0)))] := hD
  refine lv_aload_n hx hb dX0_init_44 rfl (lv_at hl 0 rfl) ?_
  refine lv_bipush (v := nI 8) hx hb dX0_init_45 (by decide +kernel) ?_
  refine va_newa (atype := .short) hx hb (hts _ q64) (ty := .short) rfl hK hP hD hS hA (N' := 8) (a0 := (8, .inl (fun _ => nI 0))) (fun _ => rfl) (by decide +kernel) (by decide +kernel) (by decide +kernel) (Nat.le_of_ble_eq_true rfl) (Nat.le_of_ble_eq_true rfl) dX0_init_47 (fun q6_ c6_ H hK hP hD hS => ?_)
  have hP : va_P G vwCl [(h0, .inr (0, [.ref q1_, .ref q2_, .ref q3_, .ref q4_, .ref q5_, .int 0, .null])), (q1_, .inl (c1_, 24, .inl (fun _ => nI 0))), (q2_, .inl (c2_, 24, .inl (fun _ => nI 0))), (q3_, .inl (c3_, 8, .inl (fun _ => nI 0))), (q4_, .inl (c4_, 8, .inl (fun _ => nI 0))), (q5_, .inl (c5_, 64, .inl (fun _ => nI 0))), (q6_, .inl (c6_, 8, .inl (fun _ => nI 0)))] H := hP
  have hD : va_D A [(h0, .inr (0, [.ref q1_, .ref q2_, .ref q3_, .ref q4_, .ref q5_, .int 0, .null])), (q1_, .inl (c1_, 24, .inl (fun _ => nI 0))), (q2_, .inl (c2_, 24, .inl (fun _ => nI 0))), (q3_, .inl (c3_, 8, .inl (fun _ => nI 0))), (q4_, .inl (c4_, 8, .inl (fun _ => nI 0))), (q5_, .inl (c5_, 64, .inl (fun _ => nI 0))), (q6_, .inl (c6_, 8, .inl (fun _ => nI 0)))] := hD
  have hK : va_K G vwCl [(c1_, .short), (c2_, .short), (c3_, .byte), (c4_, .byte), (c5_, .byte), (c6_, .short)] s := hK
  refine va_putF (D := G) (ci := 0) (v := .ref q6_) (ty := .array .short) (C := RX0) (T := TX0) (N := 7) hx hb hts in_X0 tyX0 tyX0_ok nmX0 hown hK hP hD hS 0 rfl rfl 6 (by decide) (hts _ q48) (fun _ h9 => h9) rfl hin rfl (by decide +kernel) rfl rfl (Nat.le_of_ble_eq_true rfl) dX0_init_49 (fun H locs hP hD hS => ?_)
  have hP : va_P G vwCl [(h0, .inr (0, [.ref q1_, .ref q2_, .ref q3_, .ref q4_, .ref q5_, .int 0, .ref q6_])), (q1_, .inl (c1_, 24, .inl (fun _ => nI 0))), (q2_, .inl (c2_, 24, .inl (fun _ => nI 0))), (q3_, .inl (c3_, 8, .inl (fun _ => nI 0))), (q4_, .inl (c4_, 8, .inl (fun _ => nI 0))), (q5_, .inl (c5_, 64, .inl (fun _ => nI 0))), (q6_, .inl (c6_, 8, .inl (fun _ => nI 0)))] H := hP
  have hD : va_D A [(h0, .inr (0, [.ref q1_, .ref q2_, .ref q3_, .ref q4_, .ref q5_, .int 0, .ref q6_])), (q1_, .inl (c1_, 24, .inl (fun _ => nI 0))), (q2_, .inl (c2_, 24, .inl (fun _ => nI 0))), (q3_, .inl (c3_, 8, .inl (fun _ => nI 0))), (q4_, .inl (c4_, 8, .inl (fun _ => nI 0))), (q5_, .inl (c5_, 64, .inl (fun _ => nI 0))), (q6_, .inl (c6_, 8, .inl (fun _ => nI 0)))] := hD
  obtain rfl : c2_ = c1_ := pe_sameS hK 0 1 rfl rfl
  obtain rfl : c6_ = c2_ := pe_sameS hK 0 5 rfl rfl
  obtain rfl : c4_ = c3_ := pe_sameB hK 2 3 rfl rfl
  obtain rfl : c5_ = c4_ := pe_sameB hK 2 4 rfl rfl
  refine W.widen (k := 6) (n := 136) (Nat.le_of_ble_eq_true rfl) (Nat.le_of_ble_eq_true rfl) ?_
  exact W.vret hx hb hr (fun t ht hW => ⟨⟨(), rfl, trivial, fun k => [h0, q1_, q2_, q3_, q4_, q5_, q6_].getD k 0, c6_, c5_, rfl, by rw [ht]; exact hP, va_K.moved hW.alike (hK.sub (tys' := xT c6_ c5_) [0, 2] rfl), hD⟩, hS.F ht⟩) hS.2.2 dX0_init_52
set_option maxHeartbeats 4000000 in
theorem m_X1_init (l : Launch) (G : va_G) (h0 sz : Nat) : Met l yX1_init (ws_ yX1_init cX1_init 1 none) ({ frames := 1, cells := 5, slots := 240, locals := 12 }) (va_Pc [.ref h0] (fun U => U.heap.size = sz ∧ va_P G vwCl [(h0, .inr (1, [.null, .null, .null, .null, .null]))] U.heap ∧ va_K G vwCl [] U ∧ va_D (fun _ => True) [(h0, .inr (1, [.null, .null, .null, .null, .null]))])) (va_Qv (fun _ : Unit => True) (fun _ t => ∃ (ad : Nat → Nat) (cI cZ : ClassId), ad 0 = h0 ∧ va_P G vwCl (yW ad cI cZ (fun _ => 0) (fun _ => 0) (fun _ => nI 0) (fun _ => nI 0) (fun _ => false)) t.heap ∧ va_K G vwCl (yT cI cZ) t ∧ va_D (va_A [(h0, .inr (1, [.null, .null, .null, .null, .null]))] sz) (yW ad cI cZ (fun _ => 0) (fun _ => 0) (fun _ => nI 0) (fun _ => nI 0) (fun _ => false))) (va_A [(h0, .inr (1, [.null, .null, .null, .null, .null]))] sz)) 5 240 (va_A [(h0, .inr (1, [.null, .null, .null, .null, .null]))] sz) := by
  refine pe_startI (by decide) (Nat.le_of_ble_eq_true rfl) ?_
  intro p e s m below meth c hx hb hr hml hown hts hlocks hin hB ls hl
  obtain ⟨hsz, hP, hK, hD0⟩ := hB
  have hown : s.vm.findClass RX1 = some m.cls := hown
  subst hsz
  have hD := hD0.self (sz := s.heap.size)
  generalize hAe : va_A [(h0, .inr (1, [.null, .null, .null, .null, .null]))] s.heap.size = A at hD ⊢
  have hA : ∀ q : Nat, s.heap.size ≤ q → A q := fun q h => by rw [← hAe]; exact Or.inr h
  have hS : va_S A s.heap s.heap [] := va_S.rf
  have hl : lv_has ls 1 [(0, .ref h0)] := hl
  refine lv_aload_n hx hb dX1_init_0 rfl (lv_at hl 0 rfl) ?_
  refine W.objInit hx hb hown (hts _ q208) (hts _ q40) (hts _ q41) rfl (by rw [hml]; exact hl.1) rfl dX1_init_1 (Nat.le_of_ble_eq_true rfl) (Nat.le_of_ble_eq_true rfl) ?_
  refine W.eq (g2 := F0 m 4 ls []) rfl ?_
  refine lv_aload_n hx hb dX1_init_4 rfl (lv_at hl 0 rfl) ?_
  refine lv_bipush (v := nI 24) hx hb dX1_init_5 (by decide +kernel) ?_
  refine va_newa (atype := .int) hx hb (hts _ q225) (ty := .int) rfl hK hP hD hS hA (N' := 24) (a0 := (24, .inl (fun _ => nI 0))) (fun _ => rfl) (by decide +kernel) (by decide +kernel) (by decide +kernel) (Nat.le_of_ble_eq_true rfl) (Nat.le_of_ble_eq_true rfl) dX1_init_7 (fun q1_ c1_ H hK hP hD hS => ?_)
  have hP : va_P G vwCl [(h0, .inr (1, [.null, .null, .null, .null, .null])), (q1_, .inl (c1_, 24, .inl (fun _ => nI 0)))] H := hP
  have hD : va_D A [(h0, .inr (1, [.null, .null, .null, .null, .null])), (q1_, .inl (c1_, 24, .inl (fun _ => nI 0)))] := hD
  have hK : va_K G vwCl [(c1_, .int)] s := hK
  refine va_put (D := G) (ci := 1) (v := .ref q1_) (ty := .array .int) (C := RX1) (T := TX1) (N := 5) hx hb hts in_X1 tyX1 tyX1_ok nmX1 hown hK hP hD hS 0 rfl rfl 0 (by decide) (hts _ q209) (fun _ h9 => h9) rfl (by decide +kernel) rfl rfl (Nat.le_of_ble_eq_true rfl) dX1_init_9 (fun H locs hP hD hS => ?_)
  have hP : va_P G vwCl [(h0, .inr (1, [.ref q1_, .null, .null, .null, .null])), (q1_, .inl (c1_, 24, .inl (fun _ => nI 0)))] H := hP
  have hD : va_D A [(h0, .inr (1, [.ref q1_, .null, .null, .null, .null])), (q1_, .inl (c1_, 24, .inl (fun _ => nI 0)))] := hD
  refine lv_aload_n hx hb dX1_init_12 rfl (lv_at hl 0 rfl) ?_
  refine lv_bipush (v := nI 24) hx hb dX1_init_13 (by decide +kernel) ?_
  refine va_newa (atype := .int) hx hb (hts _ q225) (ty := .int) rfl hK hP hD hS hA (N' := 24) (a0 := (24, .inl (fun _ => nI 0))) (fun _ => rfl) (by decide +kernel) (by decide +kernel) (by decide +kernel) (Nat.le_of_ble_eq_true rfl) (Nat.le_of_ble_eq_true rfl) dX1_init_15 (fun q2_ c2_ H hK hP hD hS => ?_)
  have hP : va_P G vwCl [(h0, .inr (1, [.ref q1_, .null, .null, .null, .null])), (q1_, .inl (c1_, 24, .inl (fun _ => nI 0))), (q2_, .inl (c2_, 24, .inl (fun _ => nI 0)))] H := hP
  have hD : va_D A [(h0, .inr (1, [.ref q1_, .null, .null, .null, .null])), (q1_, .inl (c1_, 24, .inl (fun _ => nI 0))), (q2_, .inl (c2_, 24, .inl (fun _ => nI 0)))] := hD
  have hK : va_K G vwCl [(c1_, .int), (c2_, .int)] s := hK
  refine va_put (D := G) (ci := 1) (v := .ref q2_) (ty := .array .int) (C := RX1) (T := TX1) (N := 5) hx hb hts in_X1 tyX1 tyX1_ok nmX1 hown hK hP hD hS 0 rfl rfl 1 (by decide) (hts _ q210) (fun _ h9 => h9) rfl (by decide +kernel) rfl rfl (Nat.le_of_ble_eq_true rfl) dX1_init_17 (fun H locs hP hD hS => ?_)
  have hP : va_P G vwCl [(h0, .inr (1, [.ref q1_, .ref q2_, .null, .null, .null])), (q1_, .inl (c1_, 24, .inl (fun _ => nI 0))), (q2_, .inl (c2_, 24, .inl (fun _ => nI 0)))] H := hP
  have hD : va_D A [(h0, .inr (1, [.ref q1_, .ref q2_, .null, .null, .null])), (q1_, .inl (c1_, 24, .inl (fun _ => nI 0))), (q2_, .inl (c2_, 24, .inl (fun _ => nI 0)))] := hD
  refine lv_aload_n hx hb dX1_init_20 rfl (lv_at hl 0 rfl) ?_
  refine lv_bipush (v := nI 64) hx hb dX1_init_21 (by decide +kernel) ?_
  refine va_newa (atype := .int) hx hb (hts _ q225) (ty := .int) rfl hK hP hD hS hA (N' := 64) (a0 := (64, .inl (fun _ => nI 0))) (fun _ => rfl) (by decide +kernel) (by decide +kernel) (by decide +kernel) (Nat.le_of_ble_eq_true rfl) (Nat.le_of_ble_eq_true rfl) dX1_init_23 (fun q3_ c3_ H hK hP hD hS => ?_)
  have hP : va_P G vwCl [(h0, .inr (1, [.ref q1_, .ref q2_, .null, .null, .null])), (q1_, .inl (c1_, 24, .inl (fun _ => nI 0))), (q2_, .inl (c2_, 24, .inl (fun _ => nI 0))), (q3_, .inl (c3_, 64, .inl (fun _ => nI 0)))] H := hP
  have hD : va_D A [(h0, .inr (1, [.ref q1_, .ref q2_, .null, .null, .null])), (q1_, .inl (c1_, 24, .inl (fun _ => nI 0))), (q2_, .inl (c2_, 24, .inl (fun _ => nI 0))), (q3_, .inl (c3_, 64, .inl (fun _ => nI 0)))] := hD
  have hK : va_K G vwCl [(c1_, .int), (c2_, .int), (c3_, .int)] s := hK
  refine va_put (D := G) (ci := 1) (v := .ref q3_) (ty := .array .int) (C := RX1) (T := TX1) (N := 5) hx hb hts in_X1 tyX1 tyX1_ok nmX1 hown hK hP hD hS 0 rfl rfl 2 (by decide) (hts _ q211) (fun _ h9 => h9) rfl (by decide +kernel) rfl rfl (Nat.le_of_ble_eq_true rfl) dX1_init_25 (fun H locs hP hD hS => ?_)
  have hP : va_P G vwCl [(h0, .inr (1, [.ref q1_, .ref q2_, .ref q3_, .null, .null])), (q1_, .inl (c1_, 24, .inl (fun _ => nI 0))), (q2_, .inl (c2_, 24, .inl (fun _ => nI 0))), (q3_, .inl (c3_, 64, .inl (fun _ => nI 0)))] H := hP
  have hD : va_D A [(h0, .inr (1, [.ref q1_, .ref q2_, .ref q3_, .null, .null])), (q1_, .inl (c1_, 24, .inl (fun _ => nI 0))), (q2_, .inl (c2_, 24, .inl (fun _ => nI 0))), (q3_, .inl (c3_, 64, .inl (fun _ => nI 0)))] := hD
  refine lv_aload_n hx hb dX1_init_28 rfl (lv_at hl 0 rfl) ?_
  refine lv_bipush (v := nI 64) hx hb dX1_init_29 (by decide +kernel) ?_
  refine va_newa (atype := .int) hx hb (hts _ q225) (ty := .int) rfl hK hP hD hS hA (N' := 64) (a0 := (64, .inl (fun _ => nI 0))) (fun _ => rfl) (by decide +kernel) (by decide +kernel) (by decide +kernel) (Nat.le_of_ble_eq_true rfl) (Nat.le_of_ble_eq_true rfl) dX1_init_31 (fun q4_ c4_ H hK hP hD hS => ?_)
  have hP : va_P G vwCl [(h0, .inr (1, [.ref q1_, .ref q2_, .ref q3_, .null, .null])), (q1_, .inl (c1_, 24, .inl (fun _ => nI 0))), (q2_, .inl (c2_, 24, .inl (fun _ => nI 0))), (q3_, .inl (c3_, 64, .inl (fun _ => nI 0))), (q4_, .inl (c4_, 64, .inl (fun _ => nI 0)))] H := hP
  have hD : va_D A [(h0, .inr (1, [.ref q1_, .ref q2_, .ref q3_, .null, .null])), (q1_, .inl (c1_, 24, .inl (fun _ => nI 0))), (q2_, .inl (c2_, 24, .inl (fun _ => nI 0))), (q3_, .inl (c3_, 64, .inl (fun _ => nI 0))), (q4_, .inl (c4_, 64, .inl (fun _ => nI 0)))] := hD
  have hK : va_K G vwCl [(c1_, .int), (c2_, .int), (c3_, .int), (c4_, .int)] s := hK
  refine va_put (D := G) (ci := 1) (v := .ref q4_) (ty := .array .int) (C := RX1) (T := TX1) (N := 5) hx hb hts in_X1 tyX1 tyX1_ok nmX1 hown hK hP hD hS 0 rfl rfl 3 (by decide) (hts _ q212) (fun _ h9 => h9) rfl (by decide +kernel) rfl rfl (Nat.le_of_ble_eq_true rfl) dX1_init_33 (fun H locs hP hD hS => ?_)
  have hP : va_P G vwCl [(h0, .inr (1, [.ref q1_, .ref q2_, .ref q3_, .ref q4_, .null])), (q1_, .inl (c1_, 24, .inl (fun _ => nI 0))), (q2_, .inl (c2_, 24, .inl (fun _ => nI 0))), (q3_, .inl (c3_, 64, .inl (fun _ => nI 0))), (q4_, .inl (c4_, 64, .inl (fun _ => nI 0)))] H := hP
  have hD : va_D A [(h0, .inr (1, [.ref q1_, .ref q2_, .ref q3_, .ref q4_, .null])), (q1_, .inl (c1_, 24, .inl (fun _ => nI 0))), (q2_, .inl (c2_, 24, .inl (fun _ => nI 0))), (q3_, .inl (c3_, 64, .inl (fun _ => nI 0))), (q4_, .inl (c4_, 64, .inl (fun _ => nI 0)))] := hD
  refine lv_aload_n hx hb dX1_init_36 rfl (lv_at hl 0 rfl) ?_
  refine lv_bipush (v := nI 64) hx hb dX1_init_37 (by decide +kernel) ?_
  refine va_newa (atype := .boolean) hx hb (hts _ q226) (ty := .boolean) rfl hK hP hD hS hA (N' := 64) (a0 := (64, .inl (fun _ => nI 0))) (fun _ => rfl) (by decide +kernel) (by decide +kernel) (by decide +kernel) (Nat.le_of_ble_eq_true rfl) (Nat.le_of_ble_eq_true rfl) dX1_init_39 (fun q5_ c5_ H hK hP hD hS => ?_)
  have hP : va_P G vwCl [(h0, .inr (1, [.ref q1_, .ref q2_, .ref q3_, .ref q4_, .null])), (q1_, .inl (c1_, 24, .inl (fun _ => nI 0))), (q2_, .inl (c2_, 24, .inl (fun _ => nI 0))), (q3_, .inl (c3_, 64, .inl (fun _ => nI 0))), (q4_, .inl (c4_, 64, .inl (fun _ => nI 0))), (q5_, .inl (c5_, 64, .inl (fun _ => nI 0)))] H := hP
  have hD : va_D A [(h0, .inr (1, [.ref q1_, .ref q2_, .ref q3_, .ref q4_, .null])), (q1_, .inl (c1_, 24, .inl (fun _ => nI 0))), (q2_, .inl (c2_, 24, .inl (fun _ => nI 0))), (q3_, .inl (c3_, 64, .inl (fun _ => nI 0))), (q4_, .inl (c4_, 64, .inl (fun _ => nI 0))), (q5_, .inl (c5_, 64, .inl (fun _ => nI 0)))] := hD
  have hK : va_K G vwCl [(c1_, .int), (c2_, .int), (c3_, .int), (c4_, .int), (c5_, .boolean)] s := hK
  refine va_put (D := G) (ci := 1) (v := .ref q5_) (ty := .array .boolean) (C := RX1) (T := TX1) (N := 5) hx hb hts in_X1 tyX1 tyX1_ok nmX1 hown hK hP hD hS 0 rfl rfl 4 (by decide) (hts _ q213) (fun _ h9 => h9) rfl (by decide +kernel) rfl rfl (Nat.le_of_ble_eq_true rfl) dX1_init_41 (fun H locs hP hD hS => ?_)
  have hP : va_P G vwCl [(h0, .inr (1, [.ref q1_, .ref q2_, .ref q3_, .ref q4_, .ref q5_])), (q1_, .inl (c1_, 24, .inl (fun _ => nI 0))), (q2_, .inl (c2_, 24, .inl (fun _ => nI 0))), (q3_, .inl (c3_, 64, .inl (fun _ => nI 0))), (q4_, .inl (c4_, 64, .inl (fun _ => nI 0))), (q5_, .inl (c5_, 64, .inl (fun _ => nI 0)))] H := hP
  have hD : va_D A [(h0, .inr (1, [.ref q1_, .ref q2_, .ref q3_, .ref q4_, .ref q5_])), (q1_, .inl (c1_, 24, .inl (fun _ => nI 0))), (q2_, .inl (c2_, 24, .inl (fun _ => nI 0))), (q3_, .inl (c3_, 64, .inl (fun _ => nI 0))), (q4_, .inl (c4_, 64, .inl (fun _ => nI 0))), (q5_, .inl (c5_, 64, .inl (fun _ => nI 0)))] := hD
  obtain rfl : c2_ = c1_ := pe_sameI hK 0 1 rfl rfl
  obtain rfl : c3_ = c2_ := pe_sameI hK 0 2 rfl rfl
  obtain rfl : c4_ = c3_ := pe_sameI hK 0 3 rfl rfl
  refine W.widen (k := 5) (n := 240) (Nat.le_of_ble_eq_true rfl) (Nat.le_of_ble_eq_true rfl) ?_
  exact W.vret hx hb hr (fun t ht hW => ⟨⟨(), rfl, trivial, fun k => [h0, q1_, q2_, q3_, q4_, q5_].getD k 0, c4_, c5_, rfl, by rw [ht]; exact hP, va_K.moved hW.alike (hK.sub (tys' := yT c4_ c5_) [0, 4] rfl), hD⟩, hS.F ht⟩) hS.2.2 dX1_init_44
end
section
/-! the law: one theorem a case of its switch (printed by gen/law.py) -/
set_option maxRecDepth 100000
def R_law : String := "ProcessEquivLaw"
def lw_P (b : Addr) (xs : List Int32) (args : Array Value) (s : State) : Prop := args = #[.ref b] ∧ s.IntsAt b xs ∧ xs.length ≤ 256 ∧ (Jvm.Cond.and given_1 narrow_1).before args s = true
def lw_Q (_ : Array Value) (s : State) (o : Outcome) (t : State) : Prop := o = .returned (some (.int 1)) ∧ Framed s o t [] 600000 7290000
def lw_Z (below : List Frame) (a : Array Value) (s : State) : State → Prop := fun t => ∃ o, t.status = .running ∧ Ended t below o ∧ lw_Q a s o t
/-- the law's own end, with 1 on the stack, nothing written that was there before, its room as the claim has it -/
theorem lw_ret {p : Program} {l : Launch} {e : Env} {s : State} {m : MethodId} {below : List Frame} {meth : Method} {c : Code} {b : Nat} (hx : p.tables.exec = Jvm.exec) (hb : c.code = code) (hr : meth.sig.returnType = ret) (hlocks : meth.locks = false) {pc : Nat} {H : Heap} {ls : Array Slot} (hdg : decode code pc = .ok (.ireturn, 1)) : W p l e room_1 s m #[Value.ref b] below meth c H [] 600000 7290000 (lw_Z below #[Value.ref b] s) (F0 m pc ls [.int 1]) := by
  intro T hT X
  obtain ⟨fs, hret, hrun, hended, hW, hframe⟩ := X.leave (v := some (.int 1)) (hlocks := hlocks) (fun h => by rw [hr] at h; cases h)
  have hmeth' : T.vm.method? m = some meth := X.method'
  refine ⟨T.setFrames fs, ?_, .returned (some (.int 1)), hrun, hended, rfl, ⟨_, rfl⟩, hW, hframe⟩
  jvm_step X.here [X.here.top, hx, hb, hdg, hmeth', hr, ret, narrow_b1]
  (try refine ⟨rfl, ?_⟩); (try refine ⟨rfl, ?_⟩)
  first | (intro acts; rw [hret _ acts rfl rfl rfl]) | rw [hret _ _ rfl rfl rfl]
  exact Steps.refl _
/-- what holds at the law's entry: the machine, the code, the tables' words (any of lw_tbl by 'hts w (by decide +kernel)'), the script of L ints xs at the cell b, what the Statement gives of the start (any of its parts by flat_of_before) -/
def lw_At (p : Program) (s : State) (m : MethodId) (meth : Method) (c : Code) (b L : Nat) (xs : Nat → Int32) : Prop :=
  p.tables.exec = Jvm.exec ∧ c.code = code ∧ meth.sig.returnType = ret ∧ c.maxLocals = 4 ∧ s.vm.findClass R_law = some m.cls ∧ (∀ w ∈ lw_tbl, w.before #[Value.ref b] s = true) ∧ va_X b L xs s s.heap ∧ b < s.heap.size ∧ meth.locks = false ∧ (Jvm.Cond.and given_1 narrow_1).before #[Value.ref b] s = true
def aX (ad : Nat → Nat) : Nat → Prop := fun q => ∃ k, k < 7 ∧ q = ad k
def aY (ad : Nat → Nat) : Nat → Prop := fun q => ∃ k, k < 6 ∧ q = ad k
theorem xW_get (ad : Nat → Nat) (cS cB : ClassId) (nx lx gg ww : Nat → Nat) (tt : Nat → Int32) (lr : Int32) (ff : Nat → Nat) : ∀ i, i < 7 → ∃ e, (xW ad cS cB nx lx gg ww tt lr ff)[i]? = some (ad i, e) := by
  intro i hi
  rcases (show i = 0 ∨ i = 1 ∨ i = 2 ∨ i = 3 ∨ i = 4 ∨ i = 5 ∨ i = 6 by omega) with rfl | rfl | rfl | rfl | rfl | rfl | rfl <;> exact ⟨_, rfl⟩
theorem yW_get (ad : Nat → Nat) (cI cZ : ClassId) (nx fr : Nat → Nat) (td kp : Nat → Int32) (af : Nat → Bool) : ∀ i, i < 6 → ∃ e, (yW ad cI cZ nx fr td kp af)[i]? = some (ad i, e) := by
  intro i hi
  rcases (show i = 0 ∨ i = 1 ∨ i = 2 ∨ i = 3 ∨ i = 4 ∨ i = 5 by omega) with rfl | rfl | rfl | rfl | rfl | rfl <;> exact ⟨_, rfl⟩
theorem xD_of {A : Nat → Prop} {ad : Nat → Nat} {cS cB : ClassId} {nx lx gg ww : Nat → Nat} {tt : Nat → Int32} {lr : Int32} {ff : Nat → Nat} (h : va_D A (xW ad cS cB nx lx gg ww tt lr ff)) : xD A ad := by
  refine ⟨fun i j hi hj e => ?_, fun i hi => ?_⟩
  · obtain ⟨e1, h1⟩ := xW_get ad cS cB nx lx gg ww tt lr ff i hi
    obtain ⟨e2, h2⟩ := xW_get ad cS cB nx lx gg ww tt lr ff j hj
    exact h.1 i j _ _ h1 h2 e
  · obtain ⟨e1, h1⟩ := xW_get ad cS cB nx lx gg ww tt lr ff i hi
    exact h.2 i _ h1
theorem yD_of {A : Nat → Prop} {ad : Nat → Nat} {cI cZ : ClassId} {nx fr : Nat → Nat} {td kp : Nat → Int32} {af : Nat → Bool} (h : va_D A (yW ad cI cZ nx fr td kp af)) : yD A ad := by
  refine ⟨fun i j hi hj e => ?_, fun i hi => ?_⟩
  · obtain ⟨e1, h1⟩ := yW_get ad cI cZ nx fr td kp af i hi
    obtain ⟨e2, h2⟩ := yW_get ad cI cZ nx fr td kp af j hj
    exact h.1 i j _ _ h1 h2 e
  · obtain ⟨e1, h1⟩ := yW_get ad cI cZ nx fr td kp af i hi
    exact h.2 i _ h1
theorem xyD_of {A : Nat → Prop} {ax ay : Nat → Nat} {cS cB cI cZ : ClassId} {nx lx gg ww nx2 fr : Nat → Nat} {tt td kp : Nat → Int32} {lr : Int32} {ff : Nat → Nat} {af : Nat → Bool} (h : va_D A (xW ax cS cB nx lx gg ww tt lr ff ++ yW ay cI cZ nx2 fr td kp af)) : ∀ i j, i < 7 → j < 6 → ax i ≠ ay j := by
  intro i j hi hj e
  obtain ⟨e1, h1⟩ := xW_get ax cS cB nx lx gg ww tt lr ff i hi
  obtain ⟨e2, h2⟩ := yW_get ay cI cZ nx2 fr td kp af j hj
  have g1 : (xW ax cS cB nx lx gg ww tt lr ff ++ yW ay cI cZ nx2 fr td kp af)[i]? = some (ax i, e1) := by
    rw [List.getElem?_append_left (show i < (xW ax cS cB nx lx gg ww tt lr ff).length from hi)]; exact h1
  have g2 : (xW ax cS cB nx lx gg ww tt lr ff ++ yW ay cI cZ nx2 fr td kp af)[7 + j]? = some (ay j, e2) := by
    rw [List.getElem?_append_right (show (xW ax cS cB nx lx gg ww tt lr ff).length ≤ 7 + j from Nat.le_add_right 7 j), show 7 + j - (xW ax cS cB nx lx gg ww tt lr ff).length = j from Nat.add_sub_cancel_left 7 j]; exact h2
  have := h.1 i (7 + j) _ _ g1 g2 e
  omega
theorem xD_aX {A : Nat → Prop} {ad : Nat → Nat} (h : xD A ad) : xD (aX ad) ad := ⟨h.1, fun i hi => ⟨i, hi, rfl⟩⟩
theorem yD_aY {A : Nat → Prop} {ad : Nat → Nat} (h : yD A ad) : yD (aY ad) ad := ⟨h.1, fun i hi => ⟨i, hi, rfl⟩⟩
theorem aX_in {A : Nat → Prop} {ad : Nat → Nat} (h : xD A ad) : ∀ q, aX ad q → A q := by
  rintro q ⟨k, hk, rfl⟩; exact h.2 k hk
theorem aY_in {A : Nat → Prop} {ad : Nat → Nat} (h : yD A ad) : ∀ q, aY ad q → A q := by
  rintro q ⟨k, hk, rfl⟩; exact h.2 k hk
theorem yP_kept {G : va_G} {ax ay : Nat → Nat} {cI cZ : ClassId} {nx fr : Nat → Nat} {td kp : Nat → Int32} {af : Nat → Bool} {H H1 : Heap} (h : va_P G vwCl (yW ay cI cZ nx fr td kp af) H) (hd : ∀ i j, i < 7 → j < 6 → ax i ≠ ay j) (hk : ∀ q : Nat, q < H.size → ¬ aX ax q → H1[q]? = H[q]?) : va_P G vwCl (yW ay cI cZ nx fr td kp af) H1 := by
  refine h.kept (fun k q hq => ?_)
  have hlt := (h k q hq).lt
  obtain ⟨h1, h2⟩ := yW_at k q hq
  refine hk q.1 hlt ?_
  rintro ⟨i, hi, e⟩
  exact hd i k hi h1 (by rw [← e, ← h2])
theorem xP_kept {G : va_G} {ax ay : Nat → Nat} {cS cB : ClassId} {nx : Nat → Nat} {H H1 : Heap} (h : xP G ax cS cB nx H) (hd : ∀ i j, i < 7 → j < 6 → ax i ≠ ay j) (hk : ∀ q : Nat, q < H.size → ¬ aY ay q → H1[q]? = H[q]?) : xP G ax cS cB nx H1 := by
  obtain ⟨lx, gg, ww, tt, lr, ff, h⟩ := h
  refine ⟨lx, gg, ww, tt, lr, ff, h.kept (fun k q hq => ?_)⟩
  have hlt := (h k q hq).lt
  obtain ⟨h1, h2⟩ := xW_at k q hq
  refine hk q.1 hlt ?_
  rintro ⟨i, hi, e⟩
  exact hd k i h1 hi (by rw [← e, ← h2])
theorem pe_sld {p : Program} {l : Launch} {e : Env} {R : Room} {s : State} {m : MethodId} {args : Array Value} {below : List Frame} {meth : Method} {c : Code} {H : Heap} {locs : List Loc} {cells slots : Nat} {Q : State → Prop} {cc : ByteArray} {pc : Nat} {ls : Array Slot} {rest : List Value} {A : Nat → Prop} {H0 : Heap} (hx : p.tables.exec = Jvm.exec) (hb : c.code = cc) {b L : Nat} {xs : Nat → Int32} (hX : va_X b L xs s H0) (hbl : b < H0.size) (hbA : ¬ A b) (hS : va_S A H0 H locs) {i : Nat} (hi : i < L) (hL : L < 2 ^ 31) (hdg : decode cc pc = .ok (.iaload, 1))
    (kk : W p l e R s m args below meth c H locs cells slots Q (F0 m (pc + 1) ls (.int (xs i) :: rest))) : W p l e R s m args below meth c H locs cells slots Q (F0 m pc ls (.int (nI i) :: .ref b :: rest)) := by
  refine va_sld hx hb hX hbl hbA hS (vp_in_nI hi hL) hdg ?_
  rw [nI_clamp (by omega)]
  exact kk
def lcC (p : Program) (s : State) (m : MethodId) (c : Code) (b L : Nat) (xs : Nat → Int32) (G : va_G) (ax ay : Nat → Nat) (cS cB cI cZ : ClassId) : Prop :=
  CallFix p m c code 4 s #[Value.ref b] lw_all R_law ∧ va_X b L xs s s.heap ∧ b < s.heap.size ∧ va_K G vwCl (xT cS cB) s ∧ va_K G vwCl (yT cI cZ) s ∧ xD (fun q => s.heap.size ≤ q) ax ∧ yD (fun q => s.heap.size ≤ q) ay ∧ ∀ i j, i < 7 → j < 6 → ax i ≠ ay j
def lcI (s : State) (G : va_G) (ax ay : Nat → Nat) (cS cB cI cZ : ClassId) (b n : Nat) (nx : Nat → Nat) (H : Heap) (locs : List Loc) (ls : Array Slot) : Prop :=
  (∀ j, j < 24 → nx j < 256) ∧ xP G ax cS cB nx H ∧ yP G ay cI cZ nx H ∧ va_S (fun q => s.heap.size ≤ q) s.heap H locs ∧ lv_has ls 4 [(0, .ref b), (1, .ref (ax 0)), (2, .ref (ay 0)), (3, .int (nI (4 * n)))]
theorem smF_add (g : Nat → Nat) (a k : Nat) : smF g (a + k) = smF g a + smF (fun j => g (a + j)) k := by
  induction k with
  | zero => rfl
  | succ k ih =>
    show smF g (a + k) + g (a + k) = smF g a + (smF (fun j => g (a + j)) k + g (a + k))
    rw [ih]; omega
theorem smF_prod (f : Nat → Nat → Nat) (n : Nat) : smF (fun j => f (j / 8) (j % 8)) (8 * n) = smF (fun c => smF (f c) 8) n := by
  induction n with
  | zero => rfl
  | succ n ih =>
    rw [show 8 * (n + 1) = 8 * n + 8 by omega, smF_add, ih]
    show _ = smF (fun c => smF (f c) 8) n + smF (f n) 8
    have e : smF (fun j => f ((8 * n + j) / 8) ((8 * n + j) % 8)) 8 = smF (f n) 8 := smF_congr (fun b hb => by rw [show (8 * n + b) / 8 = n by omega, show (8 * n + b) % 8 = b by omega])
    rw [e]
theorem z_steps (nx : Nat → Nat) : smF (fun c => smF (fun j => ((nx c).testBit j).toNat) 8) 24 = smF (fun j => ((nx (j / 8)).testBit (j % 8)).toNat) 192 := (smF_prod (fun a b => ((nx a).testBit b).toNat) 24).symm
theorem z_sil {nx : Nat → Nat} {x : Int32} (hnx : ∀ j, j < 24 → nx j < 256) : (if zSt x then zS nx (tn x) 8 else 0) = if zSt x then zQ nx (tn x) 8 else 0 := by
  by_cases h : zSt x = true
  · rw [if_pos h, if_pos h]
    obtain ⟨i, hi, rfl⟩ := zSt_of h
    have e : tn (nI i) = i := nI_clamp (by omega)
    rw [e]; exact zS_eq hi hnx
  · rw [if_neg h, if_neg h]
theorem zJoin_lt {nx : Nat → Nat} {x y z : Int32} (h : ∀ j, j < 24 → nx j < 256) : ∀ j, j < 24 → zJoin nx x y z j < 256 := by
  cases q : zStep x y z with
  | false => rw [zJoin_f q]; exact h
  | true =>
    obtain ⟨i, j, k, hi, hj, hk, rfl, rfl, rfl⟩ := zStep_of q
    rw [zJoin_nI hi hj hk]; exact z_up24 h (z_or (h _ (by omega)) hj)
theorem zCut_lt {nx : Nat → Nat} {x y z : Int32} (h : ∀ j, j < 24 → nx j < 256) : ∀ j, j < 24 → zCut nx x y z j < 256 := by
  cases q : zHas nx x y z with
  | false => rw [zCut_f q]; exact h
  | true =>
    obtain ⟨i, j, k, hi, hj, hk, rfl, rfl, rfl⟩ := zStep_of (zHas_st q)
    rw [zCut_nI hi hj hk q]; exact z_up24 h (z_xor (h _ (by omega)) hj)
set_option maxHeartbeats 4000000 in
theorem lc_0 {p : Program} {l : Launch} {e : Env} {s : State} {m : MethodId} {below : List Frame} {meth : Method} {c : Code} {Q : State → Prop} {b L : Nat} {xs : Nat → Int32} {G : va_G} {ax ay : Nat → Nat} {cS cB cI cZ : ClassId} (C : lcC p s m c b L xs G ax ay cS cB cI cZ) {n : Nat} (hn : 4 * n + 4 ≤ L) (hL : L ≤ 256) {nx : Nat → Nat} {H : Heap} {locs : List Loc} {ls : Array Slot} (I : lcI s G ax ay cS cB cI cZ b n nx H locs ls) (K : ∀ nx H locs ls, lcI s G ax ay cS cB cI cZ b (n + 1) nx H locs ls → W p l e room_1 s m #[Value.ref b] below meth c H locs 600000 7290000 Q (F0 m 18 ls [])) : W p l e room_1 s m #[Value.ref b] below meth c H locs 600000 7290000 Q (F0 m 108 ls []) := by
  obtain ⟨S, hX, hbl, hKx, hKy, hDx, hDy, hdis⟩ := C
  obtain ⟨hx, hb, hml, hown, hts⟩ := S
  have S : CallFix p m c code 4 s #[Value.ref b] lw_all R_law := ⟨hx, hb, hml, hown, hts⟩
  obtain ⟨hnx, ⟨lx, gg, ww, tt, lr, ff, hPx⟩, ⟨fr, td, kp, af, hPy⟩, hS, hl⟩ := I
  have hbA : ¬ s.heap.size ≤ b := by omega
  refine lv_aload_n hx hb dL_law_108 rfl (lv_at hl 1 rfl) ?_
  refine lv_aload_n hx hb dL_law_109 rfl (lv_at hl 0 rfl) ?_
  refine lv_iload_n hx hb dL_law_110 rfl (lv_at hl 3 rfl) ?_
  refine lv_iconst (v := nI 1) hx hb dL_law_111 (by decide +kernel) ?_
  refine pe_iadd hx hb dL_law_112 ?_
  refine pe_sld hx hb hX hbl hbA hS (i := 4 * n + 1) (by omega) (by omega) dL_law_113 ?_
  refine lv_aload_n hx hb dL_law_114 rfl (lv_at hl 0 rfl) ?_
  refine lv_iload_n hx hb dL_law_115 rfl (lv_at hl 3 rfl) ?_
  refine lv_iconst (v := nI 2) hx hb dL_law_116 (by decide +kernel) ?_
  refine pe_iadd hx hb dL_law_117 ?_
  refine pe_sld hx hb hX hbl hbA hS (i := 4 * n + 2) (by omega) (by omega) dL_law_118 ?_
  refine lv_aload_n hx hb dL_law_119 rfl (lv_at hl 0 rfl) ?_
  refine lv_iload_n hx hb dL_law_120 rfl (lv_at hl 3 rfl) ?_
  refine lv_iconst (v := nI 3) hx hb dL_law_121 (by decide +kernel) ?_
  refine pe_iadd hx hb dL_law_122 ?_
  refine pe_sld hx hb hX hbl hbA hS (i := 4 * n + 3) (by omega) (by omega) dL_law_123 ?_
  refine pe_cW (n := 3) (rest := []) S hKx hPx (m_X0_join l G ax cS cB nx lx gg ww tt lr ff (aX ax) (xD_aX hDx) (xs (4 * n + 1)) (xs (4 * n + 2)) (xs (4 * n + 3)) hnx) (ci := 0) rfl rfl rfl q66 q67 q68 q32 q69 ⟨rfl, hd_X0_join⟩ rfl ⟨rfl, rfl⟩ ⟨Nat.le_of_ble_eq_true rfl, Nat.le_of_ble_eq_true rfl⟩ ⟨Nat.le_refl _, Nat.le_refl _⟩ hl.1 rfl (Nat.le_of_ble_eq_true rfl) dL_law_124 hS (aX_in hDx) (fun r H locs hr_ hk_ hS => ?_)
  obtain ⟨rfl, hX2⟩ := hr_
  have hPy := yP_kept hPy hdis hk_
  refine lv_aload_n hx hb dL_law_127 rfl (lv_at hl 2 rfl) ?_
  refine lv_aload_n hx hb dL_law_128 rfl (lv_at hl 0 rfl) ?_
  refine lv_iload_n hx hb dL_law_129 rfl (lv_at hl 3 rfl) ?_
  refine lv_iconst (v := nI 1) hx hb dL_law_130 (by decide +kernel) ?_
  refine pe_iadd hx hb dL_law_131 ?_
  refine pe_sld hx hb hX hbl hbA hS (i := 4 * n + 1) (by omega) (by omega) dL_law_132 ?_
  refine lv_aload_n hx hb dL_law_133 rfl (lv_at hl 0 rfl) ?_
  refine lv_iload_n hx hb dL_law_134 rfl (lv_at hl 3 rfl) ?_
  refine lv_iconst (v := nI 2) hx hb dL_law_135 (by decide +kernel) ?_
  refine pe_iadd hx hb dL_law_136 ?_
  refine pe_sld hx hb hX hbl hbA hS (i := 4 * n + 2) (by omega) (by omega) dL_law_137 ?_
  refine lv_aload_n hx hb dL_law_138 rfl (lv_at hl 0 rfl) ?_
  refine lv_iload_n hx hb dL_law_139 rfl (lv_at hl 3 rfl) ?_
  refine lv_iconst (v := nI 3) hx hb dL_law_140 (by decide +kernel) ?_
  refine pe_iadd hx hb dL_law_141 ?_
  refine pe_sld hx hb hX hbl hbA hS (i := 4 * n + 3) (by omega) (by omega) dL_law_142 ?_
  refine pe_cW (n := 3) (rest := [.int (nI (zStep (xs (4 * n + 1)) (xs (4 * n + 2)) (xs (4 * n + 3))).toNat)]) S hKy hPy (m_X1_join l G ay cI cZ nx fr td kp af (aY ay) (yD_aY hDy) (xs (4 * n + 1)) (xs (4 * n + 2)) (xs (4 * n + 3))) (ci := 1) rfl rfl rfl q227 q228 q229 q33 q230 ⟨rfl, hd_X1_join⟩ rfl ⟨rfl, rfl⟩ ⟨Nat.le_of_ble_eq_true rfl, Nat.le_of_ble_eq_true rfl⟩ ⟨Nat.le_refl _, Nat.le_refl _⟩ hl.1 rfl (Nat.le_of_ble_eq_true rfl) dL_law_143 hS (aY_in hDy) (fun r H locs hr_ hk_ hS => ?_)
  obtain ⟨rfl, hP2⟩ := hr_
  have hY2 : yP G ay cI cZ (zJoin nx (xs (4 * n + 1)) (xs (4 * n + 2)) (xs (4 * n + 3))) H := ⟨_, _, _, _, hP2⟩
  have hX2 := xP_kept hX2 hdis hk_
  refine lv_icmp_eq (tgt := 523) hx hb dL_law_146 (by decide) (fun c_ => ?_) (fun c_ => absurd (rfl) c_)
  refine lv_iinc (v := nI (4 * n + 4)) (lv' := [(3, .int (nI (4 * n + 4))), (0, .ref b), (1, .ref (ax 0)), (2, .ref (ay 0))]) hx hb dL_law_523 hl (k := 3) rfl (by rw [show Int32.ofInt 4 = nI 4 by decide +kernel, nI_add]) (by decide) rfl (fun ls hl => ?_)
  refine lv_goto (tgt := 18) hx hb dL_law_526 (by decide) ?_
  exact K _ _ _ _ ⟨zJoin_lt hnx, hX2, hY2, hS, lv_sub hl [1, 2, 3, 0] rfl⟩
set_option maxHeartbeats 4000000 in
theorem lc_1 {p : Program} {l : Launch} {e : Env} {s : State} {m : MethodId} {below : List Frame} {meth : Method} {c : Code} {Q : State → Prop} {b L : Nat} {xs : Nat → Int32} {G : va_G} {ax ay : Nat → Nat} {cS cB cI cZ : ClassId} (C : lcC p s m c b L xs G ax ay cS cB cI cZ) {n : Nat} (hn : 4 * n + 4 ≤ L) (hL : L ≤ 256) {nx : Nat → Nat} {H : Heap} {locs : List Loc} {ls : Array Slot} (I : lcI s G ax ay cS cB cI cZ b n nx H locs ls) (K : ∀ nx H locs ls, lcI s G ax ay cS cB cI cZ b (n + 1) nx H locs ls → W p l e room_1 s m #[Value.ref b] below meth c H locs 600000 7290000 Q (F0 m 18 ls [])) : W p l e room_1 s m #[Value.ref b] below meth c H locs 600000 7290000 Q (F0 m 151 ls []) := by
  obtain ⟨S, hX, hbl, hKx, hKy, hDx, hDy, hdis⟩ := C
  obtain ⟨hx, hb, hml, hown, hts⟩ := S
  have S : CallFix p m c code 4 s #[Value.ref b] lw_all R_law := ⟨hx, hb, hml, hown, hts⟩
  obtain ⟨hnx, ⟨lx, gg, ww, tt, lr, ff, hPx⟩, ⟨fr, td, kp, af, hPy⟩, hS, hl⟩ := I
  have hbA : ¬ s.heap.size ≤ b := by omega
  refine lv_aload_n hx hb dL_law_151 rfl (lv_at hl 1 rfl) ?_
  refine lv_aload_n hx hb dL_law_152 rfl (lv_at hl 0 rfl) ?_
  refine lv_iload_n hx hb dL_law_153 rfl (lv_at hl 3 rfl) ?_
  refine lv_iconst (v := nI 1) hx hb dL_law_154 (by decide +kernel) ?_
  refine pe_iadd hx hb dL_law_155 ?_
  refine pe_sld hx hb hX hbl hbA hS (i := 4 * n + 1) (by omega) (by omega) dL_law_156 ?_
  refine lv_aload_n hx hb dL_law_157 rfl (lv_at hl 0 rfl) ?_
  refine lv_iload_n hx hb dL_law_158 rfl (lv_at hl 3 rfl) ?_
  refine lv_iconst (v := nI 2) hx hb dL_law_159 (by decide +kernel) ?_
  refine pe_iadd hx hb dL_law_160 ?_
  refine pe_sld hx hb hX hbl hbA hS (i := 4 * n + 2) (by omega) (by omega) dL_law_161 ?_
  refine lv_aload_n hx hb dL_law_162 rfl (lv_at hl 0 rfl) ?_
  refine lv_iload_n hx hb dL_law_163 rfl (lv_at hl 3 rfl) ?_
  refine lv_iconst (v := nI 3) hx hb dL_law_164 (by decide +kernel) ?_
  refine pe_iadd hx hb dL_law_165 ?_
  refine pe_sld hx hb hX hbl hbA hS (i := 4 * n + 3) (by omega) (by omega) dL_law_166 ?_
  refine pe_cW (n := 3) (rest := []) S hKx hPx (m_X0_cut l G ax cS cB nx lx gg ww tt lr ff (aX ax) (xD_aX hDx) (xs (4 * n + 1)) (xs (4 * n + 2)) (xs (4 * n + 3)) hnx) (ci := 0) rfl rfl rfl q87 q88 q89 q32 q90 ⟨rfl, hd_X0_cut⟩ rfl ⟨rfl, rfl⟩ ⟨Nat.le_of_ble_eq_true rfl, Nat.le_of_ble_eq_true rfl⟩ ⟨Nat.le_refl _, Nat.le_refl _⟩ hl.1 rfl (Nat.le_of_ble_eq_true rfl) dL_law_167 hS (aX_in hDx) (fun r H locs hr_ hk_ hS => ?_)
  obtain ⟨rfl, hX2⟩ := hr_
  have hPy := yP_kept hPy hdis hk_
  refine lv_aload_n hx hb dL_law_170 rfl (lv_at hl 2 rfl) ?_
  refine lv_aload_n hx hb dL_law_171 rfl (lv_at hl 0 rfl) ?_
  refine lv_iload_n hx hb dL_law_172 rfl (lv_at hl 3 rfl) ?_
  refine lv_iconst (v := nI 1) hx hb dL_law_173 (by decide +kernel) ?_
  refine pe_iadd hx hb dL_law_174 ?_
  refine pe_sld hx hb hX hbl hbA hS (i := 4 * n + 1) (by omega) (by omega) dL_law_175 ?_
  refine lv_aload_n hx hb dL_law_176 rfl (lv_at hl 0 rfl) ?_
  refine lv_iload_n hx hb dL_law_177 rfl (lv_at hl 3 rfl) ?_
  refine lv_iconst (v := nI 2) hx hb dL_law_178 (by decide +kernel) ?_
  refine pe_iadd hx hb dL_law_179 ?_
  refine pe_sld hx hb hX hbl hbA hS (i := 4 * n + 2) (by omega) (by omega) dL_law_180 ?_
  refine lv_aload_n hx hb dL_law_181 rfl (lv_at hl 0 rfl) ?_
  refine lv_iload_n hx hb dL_law_182 rfl (lv_at hl 3 rfl) ?_
  refine lv_iconst (v := nI 3) hx hb dL_law_183 (by decide +kernel) ?_
  refine pe_iadd hx hb dL_law_184 ?_
  refine pe_sld hx hb hX hbl hbA hS (i := 4 * n + 3) (by omega) (by omega) dL_law_185 ?_
  refine pe_cW (n := 3) (rest := [.int (nI (zHas nx (xs (4 * n + 1)) (xs (4 * n + 2)) (xs (4 * n + 3))).toNat)]) S hKy hPy (m_X1_cut l G ay cI cZ nx fr td kp af (aY ay) (yD_aY hDy) (xs (4 * n + 1)) (xs (4 * n + 2)) (xs (4 * n + 3))) (ci := 1) rfl rfl rfl q235 q236 q237 q33 q238 ⟨rfl, hd_X1_cut⟩ rfl ⟨rfl, rfl⟩ ⟨Nat.le_of_ble_eq_true rfl, Nat.le_of_ble_eq_true rfl⟩ ⟨Nat.le_refl _, Nat.le_refl _⟩ hl.1 rfl (Nat.le_of_ble_eq_true rfl) dL_law_186 hS (aY_in hDy) (fun r H locs hr_ hk_ hS => ?_)
  obtain ⟨rfl, hP2⟩ := hr_
  have hY2 : yP G ay cI cZ (zCut nx (xs (4 * n + 1)) (xs (4 * n + 2)) (xs (4 * n + 3))) H := ⟨_, _, _, _, hP2⟩
  have hX2 := xP_kept hX2 hdis hk_
  refine lv_icmp_eq (tgt := 523) hx hb dL_law_189 (by decide) (fun c_ => ?_) (fun c_ => absurd (rfl) c_)
  refine lv_iinc (v := nI (4 * n + 4)) (lv' := [(3, .int (nI (4 * n + 4))), (0, .ref b), (1, .ref (ax 0)), (2, .ref (ay 0))]) hx hb dL_law_523 hl (k := 3) rfl (by rw [show Int32.ofInt 4 = nI 4 by decide +kernel, nI_add]) (by decide) rfl (fun ls hl => ?_)
  refine lv_goto (tgt := 18) hx hb dL_law_526 (by decide) ?_
  exact K _ _ _ _ ⟨zCut_lt hnx, hX2, hY2, hS, lv_sub hl [1, 2, 3, 0] rfl⟩
set_option maxHeartbeats 4000000 in
theorem lc_2 {p : Program} {l : Launch} {e : Env} {s : State} {m : MethodId} {below : List Frame} {meth : Method} {c : Code} {Q : State → Prop} {b L : Nat} {xs : Nat → Int32} {G : va_G} {ax ay : Nat → Nat} {cS cB cI cZ : ClassId} (C : lcC p s m c b L xs G ax ay cS cB cI cZ) {n : Nat} (hn : 4 * n + 4 ≤ L) (hL : L ≤ 256) {nx : Nat → Nat} {H : Heap} {locs : List Loc} {ls : Array Slot} (I : lcI s G ax ay cS cB cI cZ b n nx H locs ls) (K : ∀ nx H locs ls, lcI s G ax ay cS cB cI cZ b (n + 1) nx H locs ls → W p l e room_1 s m #[Value.ref b] below meth c H locs 600000 7290000 Q (F0 m 18 ls [])) : W p l e room_1 s m #[Value.ref b] below meth c H locs 600000 7290000 Q (F0 m 194 ls []) := by
  obtain ⟨S, hX, hbl, hKx, hKy, hDx, hDy, hdis⟩ := C
  obtain ⟨hx, hb, hml, hown, hts⟩ := S
  have S : CallFix p m c code 4 s #[Value.ref b] lw_all R_law := ⟨hx, hb, hml, hown, hts⟩
  obtain ⟨hnx, ⟨lx, gg, ww, tt, lr, ff, hPx⟩, ⟨fr, td, kp, af, hPy⟩, hS, hl⟩ := I
  have hbA : ¬ s.heap.size ≤ b := by omega
  refine lv_aload_n hx hb dL_law_194 rfl (lv_at hl 1 rfl) ?_
  refine pe_cV (n := 0) (rest := []) S hKx hPx (m_X0_steps l G ax cS cB nx lx gg ww tt lr ff ) (ci := 0) rfl rfl rfl q91 q92 q93 q32 q94 ⟨rfl, hd_X0_steps⟩ rfl ⟨rfl, rfl⟩ ⟨Nat.le_of_ble_eq_true rfl, Nat.le_of_ble_eq_true rfl⟩ ⟨Nat.le_refl _, Nat.le_refl _⟩ hl.1 rfl (Nat.le_of_ble_eq_true rfl) dL_law_195 (fun r hr_ => ?_)
  subst hr_
  have hX2 : xP G ax cS cB nx H := ⟨lx, gg, ww, tt, lr, ff, hPx⟩
  refine lv_aload_n hx hb dL_law_198 rfl (lv_at hl 2 rfl) ?_
  refine pe_cV (n := 0) (rest := [.int (nI (smF (fun c => smF (fun j => ((nx c).testBit j).toNat) 8) 24))]) S hKy hPy (m_X1_steps l G ay cI cZ nx fr td kp af ) (ci := 1) rfl rfl rfl q243 q244 q245 q33 q246 ⟨rfl, hd_X1_steps⟩ rfl ⟨rfl, rfl⟩ ⟨Nat.le_of_ble_eq_true rfl, Nat.le_of_ble_eq_true rfl⟩ ⟨Nat.le_refl _, Nat.le_refl _⟩ hl.1 rfl (Nat.le_of_ble_eq_true rfl) dL_law_199 (fun r hr_ => ?_)
  subst hr_
  have hY2 : yP G ay cI cZ nx H := ⟨fr, td, kp, af, hPy⟩
  refine lv_icmp_eq (tgt := 523) hx hb dL_law_202 (by decide) (fun c_ => ?_) (fun c_ => absurd (by rw [z_steps]) c_)
  refine lv_iinc (v := nI (4 * n + 4)) (lv' := [(3, .int (nI (4 * n + 4))), (0, .ref b), (1, .ref (ax 0)), (2, .ref (ay 0))]) hx hb dL_law_523 hl (k := 3) rfl (by rw [show Int32.ofInt 4 = nI 4 by decide +kernel, nI_add]) (by decide) rfl (fun ls hl => ?_)
  refine lv_goto (tgt := 18) hx hb dL_law_526 (by decide) ?_
  exact K _ _ _ _ ⟨hnx, hX2, hY2, hS, lv_sub hl [1, 2, 3, 0] rfl⟩
set_option maxHeartbeats 4000000 in
theorem lc_3 {p : Program} {l : Launch} {e : Env} {s : State} {m : MethodId} {below : List Frame} {meth : Method} {c : Code} {Q : State → Prop} {b L : Nat} {xs : Nat → Int32} {G : va_G} {ax ay : Nat → Nat} {cS cB cI cZ : ClassId} (C : lcC p s m c b L xs G ax ay cS cB cI cZ) {n : Nat} (hn : 4 * n + 4 ≤ L) (hL : L ≤ 256) {nx : Nat → Nat} {H : Heap} {locs : List Loc} {ls : Array Slot} (I : lcI s G ax ay cS cB cI cZ b n nx H locs ls) (K : ∀ nx H locs ls, lcI s G ax ay cS cB cI cZ b (n + 1) nx H locs ls → W p l e room_1 s m #[Value.ref b] below meth c H locs 600000 7290000 Q (F0 m 18 ls [])) : W p l e room_1 s m #[Value.ref b] below meth c H locs 600000 7290000 Q (F0 m 207 ls []) := by
  obtain ⟨S, hX, hbl, hKx, hKy, hDx, hDy, hdis⟩ := C
  obtain ⟨hx, hb, hml, hown, hts⟩ := S
  have S : CallFix p m c code 4 s #[Value.ref b] lw_all R_law := ⟨hx, hb, hml, hown, hts⟩
  obtain ⟨hnx, ⟨lx, gg, ww, tt, lr, ff, hPx⟩, ⟨fr, td, kp, af, hPy⟩, hS, hl⟩ := I
  have hbA : ¬ s.heap.size ≤ b := by omega
  refine lv_aload_n hx hb dL_law_207 rfl (lv_at hl 1 rfl) ?_
  refine lv_aload_n hx hb dL_law_208 rfl (lv_at hl 0 rfl) ?_
  refine lv_iload_n hx hb dL_law_209 rfl (lv_at hl 3 rfl) ?_
  refine lv_iconst (v := nI 1) hx hb dL_law_210 (by decide +kernel) ?_
  refine pe_iadd hx hb dL_law_211 ?_
  refine pe_sld hx hb hX hbl hbA hS (i := 4 * n + 1) (by omega) (by omega) dL_law_212 ?_
  refine lv_aload_n hx hb dL_law_213 rfl (lv_at hl 0 rfl) ?_
  refine lv_iload_n hx hb dL_law_214 rfl (lv_at hl 3 rfl) ?_
  refine lv_iconst (v := nI 2) hx hb dL_law_215 (by decide +kernel) ?_
  refine pe_iadd hx hb dL_law_216 ?_
  refine pe_sld hx hb hX hbl hbA hS (i := 4 * n + 2) (by omega) (by omega) dL_law_217 ?_
  refine pe_cV (n := 2) (rest := []) S hKx hPx (m_X0_after l G ax cS cB nx lx gg ww tt lr ff (xs (4 * n + 1)) (xs (4 * n + 2))) (ci := 0) rfl rfl rfl q98 q99 q100 q32 q101 ⟨rfl, hd_X0_after⟩ rfl ⟨rfl, rfl⟩ ⟨Nat.le_of_ble_eq_true rfl, Nat.le_of_ble_eq_true rfl⟩ ⟨Nat.le_refl _, Nat.le_refl _⟩ hl.1 rfl (Nat.le_of_ble_eq_true rfl) dL_law_218 (fun r hr_ => ?_)
  subst hr_
  have hX2 : xP G ax cS cB nx H := ⟨lx, gg, ww, tt, lr, ff, hPx⟩
  refine lv_aload_n hx hb dL_law_221 rfl (lv_at hl 2 rfl) ?_
  refine lv_aload_n hx hb dL_law_222 rfl (lv_at hl 0 rfl) ?_
  refine lv_iload_n hx hb dL_law_223 rfl (lv_at hl 3 rfl) ?_
  refine lv_iconst (v := nI 1) hx hb dL_law_224 (by decide +kernel) ?_
  refine pe_iadd hx hb dL_law_225 ?_
  refine pe_sld hx hb hX hbl hbA hS (i := 4 * n + 1) (by omega) (by omega) dL_law_226 ?_
  refine lv_aload_n hx hb dL_law_227 rfl (lv_at hl 0 rfl) ?_
  refine lv_iload_n hx hb dL_law_228 rfl (lv_at hl 3 rfl) ?_
  refine lv_iconst (v := nI 2) hx hb dL_law_229 (by decide +kernel) ?_
  refine pe_iadd hx hb dL_law_230 ?_
  refine pe_sld hx hb hX hbl hbA hS (i := 4 * n + 2) (by omega) (by omega) dL_law_231 ?_
  refine pe_cV (n := 2) (rest := [.int (nI (zAft nx (xs (4 * n + 1)) (xs (4 * n + 2))))]) S hKy hPy (m_X1_after l G ay cI cZ nx fr td kp af (xs (4 * n + 1)) (xs (4 * n + 2))) (ci := 1) rfl rfl rfl q247 q248 q249 q33 q250 ⟨rfl, hd_X1_after⟩ rfl ⟨rfl, rfl⟩ ⟨Nat.le_of_ble_eq_true rfl, Nat.le_of_ble_eq_true rfl⟩ ⟨Nat.le_refl _, Nat.le_refl _⟩ hl.1 rfl (Nat.le_of_ble_eq_true rfl) dL_law_232 (fun r hr_ => ?_)
  subst hr_
  have hY2 : yP G ay cI cZ nx H := ⟨fr, td, kp, af, hPy⟩
  refine lv_icmp_eq (tgt := 523) hx hb dL_law_235 (by decide) (fun c_ => ?_) (fun c_ => absurd (rfl) c_)
  refine lv_iinc (v := nI (4 * n + 4)) (lv' := [(3, .int (nI (4 * n + 4))), (0, .ref b), (1, .ref (ax 0)), (2, .ref (ay 0))]) hx hb dL_law_523 hl (k := 3) rfl (by rw [show Int32.ofInt 4 = nI 4 by decide +kernel, nI_add]) (by decide) rfl (fun ls hl => ?_)
  refine lv_goto (tgt := 18) hx hb dL_law_526 (by decide) ?_
  exact K _ _ _ _ ⟨hnx, hX2, hY2, hS, lv_sub hl [1, 2, 3, 0] rfl⟩
set_option maxHeartbeats 4000000 in
theorem lc_4 {p : Program} {l : Launch} {e : Env} {s : State} {m : MethodId} {below : List Frame} {meth : Method} {c : Code} {Q : State → Prop} {b L : Nat} {xs : Nat → Int32} {G : va_G} {ax ay : Nat → Nat} {cS cB cI cZ : ClassId} (C : lcC p s m c b L xs G ax ay cS cB cI cZ) {n : Nat} (hn : 4 * n + 4 ≤ L) (hL : L ≤ 256) {nx : Nat → Nat} {H : Heap} {locs : List Loc} {ls : Array Slot} (I : lcI s G ax ay cS cB cI cZ b n nx H locs ls) (K : ∀ nx H locs ls, lcI s G ax ay cS cB cI cZ b (n + 1) nx H locs ls → W p l e room_1 s m #[Value.ref b] below meth c H locs 600000 7290000 Q (F0 m 18 ls [])) : W p l e room_1 s m #[Value.ref b] below meth c H locs 600000 7290000 Q (F0 m 240 ls []) := by
  obtain ⟨S, hX, hbl, hKx, hKy, hDx, hDy, hdis⟩ := C
  obtain ⟨hx, hb, hml, hown, hts⟩ := S
  have S : CallFix p m c code 4 s #[Value.ref b] lw_all R_law := ⟨hx, hb, hml, hown, hts⟩
  obtain ⟨hnx, ⟨lx, gg, ww, tt, lr, ff, hPx⟩, ⟨fr, td, kp, af, hPy⟩, hS, hl⟩ := I
  have hbA : ¬ s.heap.size ≤ b := by omega
  refine lv_aload_n hx hb dL_law_240 rfl (lv_at hl 1 rfl) ?_
  refine lv_aload_n hx hb dL_law_241 rfl (lv_at hl 0 rfl) ?_
  refine lv_iload_n hx hb dL_law_242 rfl (lv_at hl 3 rfl) ?_
  refine lv_iconst (v := nI 1) hx hb dL_law_243 (by decide +kernel) ?_
  refine pe_iadd hx hb dL_law_244 ?_
  refine pe_sld hx hb hX hbl hbA hS (i := 4 * n + 1) (by omega) (by omega) dL_law_245 ?_
  refine lv_aload_n hx hb dL_law_246 rfl (lv_at hl 0 rfl) ?_
  refine lv_iload_n hx hb dL_law_247 rfl (lv_at hl 3 rfl) ?_
  refine lv_iconst (v := nI 2) hx hb dL_law_248 (by decide +kernel) ?_
  refine pe_iadd hx hb dL_law_249 ?_
  refine pe_sld hx hb hX hbl hbA hS (i := 4 * n + 2) (by omega) (by omega) dL_law_250 ?_
  refine pe_cW (n := 2) (rest := []) S hKx hPx (m_X0_alike l G ax cS cB nx lx gg ww tt lr ff (aX ax) (xD_aX hDx) (xs (4 * n + 1)) (xs (4 * n + 2))) (ci := 0) rfl rfl rfl q102 q103 q104 q32 q105 ⟨rfl, hd_X0_alike⟩ rfl ⟨rfl, rfl⟩ ⟨Nat.le_of_ble_eq_true rfl, Nat.le_of_ble_eq_true rfl⟩ ⟨Nat.le_refl _, Nat.le_refl _⟩ hl.1 rfl (Nat.le_of_ble_eq_true rfl) dL_law_251 hS (aX_in hDx) (fun r H locs hr_ hk_ hS => ?_)
  obtain ⟨rfl, hX2⟩ := hr_
  have hPy := yP_kept hPy hdis hk_
  refine lv_aload_n hx hb dL_law_254 rfl (lv_at hl 2 rfl) ?_
  refine lv_aload_n hx hb dL_law_255 rfl (lv_at hl 0 rfl) ?_
  refine lv_iload_n hx hb dL_law_256 rfl (lv_at hl 3 rfl) ?_
  refine lv_iconst (v := nI 1) hx hb dL_law_257 (by decide +kernel) ?_
  refine pe_iadd hx hb dL_law_258 ?_
  refine pe_sld hx hb hX hbl hbA hS (i := 4 * n + 1) (by omega) (by omega) dL_law_259 ?_
  refine lv_aload_n hx hb dL_law_260 rfl (lv_at hl 0 rfl) ?_
  refine lv_iload_n hx hb dL_law_261 rfl (lv_at hl 3 rfl) ?_
  refine lv_iconst (v := nI 2) hx hb dL_law_262 (by decide +kernel) ?_
  refine pe_iadd hx hb dL_law_263 ?_
  refine pe_sld hx hb hX hbl hbA hS (i := 4 * n + 2) (by omega) (by omega) dL_law_264 ?_
  refine pe_cW (n := 2) (rest := [.int (nI (zAlk nx (xs (4 * n + 1)) (xs (4 * n + 2))).toNat)]) S hKy hPy (m_X1_alike l G ay cI cZ nx fr td kp af (aY ay) (yD_aY hDy) (xs (4 * n + 1)) (xs (4 * n + 2))) (ci := 1) rfl rfl rfl q251 q252 q253 q33 q254 ⟨rfl, hd_X1_alike⟩ rfl ⟨rfl, rfl⟩ ⟨Nat.le_of_ble_eq_true rfl, Nat.le_of_ble_eq_true rfl⟩ ⟨Nat.le_refl _, Nat.le_refl _⟩ hl.1 rfl (Nat.le_of_ble_eq_true rfl) dL_law_265 hS (aY_in hDy) (fun r H locs hr_ hk_ hS => ?_)
  obtain ⟨rfl, hY2⟩ := hr_
  have hX2 := xP_kept hX2 hdis hk_
  refine lv_icmp_eq (tgt := 523) hx hb dL_law_268 (by decide) (fun c_ => ?_) (fun c_ => absurd (rfl) c_)
  refine lv_iinc (v := nI (4 * n + 4)) (lv' := [(3, .int (nI (4 * n + 4))), (0, .ref b), (1, .ref (ax 0)), (2, .ref (ay 0))]) hx hb dL_law_523 hl (k := 3) rfl (by rw [show Int32.ofInt 4 = nI 4 by decide +kernel, nI_add]) (by decide) rfl (fun ls hl => ?_)
  refine lv_goto (tgt := 18) hx hb dL_law_526 (by decide) ?_
  exact K _ _ _ _ ⟨hnx, hX2, hY2, hS, lv_sub hl [1, 2, 3, 0] rfl⟩
set_option maxHeartbeats 4000000 in
theorem lc_5 {p : Program} {l : Launch} {e : Env} {s : State} {m : MethodId} {below : List Frame} {meth : Method} {c : Code} {Q : State → Prop} {b L : Nat} {xs : Nat → Int32} {G : va_G} {ax ay : Nat → Nat} {cS cB cI cZ : ClassId} (C : lcC p s m c b L xs G ax ay cS cB cI cZ) {n : Nat} (hn : 4 * n + 4 ≤ L) (hL : L ≤ 256) {nx : Nat → Nat} {H : Heap} {locs : List Loc} {ls : Array Slot} (I : lcI s G ax ay cS cB cI cZ b n nx H locs ls) (K : ∀ nx H locs ls, lcI s G ax ay cS cB cI cZ b (n + 1) nx H locs ls → W p l e room_1 s m #[Value.ref b] below meth c H locs 600000 7290000 Q (F0 m 18 ls [])) : W p l e room_1 s m #[Value.ref b] below meth c H locs 600000 7290000 Q (F0 m 273 ls []) := by
  obtain ⟨S, hX, hbl, hKx, hKy, hDx, hDy, hdis⟩ := C
  obtain ⟨hx, hb, hml, hown, hts⟩ := S
  have S : CallFix p m c code 4 s #[Value.ref b] lw_all R_law := ⟨hx, hb, hml, hown, hts⟩
  obtain ⟨hnx, ⟨lx, gg, ww, tt, lr, ff, hPx⟩, ⟨fr, td, kp, af, hPy⟩, hS, hl⟩ := I
  have hbA : ¬ s.heap.size ≤ b := by omega
  refine lv_aload_n hx hb dL_law_273 rfl (lv_at hl 1 rfl) ?_
  refine lv_aload_n hx hb dL_law_274 rfl (lv_at hl 0 rfl) ?_
  refine lv_iload_n hx hb dL_law_275 rfl (lv_at hl 3 rfl) ?_
  refine lv_iconst (v := nI 1) hx hb dL_law_276 (by decide +kernel) ?_
  refine pe_iadd hx hb dL_law_277 ?_
  refine pe_sld hx hb hX hbl hbA hS (i := 4 * n + 1) (by omega) (by omega) dL_law_278 ?_
  refine pe_cW (n := 1) (rest := []) S hKx hPx (m_X0_group l G ax cS cB nx lx gg ww tt lr ff (aX ax) (xD_aX hDx) (xs (4 * n + 1))) (ci := 0) rfl rfl rfl q130 q131 q132 q32 q133 ⟨rfl, hd_X0_group⟩ rfl ⟨rfl, rfl⟩ ⟨Nat.le_of_ble_eq_true rfl, Nat.le_of_ble_eq_true rfl⟩ ⟨Nat.le_refl _, Nat.le_refl _⟩ hl.1 rfl (Nat.le_of_ble_eq_true rfl) dL_law_279 hS (aX_in hDx) (fun r H locs hr_ hk_ hS => ?_)
  obtain ⟨rfl, hX2⟩ := hr_
  have hPy := yP_kept hPy hdis hk_
  refine lv_aload_n hx hb dL_law_282 rfl (lv_at hl 2 rfl) ?_
  refine lv_aload_n hx hb dL_law_283 rfl (lv_at hl 0 rfl) ?_
  refine lv_iload_n hx hb dL_law_284 rfl (lv_at hl 3 rfl) ?_
  refine lv_iconst (v := nI 1) hx hb dL_law_285 (by decide +kernel) ?_
  refine pe_iadd hx hb dL_law_286 ?_
  refine pe_sld hx hb hX hbl hbA hS (i := 4 * n + 1) (by omega) (by omega) dL_law_287 ?_
  refine pe_cW (n := 1) (rest := [.int (nI (zGrp nx (xs (4 * n + 1))))]) S hKy hPy (m_X1_group l G ay cI cZ nx fr td kp af (aY ay) (yD_aY hDy) (xs (4 * n + 1))) (ci := 1) rfl rfl rfl q275 q276 q277 q33 q278 ⟨rfl, hd_X1_group⟩ rfl ⟨rfl, rfl⟩ ⟨Nat.le_of_ble_eq_true rfl, Nat.le_of_ble_eq_true rfl⟩ ⟨Nat.le_refl _, Nat.le_refl _⟩ hl.1 rfl (Nat.le_of_ble_eq_true rfl) dL_law_288 hS (aY_in hDy) (fun r H locs hr_ hk_ hS => ?_)
  obtain ⟨rfl, hY2⟩ := hr_
  have hX2 := xP_kept hX2 hdis hk_
  refine lv_icmp_eq (tgt := 523) hx hb dL_law_291 (by decide) (fun c_ => ?_) (fun c_ => absurd (rfl) c_)
  refine lv_iinc (v := nI (4 * n + 4)) (lv' := [(3, .int (nI (4 * n + 4))), (0, .ref b), (1, .ref (ax 0)), (2, .ref (ay 0))]) hx hb dL_law_523 hl (k := 3) rfl (by rw [show Int32.ofInt 4 = nI 4 by decide +kernel, nI_add]) (by decide) rfl (fun ls hl => ?_)
  refine lv_goto (tgt := 18) hx hb dL_law_526 (by decide) ?_
  exact K _ _ _ _ ⟨hnx, hX2, hY2, hS, lv_sub hl [1, 2, 3, 0] rfl⟩
set_option maxHeartbeats 4000000 in
theorem lc_6 {p : Program} {l : Launch} {e : Env} {s : State} {m : MethodId} {below : List Frame} {meth : Method} {c : Code} {Q : State → Prop} {b L : Nat} {xs : Nat → Int32} {G : va_G} {ax ay : Nat → Nat} {cS cB cI cZ : ClassId} (C : lcC p s m c b L xs G ax ay cS cB cI cZ) {n : Nat} (hn : 4 * n + 4 ≤ L) (hL : L ≤ 256) {nx : Nat → Nat} {H : Heap} {locs : List Loc} {ls : Array Slot} (I : lcI s G ax ay cS cB cI cZ b n nx H locs ls) (K : ∀ nx H locs ls, lcI s G ax ay cS cB cI cZ b (n + 1) nx H locs ls → W p l e room_1 s m #[Value.ref b] below meth c H locs 600000 7290000 Q (F0 m 18 ls [])) : W p l e room_1 s m #[Value.ref b] below meth c H locs 600000 7290000 Q (F0 m 296 ls []) := by
  obtain ⟨S, hX, hbl, hKx, hKy, hDx, hDy, hdis⟩ := C
  obtain ⟨hx, hb, hml, hown, hts⟩ := S
  have S : CallFix p m c code 4 s #[Value.ref b] lw_all R_law := ⟨hx, hb, hml, hown, hts⟩
  obtain ⟨hnx, ⟨lx, gg, ww, tt, lr, ff, hPx⟩, ⟨fr, td, kp, af, hPy⟩, hS, hl⟩ := I
  have hbA : ¬ s.heap.size ≤ b := by omega
  refine lv_aload_n hx hb dL_law_296 rfl (lv_at hl 1 rfl) ?_
  refine pe_cW (n := 0) (rest := []) S hKx hPx (m_X0_groups l G ax cS cB nx lx gg ww tt lr ff (aX ax) (xD_aX hDx) ) (ci := 0) rfl rfl rfl q134 q135 q136 q32 q137 ⟨rfl, hd_X0_groups⟩ rfl ⟨rfl, rfl⟩ ⟨Nat.le_of_ble_eq_true rfl, Nat.le_of_ble_eq_true rfl⟩ ⟨Nat.le_refl _, Nat.le_refl _⟩ hl.1 rfl (Nat.le_of_ble_eq_true rfl) dL_law_297 hS (aX_in hDx) (fun r H locs hr_ hk_ hS => ?_)
  obtain ⟨rfl, hX2⟩ := hr_
  have hPy := yP_kept hPy hdis hk_
  refine lv_aload_n hx hb dL_law_300 rfl (lv_at hl 2 rfl) ?_
  refine pe_cW (n := 0) (rest := [.int (nI (zCnt nx))]) S hKy hPy (m_X1_groups l G ay cI cZ nx fr td kp af (aY ay) (yD_aY hDy) ) (ci := 1) rfl rfl rfl q279 q280 q281 q33 q282 ⟨rfl, hd_X1_groups⟩ rfl ⟨rfl, rfl⟩ ⟨Nat.le_of_ble_eq_true rfl, Nat.le_of_ble_eq_true rfl⟩ ⟨Nat.le_refl _, Nat.le_refl _⟩ hl.1 rfl (Nat.le_of_ble_eq_true rfl) dL_law_301 hS (aY_in hDy) (fun r H locs hr_ hk_ hS => ?_)
  obtain ⟨rfl, hY2⟩ := hr_
  have hX2 := xP_kept hX2 hdis hk_
  refine lv_icmp_eq (tgt := 523) hx hb dL_law_304 (by decide) (fun c_ => ?_) (fun c_ => absurd (rfl) c_)
  refine lv_iinc (v := nI (4 * n + 4)) (lv' := [(3, .int (nI (4 * n + 4))), (0, .ref b), (1, .ref (ax 0)), (2, .ref (ay 0))]) hx hb dL_law_523 hl (k := 3) rfl (by rw [show Int32.ofInt 4 = nI 4 by decide +kernel, nI_add]) (by decide) rfl (fun ls hl => ?_)
  refine lv_goto (tgt := 18) hx hb dL_law_526 (by decide) ?_
  exact K _ _ _ _ ⟨hnx, hX2, hY2, hS, lv_sub hl [1, 2, 3, 0] rfl⟩
set_option maxHeartbeats 4000000 in
theorem lc_7 {p : Program} {l : Launch} {e : Env} {s : State} {m : MethodId} {below : List Frame} {meth : Method} {c : Code} {Q : State → Prop} {b L : Nat} {xs : Nat → Int32} {G : va_G} {ax ay : Nat → Nat} {cS cB cI cZ : ClassId} (C : lcC p s m c b L xs G ax ay cS cB cI cZ) {n : Nat} (hn : 4 * n + 4 ≤ L) (hL : L ≤ 256) {nx : Nat → Nat} {H : Heap} {locs : List Loc} {ls : Array Slot} (I : lcI s G ax ay cS cB cI cZ b n nx H locs ls) (K : ∀ nx H locs ls, lcI s G ax ay cS cB cI cZ b (n + 1) nx H locs ls → W p l e room_1 s m #[Value.ref b] below meth c H locs 600000 7290000 Q (F0 m 18 ls [])) : W p l e room_1 s m #[Value.ref b] below meth c H locs 600000 7290000 Q (F0 m 309 ls []) := by
  obtain ⟨S, hX, hbl, hKx, hKy, hDx, hDy, hdis⟩ := C
  obtain ⟨hx, hb, hml, hown, hts⟩ := S
  have S : CallFix p m c code 4 s #[Value.ref b] lw_all R_law := ⟨hx, hb, hml, hown, hts⟩
  obtain ⟨hnx, ⟨lx, gg, ww, tt, lr, ff, hPx⟩, ⟨fr, td, kp, af, hPy⟩, hS, hl⟩ := I
  have hbA : ¬ s.heap.size ≤ b := by omega
  refine lv_aload_n hx hb dL_law_309 rfl (lv_at hl 1 rfl) ?_
  refine lv_aload_n hx hb dL_law_310 rfl (lv_at hl 0 rfl) ?_
  refine lv_iload_n hx hb dL_law_311 rfl (lv_at hl 3 rfl) ?_
  refine lv_iconst (v := nI 1) hx hb dL_law_312 (by decide +kernel) ?_
  refine pe_iadd hx hb dL_law_313 ?_
  refine pe_sld hx hb hX hbl hbA hS (i := 4 * n + 1) (by omega) (by omega) dL_law_314 ?_
  refine lv_aload_n hx hb dL_law_315 rfl (lv_at hl 0 rfl) ?_
  refine lv_iload_n hx hb dL_law_316 rfl (lv_at hl 3 rfl) ?_
  refine lv_iconst (v := nI 2) hx hb dL_law_317 (by decide +kernel) ?_
  refine pe_iadd hx hb dL_law_318 ?_
  refine pe_sld hx hb hX hbl hbA hS (i := 4 * n + 2) (by omega) (by omega) dL_law_319 ?_
  refine pe_cW (n := 2) (rest := []) S hKx hPx (m_X0_toldAfter l G ax cS cB nx lx gg ww tt lr ff (aX ax) (xD_aX hDx) (xs (4 * n + 1)) (xs (4 * n + 2))) (ci := 0) rfl rfl rfl q142 q143 q144 q32 q145 ⟨rfl, hd_X0_toldAfter⟩ rfl ⟨rfl, rfl⟩ ⟨Nat.le_of_ble_eq_true rfl, Nat.le_of_ble_eq_true rfl⟩ ⟨Nat.le_refl _, Nat.le_refl _⟩ hl.1 rfl (Nat.le_of_ble_eq_true rfl) dL_law_320 hS (aX_in hDx) (fun r H locs hr_ hk_ hS => ?_)
  obtain ⟨rfl, hX2⟩ := hr_
  have hPy := yP_kept hPy hdis hk_
  refine lv_aload_n hx hb dL_law_323 rfl (lv_at hl 2 rfl) ?_
  refine lv_aload_n hx hb dL_law_324 rfl (lv_at hl 0 rfl) ?_
  refine lv_iload_n hx hb dL_law_325 rfl (lv_at hl 3 rfl) ?_
  refine lv_iconst (v := nI 1) hx hb dL_law_326 (by decide +kernel) ?_
  refine pe_iadd hx hb dL_law_327 ?_
  refine pe_sld hx hb hX hbl hbA hS (i := 4 * n + 1) (by omega) (by omega) dL_law_328 ?_
  refine lv_aload_n hx hb dL_law_329 rfl (lv_at hl 0 rfl) ?_
  refine lv_iload_n hx hb dL_law_330 rfl (lv_at hl 3 rfl) ?_
  refine lv_iconst (v := nI 2) hx hb dL_law_331 (by decide +kernel) ?_
  refine pe_iadd hx hb dL_law_332 ?_
  refine pe_sld hx hb hX hbl hbA hS (i := 4 * n + 2) (by omega) (by omega) dL_law_333 ?_
  refine pe_cW (n := 2) (rest := [.int (zTol nx (xs (4 * n + 1)) (xs (4 * n + 2)))]) S hKy hPy (m_X1_toldAfter l G ay cI cZ nx fr td kp af (aY ay) (yD_aY hDy) (xs (4 * n + 1)) (xs (4 * n + 2))) (ci := 1) rfl rfl rfl q287 q288 q289 q33 q290 ⟨rfl, hd_X1_toldAfter⟩ rfl ⟨rfl, rfl⟩ ⟨Nat.le_of_ble_eq_true rfl, Nat.le_of_ble_eq_true rfl⟩ ⟨Nat.le_refl _, Nat.le_refl _⟩ hl.1 rfl (Nat.le_of_ble_eq_true rfl) dL_law_334 hS (aY_in hDy) (fun r H locs hr_ hk_ hS => ?_)
  obtain ⟨rfl, hY2⟩ := hr_
  have hX2 := xP_kept hX2 hdis hk_
  refine lv_icmp_eq (tgt := 523) hx hb dL_law_337 (by decide) (fun c_ => ?_) (fun c_ => absurd (rfl) c_)
  refine lv_iinc (v := nI (4 * n + 4)) (lv' := [(3, .int (nI (4 * n + 4))), (0, .ref b), (1, .ref (ax 0)), (2, .ref (ay 0))]) hx hb dL_law_523 hl (k := 3) rfl (by rw [show Int32.ofInt 4 = nI 4 by decide +kernel, nI_add]) (by decide) rfl (fun ls hl => ?_)
  refine lv_goto (tgt := 18) hx hb dL_law_526 (by decide) ?_
  exact K _ _ _ _ ⟨hnx, hX2, hY2, hS, lv_sub hl [1, 2, 3, 0] rfl⟩
set_option maxHeartbeats 4000000 in
theorem lc_8 {p : Program} {l : Launch} {e : Env} {s : State} {m : MethodId} {below : List Frame} {meth : Method} {c : Code} {Q : State → Prop} {b L : Nat} {xs : Nat → Int32} {G : va_G} {ax ay : Nat → Nat} {cS cB cI cZ : ClassId} (C : lcC p s m c b L xs G ax ay cS cB cI cZ) {n : Nat} (hn : 4 * n + 4 ≤ L) (hL : L ≤ 256) {nx : Nat → Nat} {H : Heap} {locs : List Loc} {ls : Array Slot} (I : lcI s G ax ay cS cB cI cZ b n nx H locs ls) (K : ∀ nx H locs ls, lcI s G ax ay cS cB cI cZ b (n + 1) nx H locs ls → W p l e room_1 s m #[Value.ref b] below meth c H locs 600000 7290000 Q (F0 m 18 ls [])) : W p l e room_1 s m #[Value.ref b] below meth c H locs 600000 7290000 Q (F0 m 342 ls []) := by
  obtain ⟨S, hX, hbl, hKx, hKy, hDx, hDy, hdis⟩ := C
  obtain ⟨hx, hb, hml, hown, hts⟩ := S
  have S : CallFix p m c code 4 s #[Value.ref b] lw_all R_law := ⟨hx, hb, hml, hown, hts⟩
  obtain ⟨hnx, ⟨lx, gg, ww, tt, lr, ff, hPx⟩, ⟨fr, td, kp, af, hPy⟩, hS, hl⟩ := I
  have hbA : ¬ s.heap.size ≤ b := by omega
  refine lv_aload_n hx hb dL_law_342 rfl (lv_at hl 1 rfl) ?_
  refine pe_cW (n := 0) (rest := []) S hKx hPx (m_X0_rounds l G ax cS cB nx lx gg ww tt lr ff (aX ax) (xD_aX hDx) ) (ci := 0) rfl rfl rfl q146 q147 q148 q32 q149 ⟨rfl, hd_X0_rounds⟩ rfl ⟨rfl, rfl⟩ ⟨Nat.le_of_ble_eq_true rfl, Nat.le_of_ble_eq_true rfl⟩ ⟨Nat.le_refl _, Nat.le_refl _⟩ hl.1 rfl (Nat.le_of_ble_eq_true rfl) dL_law_343 hS (aX_in hDx) (fun r H locs hr_ hk_ hS => ?_)
  obtain ⟨rfl, hX2⟩ := hr_
  have hPy := yP_kept hPy hdis hk_
  refine lv_aload_n hx hb dL_law_346 rfl (lv_at hl 2 rfl) ?_
  refine pe_cW (n := 0) (rest := [.int (nI (zL nx 8))]) S hKy hPy (m_X1_rounds l G ay cI cZ nx fr td kp af (aY ay) (yD_aY hDy) ) (ci := 1) rfl rfl rfl q291 q292 q293 q33 q294 ⟨rfl, hd_X1_rounds⟩ rfl ⟨rfl, rfl⟩ ⟨Nat.le_of_ble_eq_true rfl, Nat.le_of_ble_eq_true rfl⟩ ⟨Nat.le_refl _, Nat.le_refl _⟩ hl.1 rfl (Nat.le_of_ble_eq_true rfl) dL_law_347 hS (aY_in hDy) (fun r H locs hr_ hk_ hS => ?_)
  obtain ⟨rfl, hY2⟩ := hr_
  have hX2 := xP_kept hX2 hdis hk_
  refine lv_icmp_eq (tgt := 523) hx hb dL_law_350 (by decide) (fun c_ => ?_) (fun c_ => absurd (rfl) c_)
  refine lv_iinc (v := nI (4 * n + 4)) (lv' := [(3, .int (nI (4 * n + 4))), (0, .ref b), (1, .ref (ax 0)), (2, .ref (ay 0))]) hx hb dL_law_523 hl (k := 3) rfl (by rw [show Int32.ofInt 4 = nI 4 by decide +kernel, nI_add]) (by decide) rfl (fun ls hl => ?_)
  refine lv_goto (tgt := 18) hx hb dL_law_526 (by decide) ?_
  exact K _ _ _ _ ⟨hnx, hX2, hY2, hS, lv_sub hl [1, 2, 3, 0] rfl⟩
set_option maxHeartbeats 4000000 in
theorem lc_9 {p : Program} {l : Launch} {e : Env} {s : State} {m : MethodId} {below : List Frame} {meth : Method} {c : Code} {Q : State → Prop} {b L : Nat} {xs : Nat → Int32} {G : va_G} {ax ay : Nat → Nat} {cS cB cI cZ : ClassId} (C : lcC p s m c b L xs G ax ay cS cB cI cZ) {n : Nat} (hn : 4 * n + 4 ≤ L) (hL : L ≤ 256) {nx : Nat → Nat} {H : Heap} {locs : List Loc} {ls : Array Slot} (I : lcI s G ax ay cS cB cI cZ b n nx H locs ls) (K : ∀ nx H locs ls, lcI s G ax ay cS cB cI cZ b (n + 1) nx H locs ls → W p l e room_1 s m #[Value.ref b] below meth c H locs 600000 7290000 Q (F0 m 18 ls [])) : W p l e room_1 s m #[Value.ref b] below meth c H locs 600000 7290000 Q (F0 m 355 ls []) := by
  obtain ⟨S, hX, hbl, hKx, hKy, hDx, hDy, hdis⟩ := C
  obtain ⟨hx, hb, hml, hown, hts⟩ := S
  have S : CallFix p m c code 4 s #[Value.ref b] lw_all R_law := ⟨hx, hb, hml, hown, hts⟩
  obtain ⟨hnx, ⟨lx, gg, ww, tt, lr, ff, hPx⟩, ⟨fr, td, kp, af, hPy⟩, hS, hl⟩ := I
  have hbA : ¬ s.heap.size ≤ b := by omega
  refine lv_aload_n hx hb dL_law_355 rfl (lv_at hl 1 rfl) ?_
  refine lv_aload_n hx hb dL_law_356 rfl (lv_at hl 0 rfl) ?_
  refine lv_iload_n hx hb dL_law_357 rfl (lv_at hl 3 rfl) ?_
  refine lv_iconst (v := nI 1) hx hb dL_law_358 (by decide +kernel) ?_
  refine pe_iadd hx hb dL_law_359 ?_
  refine pe_sld hx hb hX hbl hbA hS (i := 4 * n + 1) (by omega) (by omega) dL_law_360 ?_
  refine lv_aload_n hx hb dL_law_361 rfl (lv_at hl 0 rfl) ?_
  refine lv_iload_n hx hb dL_law_362 rfl (lv_at hl 3 rfl) ?_
  refine lv_iconst (v := nI 2) hx hb dL_law_363 (by decide +kernel) ?_
  refine pe_iadd hx hb dL_law_364 ?_
  refine pe_sld hx hb hX hbl hbA hS (i := 4 * n + 2) (by omega) (by omega) dL_law_365 ?_
  refine pe_cW (n := 2) (rest := []) S hKx hPx (m_X0_looselyAlike l G ax cS cB nx lx gg ww tt lr ff (aX ax) (xD_aX hDx) (xs (4 * n + 1)) (xs (4 * n + 2)) hnx) (ci := 0) rfl rfl rfl q150 q151 q152 q32 q153 ⟨rfl, hd_X0_looselyAlike⟩ rfl ⟨rfl, rfl⟩ ⟨Nat.le_of_ble_eq_true rfl, Nat.le_of_ble_eq_true rfl⟩ ⟨Nat.le_refl _, Nat.le_refl _⟩ hl.1 rfl (Nat.le_of_ble_eq_true rfl) dL_law_366 hS (aX_in hDx) (fun r H locs hr_ hk_ hS => ?_)
  obtain ⟨rfl, hX2⟩ := hr_
  have hPy := yP_kept hPy hdis hk_
  refine lv_aload_n hx hb dL_law_369 rfl (lv_at hl 2 rfl) ?_
  refine lv_aload_n hx hb dL_law_370 rfl (lv_at hl 0 rfl) ?_
  refine lv_iload_n hx hb dL_law_371 rfl (lv_at hl 3 rfl) ?_
  refine lv_iconst (v := nI 1) hx hb dL_law_372 (by decide +kernel) ?_
  refine pe_iadd hx hb dL_law_373 ?_
  refine pe_sld hx hb hX hbl hbA hS (i := 4 * n + 1) (by omega) (by omega) dL_law_374 ?_
  refine lv_aload_n hx hb dL_law_375 rfl (lv_at hl 0 rfl) ?_
  refine lv_iload_n hx hb dL_law_376 rfl (lv_at hl 3 rfl) ?_
  refine lv_iconst (v := nI 2) hx hb dL_law_377 (by decide +kernel) ?_
  refine pe_iadd hx hb dL_law_378 ?_
  refine pe_sld hx hb hX hbl hbA hS (i := 4 * n + 2) (by omega) (by omega) dL_law_379 ?_
  refine pe_cW (n := 2) (rest := [.int (nI (zAlk (zLg nx) (xs (4 * n + 1)) (xs (4 * n + 2))).toNat)]) S hKy hPy (m_X1_looselyAlike l G ay cI cZ nx fr td kp af (aY ay) (yD_aY hDy) (xs (4 * n + 1)) (xs (4 * n + 2))) (ci := 1) rfl rfl rfl q295 q296 q297 q33 q298 ⟨rfl, hd_X1_looselyAlike⟩ rfl ⟨rfl, rfl⟩ ⟨Nat.le_of_ble_eq_true rfl, Nat.le_of_ble_eq_true rfl⟩ ⟨Nat.le_refl _, Nat.le_refl _⟩ hl.1 rfl (Nat.le_of_ble_eq_true rfl) dL_law_380 hS (aY_in hDy) (fun r H locs hr_ hk_ hS => ?_)
  obtain ⟨rfl, hY2⟩ := hr_
  have hX2 := xP_kept hX2 hdis hk_
  refine lv_icmp_eq (tgt := 523) hx hb dL_law_383 (by decide) (fun c_ => ?_) (fun c_ => absurd (rfl) c_)
  refine lv_iinc (v := nI (4 * n + 4)) (lv' := [(3, .int (nI (4 * n + 4))), (0, .ref b), (1, .ref (ax 0)), (2, .ref (ay 0))]) hx hb dL_law_523 hl (k := 3) rfl (by rw [show Int32.ofInt 4 = nI 4 by decide +kernel, nI_add]) (by decide) rfl (fun ls hl => ?_)
  refine lv_goto (tgt := 18) hx hb dL_law_526 (by decide) ?_
  exact K _ _ _ _ ⟨hnx, hX2, hY2, hS, lv_sub hl [1, 2, 3, 0] rfl⟩
set_option maxHeartbeats 4000000 in
theorem lc_10 {p : Program} {l : Launch} {e : Env} {s : State} {m : MethodId} {below : List Frame} {meth : Method} {c : Code} {Q : State → Prop} {b L : Nat} {xs : Nat → Int32} {G : va_G} {ax ay : Nat → Nat} {cS cB cI cZ : ClassId} (C : lcC p s m c b L xs G ax ay cS cB cI cZ) {n : Nat} (hn : 4 * n + 4 ≤ L) (hL : L ≤ 256) {nx : Nat → Nat} {H : Heap} {locs : List Loc} {ls : Array Slot} (I : lcI s G ax ay cS cB cI cZ b n nx H locs ls) (K : ∀ nx H locs ls, lcI s G ax ay cS cB cI cZ b (n + 1) nx H locs ls → W p l e room_1 s m #[Value.ref b] below meth c H locs 600000 7290000 Q (F0 m 18 ls [])) : W p l e room_1 s m #[Value.ref b] below meth c H locs 600000 7290000 Q (F0 m 388 ls []) := by
  obtain ⟨S, hX, hbl, hKx, hKy, hDx, hDy, hdis⟩ := C
  obtain ⟨hx, hb, hml, hown, hts⟩ := S
  have S : CallFix p m c code 4 s #[Value.ref b] lw_all R_law := ⟨hx, hb, hml, hown, hts⟩
  obtain ⟨hnx, ⟨lx, gg, ww, tt, lr, ff, hPx⟩, ⟨fr, td, kp, af, hPy⟩, hS, hl⟩ := I
  have hbA : ¬ s.heap.size ≤ b := by omega
  refine lv_aload_n hx hb dL_law_388 rfl (lv_at hl 1 rfl) ?_
  refine pe_cW (n := 0) (rest := []) S hKx hPx (m_X0_looseGroups l G ax cS cB nx lx gg ww tt lr ff (aX ax) (xD_aX hDx)  hnx) (ci := 0) rfl rfl rfl q166 q167 q168 q32 q169 ⟨rfl, hd_X0_looseGroups⟩ rfl ⟨rfl, rfl⟩ ⟨Nat.le_of_ble_eq_true rfl, Nat.le_of_ble_eq_true rfl⟩ ⟨Nat.le_refl _, Nat.le_refl _⟩ hl.1 rfl (Nat.le_of_ble_eq_true rfl) dL_law_389 hS (aX_in hDx) (fun r H locs hr_ hk_ hS => ?_)
  obtain ⟨rfl, hX2⟩ := hr_
  have hPy := yP_kept hPy hdis hk_
  refine lv_aload_n hx hb dL_law_392 rfl (lv_at hl 2 rfl) ?_
  refine pe_cW (n := 0) (rest := [.int (nI (zCnt (zLg nx)))]) S hKy hPy (m_X1_looseGroups l G ay cI cZ nx fr td kp af (aY ay) (yD_aY hDy) ) (ci := 1) rfl rfl rfl q319 q320 q321 q33 q322 ⟨rfl, hd_X1_looseGroups⟩ rfl ⟨rfl, rfl⟩ ⟨Nat.le_of_ble_eq_true rfl, Nat.le_of_ble_eq_true rfl⟩ ⟨Nat.le_refl _, Nat.le_refl _⟩ hl.1 rfl (Nat.le_of_ble_eq_true rfl) dL_law_393 hS (aY_in hDy) (fun r H locs hr_ hk_ hS => ?_)
  obtain ⟨rfl, hY2⟩ := hr_
  have hX2 := xP_kept hX2 hdis hk_
  refine lv_icmp_eq (tgt := 523) hx hb dL_law_396 (by decide) (fun c_ => ?_) (fun c_ => absurd (rfl) c_)
  refine lv_iinc (v := nI (4 * n + 4)) (lv' := [(3, .int (nI (4 * n + 4))), (0, .ref b), (1, .ref (ax 0)), (2, .ref (ay 0))]) hx hb dL_law_523 hl (k := 3) rfl (by rw [show Int32.ofInt 4 = nI 4 by decide +kernel, nI_add]) (by decide) rfl (fun ls hl => ?_)
  refine lv_goto (tgt := 18) hx hb dL_law_526 (by decide) ?_
  exact K _ _ _ _ ⟨hnx, hX2, hY2, hS, lv_sub hl [1, 2, 3, 0] rfl⟩
set_option maxHeartbeats 4000000 in
theorem lc_11 {p : Program} {l : Launch} {e : Env} {s : State} {m : MethodId} {below : List Frame} {meth : Method} {c : Code} {Q : State → Prop} {b L : Nat} {xs : Nat → Int32} {G : va_G} {ax ay : Nat → Nat} {cS cB cI cZ : ClassId} (C : lcC p s m c b L xs G ax ay cS cB cI cZ) {n : Nat} (hn : 4 * n + 4 ≤ L) (hL : L ≤ 256) {nx : Nat → Nat} {H : Heap} {locs : List Loc} {ls : Array Slot} (I : lcI s G ax ay cS cB cI cZ b n nx H locs ls) (K : ∀ nx H locs ls, lcI s G ax ay cS cB cI cZ b (n + 1) nx H locs ls → W p l e room_1 s m #[Value.ref b] below meth c H locs 600000 7290000 Q (F0 m 18 ls [])) : W p l e room_1 s m #[Value.ref b] below meth c H locs 600000 7290000 Q (F0 m 401 ls []) := by
  obtain ⟨S, hX, hbl, hKx, hKy, hDx, hDy, hdis⟩ := C
  obtain ⟨hx, hb, hml, hown, hts⟩ := S
  have S : CallFix p m c code 4 s #[Value.ref b] lw_all R_law := ⟨hx, hb, hml, hown, hts⟩
  obtain ⟨hnx, ⟨lx, gg, ww, tt, lr, ff, hPx⟩, ⟨fr, td, kp, af, hPy⟩, hS, hl⟩ := I
  have hbA : ¬ s.heap.size ≤ b := by omega
  refine lv_aload_n hx hb dL_law_401 rfl (lv_at hl 1 rfl) ?_
  refine lv_aload_n hx hb dL_law_402 rfl (lv_at hl 0 rfl) ?_
  refine lv_iload_n hx hb dL_law_403 rfl (lv_at hl 3 rfl) ?_
  refine lv_iconst (v := nI 1) hx hb dL_law_404 (by decide +kernel) ?_
  refine pe_iadd hx hb dL_law_405 ?_
  refine pe_sld hx hb hX hbl hbA hS (i := 4 * n + 1) (by omega) (by omega) dL_law_406 ?_
  refine lv_aload_n hx hb dL_law_407 rfl (lv_at hl 0 rfl) ?_
  refine lv_iload_n hx hb dL_law_408 rfl (lv_at hl 3 rfl) ?_
  refine lv_iconst (v := nI 2) hx hb dL_law_409 (by decide +kernel) ?_
  refine pe_iadd hx hb dL_law_410 ?_
  refine pe_sld hx hb hX hbl hbA hS (i := 4 * n + 2) (by omega) (by omega) dL_law_411 ?_
  refine pe_cW (n := 2) (rest := []) S hKx hPx (m_X0_follows l G ax cS cB nx lx gg ww tt lr ff (aX ax) (xD_aX hDx) (xs (4 * n + 1)) (xs (4 * n + 2)) hnx) (ci := 0) rfl rfl rfl q170 q171 q172 q32 q173 ⟨rfl, hd_X0_follows⟩ rfl ⟨rfl, rfl⟩ ⟨Nat.le_of_ble_eq_true rfl, Nat.le_of_ble_eq_true rfl⟩ ⟨Nat.le_refl _, Nat.le_refl _⟩ hl.1 rfl (Nat.le_of_ble_eq_true rfl) dL_law_412 hS (aX_in hDx) (fun r H locs hr_ hk_ hS => ?_)
  obtain ⟨rfl, hX2⟩ := hr_
  have hPy := yP_kept hPy hdis hk_
  refine lv_aload_n hx hb dL_law_415 rfl (lv_at hl 2 rfl) ?_
  refine lv_aload_n hx hb dL_law_416 rfl (lv_at hl 0 rfl) ?_
  refine lv_iload_n hx hb dL_law_417 rfl (lv_at hl 3 rfl) ?_
  refine lv_iconst (v := nI 1) hx hb dL_law_418 (by decide +kernel) ?_
  refine pe_iadd hx hb dL_law_419 ?_
  refine pe_sld hx hb hX hbl hbA hS (i := 4 * n + 1) (by omega) (by omega) dL_law_420 ?_
  refine lv_aload_n hx hb dL_law_421 rfl (lv_at hl 0 rfl) ?_
  refine lv_iload_n hx hb dL_law_422 rfl (lv_at hl 3 rfl) ?_
  refine lv_iconst (v := nI 2) hx hb dL_law_423 (by decide +kernel) ?_
  refine pe_iadd hx hb dL_law_424 ?_
  refine pe_sld hx hb hX hbl hbA hS (i := 4 * n + 2) (by omega) (by omega) dL_law_425 ?_
  refine pe_cW (n := 2) (rest := [.int (nI (zFlw nx (xs (4 * n + 1)) (xs (4 * n + 2))).toNat)]) S hKy hPy (m_X1_follows l G ay cI cZ nx fr td kp af (aY ay) (yD_aY hDy) (xs (4 * n + 1)) (xs (4 * n + 2))) (ci := 1) rfl rfl rfl q323 q324 q325 q33 q326 ⟨rfl, hd_X1_follows⟩ rfl ⟨rfl, rfl⟩ ⟨Nat.le_of_ble_eq_true rfl, Nat.le_of_ble_eq_true rfl⟩ ⟨Nat.le_refl _, Nat.le_refl _⟩ hl.1 rfl (Nat.le_of_ble_eq_true rfl) dL_law_426 hS (aY_in hDy) (fun r H locs hr_ hk_ hS => ?_)
  obtain ⟨rfl, hY2⟩ := hr_
  have hX2 := xP_kept hX2 hdis hk_
  refine lv_icmp_eq (tgt := 523) hx hb dL_law_429 (by decide) (fun c_ => ?_) (fun c_ => absurd (rfl) c_)
  refine lv_iinc (v := nI (4 * n + 4)) (lv' := [(3, .int (nI (4 * n + 4))), (0, .ref b), (1, .ref (ax 0)), (2, .ref (ay 0))]) hx hb dL_law_523 hl (k := 3) rfl (by rw [show Int32.ofInt 4 = nI 4 by decide +kernel, nI_add]) (by decide) rfl (fun ls hl => ?_)
  refine lv_goto (tgt := 18) hx hb dL_law_526 (by decide) ?_
  exact K _ _ _ _ ⟨hnx, hX2, hY2, hS, lv_sub hl [1, 2, 3, 0] rfl⟩
set_option maxHeartbeats 4000000 in
theorem lc_12 {p : Program} {l : Launch} {e : Env} {s : State} {m : MethodId} {below : List Frame} {meth : Method} {c : Code} {Q : State → Prop} {b L : Nat} {xs : Nat → Int32} {G : va_G} {ax ay : Nat → Nat} {cS cB cI cZ : ClassId} (C : lcC p s m c b L xs G ax ay cS cB cI cZ) {n : Nat} (hn : 4 * n + 4 ≤ L) (hL : L ≤ 256) {nx : Nat → Nat} {H : Heap} {locs : List Loc} {ls : Array Slot} (I : lcI s G ax ay cS cB cI cZ b n nx H locs ls) (K : ∀ nx H locs ls, lcI s G ax ay cS cB cI cZ b (n + 1) nx H locs ls → W p l e room_1 s m #[Value.ref b] below meth c H locs 600000 7290000 Q (F0 m 18 ls [])) : W p l e room_1 s m #[Value.ref b] below meth c H locs 600000 7290000 Q (F0 m 434 ls []) := by
  obtain ⟨S, hX, hbl, hKx, hKy, hDx, hDy, hdis⟩ := C
  obtain ⟨hx, hb, hml, hown, hts⟩ := S
  have S : CallFix p m c code 4 s #[Value.ref b] lw_all R_law := ⟨hx, hb, hml, hown, hts⟩
  obtain ⟨hnx, ⟨lx, gg, ww, tt, lr, ff, hPx⟩, ⟨fr, td, kp, af, hPy⟩, hS, hl⟩ := I
  have hbA : ¬ s.heap.size ≤ b := by omega
  refine lv_aload_n hx hb dL_law_434 rfl (lv_at hl 1 rfl) ?_
  refine lv_aload_n hx hb dL_law_435 rfl (lv_at hl 0 rfl) ?_
  refine lv_iload_n hx hb dL_law_436 rfl (lv_at hl 3 rfl) ?_
  refine lv_iconst (v := nI 1) hx hb dL_law_437 (by decide +kernel) ?_
  refine pe_iadd hx hb dL_law_438 ?_
  refine pe_sld hx hb hX hbl hbA hS (i := 4 * n + 1) (by omega) (by omega) dL_law_439 ?_
  refine pe_cW (n := 1) (rest := []) S hKx hPx (m_X0_followers l G ax cS cB nx lx gg ww tt lr ff (aX ax) (xD_aX hDx) (xs (4 * n + 1)) hnx) (ci := 0) rfl rfl rfl q186 q187 q188 q32 q189 ⟨rfl, hd_X0_followers⟩ rfl ⟨rfl, rfl⟩ ⟨Nat.le_of_ble_eq_true rfl, Nat.le_of_ble_eq_true rfl⟩ ⟨Nat.le_refl _, Nat.le_refl _⟩ hl.1 rfl (Nat.le_of_ble_eq_true rfl) dL_law_440 hS (aX_in hDx) (fun r H locs hr_ hk_ hS => ?_)
  obtain ⟨rfl, hX2⟩ := hr_
  have hPy := yP_kept hPy hdis hk_
  refine lv_aload_n hx hb dL_law_443 rfl (lv_at hl 2 rfl) ?_
  refine lv_aload_n hx hb dL_law_444 rfl (lv_at hl 0 rfl) ?_
  refine lv_iload_n hx hb dL_law_445 rfl (lv_at hl 3 rfl) ?_
  refine lv_iconst (v := nI 1) hx hb dL_law_446 (by decide +kernel) ?_
  refine pe_iadd hx hb dL_law_447 ?_
  refine pe_sld hx hb hX hbl hbA hS (i := 4 * n + 1) (by omega) (by omega) dL_law_448 ?_
  refine pe_cW (n := 1) (rest := [.int (nI (zFls nx (xs (4 * n + 1))))]) S hKy hPy (m_X1_followers l G ay cI cZ nx fr td kp af (aY ay) (yD_aY hDy) (xs (4 * n + 1))) (ci := 1) rfl rfl rfl q335 q336 q337 q33 q338 ⟨rfl, hd_X1_followers⟩ rfl ⟨rfl, rfl⟩ ⟨Nat.le_of_ble_eq_true rfl, Nat.le_of_ble_eq_true rfl⟩ ⟨Nat.le_refl _, Nat.le_refl _⟩ hl.1 rfl (Nat.le_of_ble_eq_true rfl) dL_law_449 hS (aY_in hDy) (fun r H locs hr_ hk_ hS => ?_)
  obtain ⟨rfl, hY2⟩ := hr_
  have hX2 := xP_kept hX2 hdis hk_
  refine lv_icmp_eq (tgt := 523) hx hb dL_law_452 (by decide) (fun c_ => ?_) (fun c_ => absurd (rfl) c_)
  refine lv_iinc (v := nI (4 * n + 4)) (lv' := [(3, .int (nI (4 * n + 4))), (0, .ref b), (1, .ref (ax 0)), (2, .ref (ay 0))]) hx hb dL_law_523 hl (k := 3) rfl (by rw [show Int32.ofInt 4 = nI 4 by decide +kernel, nI_add]) (by decide) rfl (fun ls hl => ?_)
  refine lv_goto (tgt := 18) hx hb dL_law_526 (by decide) ?_
  exact K _ _ _ _ ⟨hnx, hX2, hY2, hS, lv_sub hl [1, 2, 3, 0] rfl⟩
set_option maxHeartbeats 4000000 in
theorem lc_13 {p : Program} {l : Launch} {e : Env} {s : State} {m : MethodId} {below : List Frame} {meth : Method} {c : Code} {Q : State → Prop} {b L : Nat} {xs : Nat → Int32} {G : va_G} {ax ay : Nat → Nat} {cS cB cI cZ : ClassId} (C : lcC p s m c b L xs G ax ay cS cB cI cZ) {n : Nat} (hn : 4 * n + 4 ≤ L) (hL : L ≤ 256) {nx : Nat → Nat} {H : Heap} {locs : List Loc} {ls : Array Slot} (I : lcI s G ax ay cS cB cI cZ b n nx H locs ls) (K : ∀ nx H locs ls, lcI s G ax ay cS cB cI cZ b (n + 1) nx H locs ls → W p l e room_1 s m #[Value.ref b] below meth c H locs 600000 7290000 Q (F0 m 18 ls [])) : W p l e room_1 s m #[Value.ref b] below meth c H locs 600000 7290000 Q (F0 m 457 ls []) := by
  obtain ⟨S, hX, hbl, hKx, hKy, hDx, hDy, hdis⟩ := C
  obtain ⟨hx, hb, hml, hown, hts⟩ := S
  have S : CallFix p m c code 4 s #[Value.ref b] lw_all R_law := ⟨hx, hb, hml, hown, hts⟩
  obtain ⟨hnx, ⟨lx, gg, ww, tt, lr, ff, hPx⟩, ⟨fr, td, kp, af, hPy⟩, hS, hl⟩ := I
  have hbA : ¬ s.heap.size ≤ b := by omega
  refine lv_aload_n hx hb dL_law_457 rfl (lv_at hl 1 rfl) ?_
  refine lv_aload_n hx hb dL_law_458 rfl (lv_at hl 0 rfl) ?_
  refine lv_iload_n hx hb dL_law_459 rfl (lv_at hl 3 rfl) ?_
  refine lv_iconst (v := nI 1) hx hb dL_law_460 (by decide +kernel) ?_
  refine pe_iadd hx hb dL_law_461 ?_
  refine pe_sld hx hb hX hbl hbA hS (i := 4 * n + 1) (by omega) (by omega) dL_law_462 ?_
  refine pe_cV (n := 1) (rest := []) S hKx hPx (m_X0_silently l G ax cS cB nx lx gg ww tt lr ff (xs (4 * n + 1)) hnx) (ci := 0) rfl rfl rfl q190 q191 q192 q32 q193 ⟨rfl, hd_X0_silently⟩ rfl ⟨rfl, rfl⟩ ⟨Nat.le_of_ble_eq_true rfl, Nat.le_of_ble_eq_true rfl⟩ ⟨Nat.le_refl _, Nat.le_refl _⟩ hl.1 rfl (Nat.le_of_ble_eq_true rfl) dL_law_463 (fun r hr_ => ?_)
  subst hr_
  have hX2 : xP G ax cS cB nx H := ⟨lx, gg, ww, tt, lr, ff, hPx⟩
  refine lv_aload_n hx hb dL_law_466 rfl (lv_at hl 2 rfl) ?_
  refine lv_aload_n hx hb dL_law_467 rfl (lv_at hl 0 rfl) ?_
  refine lv_iload_n hx hb dL_law_468 rfl (lv_at hl 3 rfl) ?_
  refine lv_iconst (v := nI 1) hx hb dL_law_469 (by decide +kernel) ?_
  refine pe_iadd hx hb dL_law_470 ?_
  refine pe_sld hx hb hX hbl hbA hS (i := 4 * n + 1) (by omega) (by omega) dL_law_471 ?_
  refine pe_cV (n := 1) (rest := [.int (nI (if zSt (xs (4 * n + 1)) then zS nx (tn (xs (4 * n + 1))) 8 else 0))]) S hKy hPy (m_X1_silently l G ay cI cZ nx fr td kp af (xs (4 * n + 1))) (ci := 1) rfl rfl rfl q339 q340 q341 q33 q342 ⟨rfl, hd_X1_silently⟩ rfl ⟨rfl, rfl⟩ ⟨Nat.le_of_ble_eq_true rfl, Nat.le_of_ble_eq_true rfl⟩ ⟨Nat.le_refl _, Nat.le_refl _⟩ hl.1 rfl (Nat.le_of_ble_eq_true rfl) dL_law_472 (fun r hr_ => ?_)
  subst hr_
  have hY2 : yP G ay cI cZ nx H := ⟨fr, td, kp, af, hPy⟩
  refine lv_icmp_eq (tgt := 523) hx hb dL_law_475 (by decide) (fun c_ => ?_) (fun c_ => absurd (by rw [z_sil hnx]) c_)
  refine lv_iinc (v := nI (4 * n + 4)) (lv' := [(3, .int (nI (4 * n + 4))), (0, .ref b), (1, .ref (ax 0)), (2, .ref (ay 0))]) hx hb dL_law_523 hl (k := 3) rfl (by rw [show Int32.ofInt 4 = nI 4 by decide +kernel, nI_add]) (by decide) rfl (fun ls hl => ?_)
  refine lv_goto (tgt := 18) hx hb dL_law_526 (by decide) ?_
  exact K _ _ _ _ ⟨hnx, hX2, hY2, hS, lv_sub hl [1, 2, 3, 0] rfl⟩
set_option maxHeartbeats 4000000 in
theorem lc_14 {p : Program} {l : Launch} {e : Env} {s : State} {m : MethodId} {below : List Frame} {meth : Method} {c : Code} {Q : State → Prop} {b L : Nat} {xs : Nat → Int32} {G : va_G} {ax ay : Nat → Nat} {cS cB cI cZ : ClassId} (C : lcC p s m c b L xs G ax ay cS cB cI cZ) {n : Nat} (hn : 4 * n + 4 ≤ L) (hL : L ≤ 256) {nx : Nat → Nat} {H : Heap} {locs : List Loc} {ls : Array Slot} (I : lcI s G ax ay cS cB cI cZ b n nx H locs ls) (K : ∀ nx H locs ls, lcI s G ax ay cS cB cI cZ b (n + 1) nx H locs ls → W p l e room_1 s m #[Value.ref b] below meth c H locs 600000 7290000 Q (F0 m 18 ls [])) : W p l e room_1 s m #[Value.ref b] below meth c H locs 600000 7290000 Q (F0 m 480 ls []) := by
  obtain ⟨S, hX, hbl, hKx, hKy, hDx, hDy, hdis⟩ := C
  obtain ⟨hx, hb, hml, hown, hts⟩ := S
  have S : CallFix p m c code 4 s #[Value.ref b] lw_all R_law := ⟨hx, hb, hml, hown, hts⟩
  obtain ⟨hnx, ⟨lx, gg, ww, tt, lr, ff, hPx⟩, ⟨fr, td, kp, af, hPy⟩, hS, hl⟩ := I
  have hbA : ¬ s.heap.size ≤ b := by omega
  refine lv_aload_n hx hb dL_law_480 rfl (lv_at hl 1 rfl) ?_
  refine lv_aload_n hx hb dL_law_481 rfl (lv_at hl 0 rfl) ?_
  refine lv_iload_n hx hb dL_law_482 rfl (lv_at hl 3 rfl) ?_
  refine lv_iconst (v := nI 1) hx hb dL_law_483 (by decide +kernel) ?_
  refine pe_iadd hx hb dL_law_484 ?_
  refine pe_sld hx hb hX hbl hbA hS (i := 4 * n + 1) (by omega) (by omega) dL_law_485 ?_
  refine lv_aload_n hx hb dL_law_486 rfl (lv_at hl 0 rfl) ?_
  refine lv_iload_n hx hb dL_law_487 rfl (lv_at hl 3 rfl) ?_
  refine lv_iconst (v := nI 2) hx hb dL_law_488 (by decide +kernel) ?_
  refine pe_iadd hx hb dL_law_489 ?_
  refine pe_sld hx hb hX hbl hbA hS (i := 4 * n + 2) (by omega) (by omega) dL_law_490 ?_
  refine lv_aload_n hx hb dL_law_491 rfl (lv_at hl 0 rfl) ?_
  refine lv_iload_n hx hb dL_law_492 rfl (lv_at hl 3 rfl) ?_
  refine lv_iconst (v := nI 3) hx hb dL_law_493 (by decide +kernel) ?_
  refine pe_iadd hx hb dL_law_494 ?_
  refine pe_sld hx hb hX hbl hbA hS (i := 4 * n + 3) (by omega) (by omega) dL_law_495 ?_
  refine pe_cW (n := 3) (rest := []) S hKx hPx (m_X0_idle l G ax cS cB nx lx gg ww tt lr ff (aX ax) (xD_aX hDx) (xs (4 * n + 1)) (xs (4 * n + 2)) (xs (4 * n + 3)) hnx) (ci := 0) rfl rfl rfl q194 q195 q196 q32 q197 ⟨rfl, hd_X0_idle⟩ rfl ⟨rfl, rfl⟩ ⟨Nat.le_of_ble_eq_true rfl, Nat.le_of_ble_eq_true rfl⟩ ⟨Nat.le_refl _, Nat.le_refl _⟩ hl.1 rfl (Nat.le_of_ble_eq_true rfl) dL_law_496 hS (aX_in hDx) (fun r H locs hr_ hk_ hS => ?_)
  obtain ⟨rfl, hX2⟩ := hr_
  have hPy := yP_kept hPy hdis hk_
  refine lv_aload_n hx hb dL_law_499 rfl (lv_at hl 2 rfl) ?_
  refine lv_aload_n hx hb dL_law_500 rfl (lv_at hl 0 rfl) ?_
  refine lv_iload_n hx hb dL_law_501 rfl (lv_at hl 3 rfl) ?_
  refine lv_iconst (v := nI 1) hx hb dL_law_502 (by decide +kernel) ?_
  refine pe_iadd hx hb dL_law_503 ?_
  refine pe_sld hx hb hX hbl hbA hS (i := 4 * n + 1) (by omega) (by omega) dL_law_504 ?_
  refine lv_aload_n hx hb dL_law_505 rfl (lv_at hl 0 rfl) ?_
  refine lv_iload_n hx hb dL_law_506 rfl (lv_at hl 3 rfl) ?_
  refine lv_iconst (v := nI 2) hx hb dL_law_507 (by decide +kernel) ?_
  refine pe_iadd hx hb dL_law_508 ?_
  refine pe_sld hx hb hX hbl hbA hS (i := 4 * n + 2) (by omega) (by omega) dL_law_509 ?_
  refine lv_aload_n hx hb dL_law_510 rfl (lv_at hl 0 rfl) ?_
  refine lv_iload_n hx hb dL_law_511 rfl (lv_at hl 3 rfl) ?_
  refine lv_iconst (v := nI 3) hx hb dL_law_512 (by decide +kernel) ?_
  refine pe_iadd hx hb dL_law_513 ?_
  refine pe_sld hx hb hX hbl hbA hS (i := 4 * n + 3) (by omega) (by omega) dL_law_514 ?_
  refine pe_cW (n := 3) (rest := [.int (nI (zIdl nx (xs (4 * n + 1)) (xs (4 * n + 2)) (xs (4 * n + 3))).toNat)]) S hKy hPy (m_X1_idle l G ay cI cZ nx fr td kp af (aY ay) (yD_aY hDy) (xs (4 * n + 1)) (xs (4 * n + 2)) (xs (4 * n + 3))) (ci := 1) rfl rfl rfl q343 q344 q345 q33 q346 ⟨rfl, hd_X1_idle⟩ rfl ⟨rfl, rfl⟩ ⟨Nat.le_of_ble_eq_true rfl, Nat.le_of_ble_eq_true rfl⟩ ⟨Nat.le_refl _, Nat.le_refl _⟩ hl.1 rfl (Nat.le_of_ble_eq_true rfl) dL_law_515 hS (aY_in hDy) (fun r H locs hr_ hk_ hS => ?_)
  obtain ⟨rfl, hY2⟩ := hr_
  have hX2 := xP_kept hX2 hdis hk_
  refine lv_icmp_eq (tgt := 523) hx hb dL_law_518 (by decide) (fun c_ => ?_) (fun c_ => absurd (rfl) c_)
  refine lv_iinc (v := nI (4 * n + 4)) (lv' := [(3, .int (nI (4 * n + 4))), (0, .ref b), (1, .ref (ax 0)), (2, .ref (ay 0))]) hx hb dL_law_523 hl (k := 3) rfl (by rw [show Int32.ofInt 4 = nI 4 by decide +kernel, nI_add]) (by decide) rfl (fun ls hl => ?_)
  refine lv_goto (tgt := 18) hx hb dL_law_526 (by decide) ?_
  exact K _ _ _ _ ⟨hnx, hX2, hY2, hS, lv_sub hl [1, 2, 3, 0] rfl⟩
end
section
/-! the law: its loop and its start (printed by gen/whole.py) -/
set_option maxRecDepth 100000
theorem classes_pe {s0 : State} {b0 : Addr} (ht0 : ∀ w ∈ lw_tbl, w.before #[Value.ref b0] s0 = true) : ∃ G : va_G, va_K G vwCl [] s0 := by
  obtain ⟨c0_, iS0, hKn0⟩ := u_known (C := RX0) (T := TX0) (N := 7) (n := 7) ht0 (fun w h => lw_all_tbl (in_X0 w h)) (ht0 _ (lw_all_tbl q35))
  obtain ⟨c1_, iS1, hKn1⟩ := u_known (C := RX1) (T := TX1) (N := 5) (n := 5) ht0 (fun w h => lw_all_tbl (in_X1 w h)) (ht0 _ (lw_all_tbl q204))
  refine ⟨(fun k => if k = 0 then c0_ else c1_, fun k => if k = 0 then iS0 else iS1), ?_, fun k q hq => by simp at hq⟩
  intro k q hq
  match k, hq with
  | 0, hq => cases hq; exact hKn0
  | 1, hq => cases hq; exact hKn1
  | k + 2, hq => simp [vwCl] at hq
theorem z_exit {L n : Nat} (hL : L ≤ 256) (hn : n ≤ 64) : nI L - nI 4 < nI (4 * n) ↔ L < 4 * n + 4 := by
  rw [Int32.lt_iff_toInt_lt, pk_sub_toInt (by omega) (by omega), nI_toInt (by omega)]
  omega
set_option maxHeartbeats 4000000 in
theorem law_loop {p : Program} {l : Launch} {e : Env} {s : State} {m : MethodId} {below : List Frame} {meth : Method} {c : Code} {b L : Nat} {xs : Nat → Int32} {G : va_G} {ax ay : Nat → Nat} {cS cB cI cZ : ClassId} (C : lcC p s m c b L xs G ax ay cS cB cI cZ) (hr : meth.sig.returnType = ret) (hlocks : meth.locks = false) (hL : L ≤ 256) : ∀ n, n ≤ 64 → ∀ H locs ls, (∃ nx, lcI s G ax ay cS cB cI cZ b n nx H locs ls) → W p l e room_1 s m #[Value.ref b] below meth c H locs 600000 7290000 (lw_Z below #[Value.ref b] s) (F0 m 18 ls []) := by
  refine pe_loop 64 18 (fun n H locs ls => ∃ nx, lcI s G ax ay cS cB cI cZ b n nx H locs ls) (fun n hn64 ih H locs ls hI => ?_)
  obtain ⟨nx, I⟩ := hI
  have C0 := C
  obtain ⟨⟨hx, hb, hml, hown, hts⟩, hX, hbl, hKx, hKy, hDx, hDy, hdis⟩ := C0
  have I0 := I
  obtain ⟨hnx, hxp, hyp, hS, hl⟩ := I0
  have hbA : ¬ s.heap.size ≤ b := by omega
  refine lv_iload_n hx hb dL_law_18 rfl (lv_at hl 3 rfl) ?_
  refine lv_aload_n hx hb dL_law_19 rfl (lv_at hl 0 rfl) ?_
  refine va_slen hx hb hX hbl hbA hS dL_law_20 ?_
  refine lv_iconst (v := nI 4) hx hb dL_law_21 (by decide +kernel) ?_
  refine lv_isub hx hb dL_law_22 ?_
  refine lv_icmp_gt (tgt := 529) hx hb dL_law_23 (by decide) (fun c23 => ?_) (fun c23 => ?_)
  · refine lv_iconst (v := 1) hx hb dL_law_529 (by decide +kernel) ?_
    refine va_forget (fun q h => hS.2.2 q h) ?_
    exact lw_ret hx hb hr hlocks dL_law_530
  · have hn : 4 * n + 4 ≤ L := by
      apply Nat.le_of_not_lt
      intro q
      exact c23 ((z_exit hL hn64).mpr q)
    have K := ih (by omega)
    refine lv_aload_n hx hb dL_law_26 rfl (lv_at hl 0 rfl) ?_
    refine lv_iload_n hx hb dL_law_27 rfl (lv_at hl 3 rfl) ?_
    refine pe_sld hx hb hX hbl hbA hS (i := 4 * n) (by omega) (by omega) dL_law_28 ?_
    refine lv_bipush (v := nI 15) hx hb dL_law_29 (by decide +kernel) ?_
    refine lv_iand hx hb dL_law_31 ?_
    obtain ⟨j, hj, ej⟩ := pk_andE (xs (4 * n)) (m := nI 15) 4 (by decide +kernel)
    refine pe_top ej ?_
    have hj : j < 16 := hj
    rcases (show j = 0 ∨ j = 1 ∨ j = 2 ∨ j = 3 ∨ j = 4 ∨ j = 5 ∨ j = 6 ∨ j = 7 ∨ j = 8 ∨ j = 9 ∨ j = 10 ∨ j = 11 ∨ j = 12 ∨ j = 13 ∨ j = 14 ∨ j = 15 by omega) with rfl | rfl | rfl | rfl | rfl | rfl | rfl | rfl | rfl | rfl | rfl | rfl | rfl | rfl | rfl | rfl
    · refine lv_tableIn (off := 76) (tgt := 108) hx hb dL_law_32 (by decide +kernel) (by decide +kernel) (by decide +kernel) (by decide) ?_
      exact lc_0 C hn hL I (fun nx H locs ls I => K H locs ls ⟨nx, I⟩)
    · refine lv_tableIn (off := 119) (tgt := 151) hx hb dL_law_32 (by decide +kernel) (by decide +kernel) (by decide +kernel) (by decide) ?_
      exact lc_1 C hn hL I (fun nx H locs ls I => K H locs ls ⟨nx, I⟩)
    · refine lv_tableIn (off := 162) (tgt := 194) hx hb dL_law_32 (by decide +kernel) (by decide +kernel) (by decide +kernel) (by decide) ?_
      exact lc_2 C hn hL I (fun nx H locs ls I => K H locs ls ⟨nx, I⟩)
    · refine lv_tableIn (off := 175) (tgt := 207) hx hb dL_law_32 (by decide +kernel) (by decide +kernel) (by decide +kernel) (by decide) ?_
      exact lc_3 C hn hL I (fun nx H locs ls I => K H locs ls ⟨nx, I⟩)
    · refine lv_tableIn (off := 208) (tgt := 240) hx hb dL_law_32 (by decide +kernel) (by decide +kernel) (by decide +kernel) (by decide) ?_
      exact lc_4 C hn hL I (fun nx H locs ls I => K H locs ls ⟨nx, I⟩)
    · refine lv_tableIn (off := 241) (tgt := 273) hx hb dL_law_32 (by decide +kernel) (by decide +kernel) (by decide +kernel) (by decide) ?_
      exact lc_5 C hn hL I (fun nx H locs ls I => K H locs ls ⟨nx, I⟩)
    · refine lv_tableIn (off := 264) (tgt := 296) hx hb dL_law_32 (by decide +kernel) (by decide +kernel) (by decide +kernel) (by decide) ?_
      exact lc_6 C hn hL I (fun nx H locs ls I => K H locs ls ⟨nx, I⟩)
    · refine lv_tableIn (off := 277) (tgt := 309) hx hb dL_law_32 (by decide +kernel) (by decide +kernel) (by decide +kernel) (by decide) ?_
      exact lc_7 C hn hL I (fun nx H locs ls I => K H locs ls ⟨nx, I⟩)
    · refine lv_tableIn (off := 310) (tgt := 342) hx hb dL_law_32 (by decide +kernel) (by decide +kernel) (by decide +kernel) (by decide) ?_
      exact lc_8 C hn hL I (fun nx H locs ls I => K H locs ls ⟨nx, I⟩)
    · refine lv_tableIn (off := 323) (tgt := 355) hx hb dL_law_32 (by decide +kernel) (by decide +kernel) (by decide +kernel) (by decide) ?_
      exact lc_9 C hn hL I (fun nx H locs ls I => K H locs ls ⟨nx, I⟩)
    · refine lv_tableIn (off := 356) (tgt := 388) hx hb dL_law_32 (by decide +kernel) (by decide +kernel) (by decide +kernel) (by decide) ?_
      exact lc_10 C hn hL I (fun nx H locs ls I => K H locs ls ⟨nx, I⟩)
    · refine lv_tableIn (off := 369) (tgt := 401) hx hb dL_law_32 (by decide +kernel) (by decide +kernel) (by decide +kernel) (by decide) ?_
      exact lc_11 C hn hL I (fun nx H locs ls I => K H locs ls ⟨nx, I⟩)
    · refine lv_tableIn (off := 402) (tgt := 434) hx hb dL_law_32 (by decide +kernel) (by decide +kernel) (by decide +kernel) (by decide) ?_
      exact lc_12 C hn hL I (fun nx H locs ls I => K H locs ls ⟨nx, I⟩)
    · refine lv_tableIn (off := 425) (tgt := 457) hx hb dL_law_32 (by decide +kernel) (by decide +kernel) (by decide +kernel) (by decide) ?_
      exact lc_13 C hn hL I (fun nx H locs ls I => K H locs ls ⟨nx, I⟩)
    · refine lv_tableIn (off := 448) (tgt := 480) hx hb dL_law_32 (by decide +kernel) (by decide +kernel) (by decide +kernel) (by decide) ?_
      exact lc_14 C hn hL I (fun nx H locs ls I => K H locs ls ⟨nx, I⟩)
    · refine lv_tableOut (tgt := 523) hx hb dL_law_32 (by decide +kernel) (by decide) ?_
      refine lv_iinc (v := nI (4 * n + 4)) (lv' := [(3, .int (nI (4 * n + 4))), (0, .ref b), (1, .ref (ax 0)), (2, .ref (ay 0))]) hx hb dL_law_523 hl (k := 3) rfl (by rw [show Int32.ofInt 4 = nI 4 by decide +kernel, nI_add]) (by decide) rfl (fun ls hl => ?_)
      refine lv_goto (tgt := 18) hx hb dL_law_526 (by decide) ?_
      exact K _ _ _ ⟨nx, hnx, hxp, hyp, hS, lv_sub hl [1, 2, 3, 0] rfl⟩
set_option maxHeartbeats 4000000 in
/-- YOUR PART: from the entry, for every script of at most 256 ints, the law comes to its end with true -/
theorem whole_start {p : Program} {e : Env} {s : State} {m : MethodId} {below : List Frame} {meth : Method} {c : Code} (l : Launch) {b L : Nat} {xs : Nat → Int32} (hL : L ≤ 256) (C0 : lw_At p s m meth c b L xs) : W p l e room_1 s m #[Value.ref b] below meth c s.heap [] 0 0 (lw_Z below #[Value.ref b] s) (entryFrame m ([Value.ref b] : List Value).toArray 4) := by
  obtain ⟨hx, hb, hr, hml, hown, hts0, hX, hbl, hlocks, hgv⟩ := C0
  have hts : ∀ w ∈ lw_all, w.before #[Value.ref b] s = true := fun w h => hts0 w (lw_all_tbl h)
  obtain ⟨G, hK0⟩ := classes_pe hts0
  have hP : va_P G vwCl [] s.heap := fun k q h => by simp at h
  have hD : va_D (fun q => s.heap.size ≤ q) [] := ⟨fun i j p q h => by simp at h, fun k q h => by simp at h⟩
  have hS : va_S (fun q => s.heap.size ≤ q) s.heap s.heap [] := va_S.rf
  have hA : ∀ q : Nat, s.heap.size ≤ q → (fun q => s.heap.size ≤ q) q := fun q h => h
  have hl := lv_entry ([.ref b]) (n := 4) (Nat.le_of_ble_eq_true rfl)
  rw [lg_entry_eq]
  generalize (lg_sl ([.ref b]) ++ List.replicate (4 - (lg_sl ([.ref b])).length) Slot.unset).toArray = ls at hl ⊢
  have hl : lv_has ls 4 [(0, .ref b)] := hl
  have S : CallFix p m c code 4 s #[Value.ref b] lw_all R_law := ⟨hx, hb, hml, hown, hts⟩
  refine va_new (ci := 0) (fs := [.null, .null, .null, .null, .null, .int 0, .null]) (C := RX0) (T := TX0) (N := 7) hx hb hts in_X0 tyX0 tyX0_ok hown (hts _ q34) (hts _ q35) (hts _ q32) hK0 hP hD hS hA rfl (fun j hj => by rcases (show j = 0 ∨ j = 1 ∨ j = 2 ∨ j = 3 ∨ j = 4 ∨ j = 5 ∨ j = 6 by omega) with rfl | rfl | rfl | rfl | rfl | rfl | rfl <;> rfl) (Nat.le_of_ble_eq_true rfl) (Nat.le_of_ble_eq_true rfl) dL_law_0 (fun qx H hP hD hS => ?_)
  have hP : va_P G vwCl [(qx, .inr (0, [.null, .null, .null, .null, .null, .int 0, .null]))] H := hP
  have hD : va_D (fun q => s.heap.size ≤ q) [(qx, .inr (0, [.null, .null, .null, .null, .null, .int 0, .null]))] := hD
  refine lv_dup hx hb dL_law_3 rfl ?_
  have hPc := hP
  have hDc := hD
  have hKc := hK0
  have hFc := va_free (wc := [(qx, .inr (0, [.null, .null, .null, .null, .null, .int 0, .null]))]) hD hS hA [0] rfl
  refine va_callv (va_runI (As := []) (rest := [.ref qx]) S (m_X0_init l G qx H.size) (cwI 0 hts (lw_meth q38) rfl rfl rfl (hts _ q32) (hts _ q36) (hts _ q37) rfl (by decide +kernel) ⟨Nat.le_of_ble_eq_true rfl, Nat.le_of_ble_eq_true rfl⟩) ⟨fun a U g mk q => by obtain ⟨q0, q1, qP, qK, qD⟩ := q; exact ⟨q0, q1, qP, va_K.moved (u := U) (U := U.calling g mk a) (Vm.Alike.refl U.vm) qK, qD⟩, fun U hU hW => ⟨rfl, by rw [hU], by rw [hU]; exact hPc, va_K.moved hW.alike hKc, hDc.weaken (fun _ _ _ _ => trivial)⟩⟩ rfl rfl hl.1 rfl (lv_room (Nat.le_of_ble_eq_true rfl)) dL_law_4 ⟨Nat.le_of_ble_eq_true rfl, Nat.le_of_ble_eq_true rfl⟩) hS (fun q _ h => hFc q h) hFc (fun u t H1 locs ht hvm hw1 hB hz1 hk1 hS => ?_)
  obtain ⟨ax, cS, cB, eax, hP1, hKx, hD1⟩ := hB
  rw [ht] at hP1
  have hKx := va_K.moved hvm.symm hKx
  have hD2 := hD1.weaken (fun k q _ h => hFc q.1 h)
  generalize H1 = H at hP1 hS ⊢
  subst eax
  refine lv_astore_n (lv' := [(1, .ref (ax 0)), (0, .ref b)]) hx hb dL_law_7 rfl hl (by decide) rfl (fun ls hl => ?_)
  refine va_new (ci := 1) (fs := [.null, .null, .null, .null, .null]) (C := RX1) (T := TX1) (N := 5) hx hb hts in_X1 tyX1 tyX1_ok hown (hts _ q203) (hts _ q204) (hts _ q33) hK0 hP1 hD2 hS hA rfl (fun j hj => by rcases (show j = 0 ∨ j = 1 ∨ j = 2 ∨ j = 3 ∨ j = 4 by omega) with rfl | rfl | rfl | rfl | rfl <;> rfl) (Nat.le_of_ble_eq_true rfl) (Nat.le_of_ble_eq_true rfl) dL_law_8 (fun qy H hP hD hS => ?_)
  refine lv_dup hx hb dL_law_11 rfl ?_
  have hPc := hP.sub (ws' := [(qy, .inr (1, [.null, .null, .null, .null, .null]))]) [7] rfl
  have hDc := hD.sub (ws' := [(qy, .inr (1, [.null, .null, .null, .null, .null]))]) [7] (by decide) rfl
  have hFc := va_free (wc := [(qy, .inr (1, [.null, .null, .null, .null, .null]))]) hD hS hA [7] rfl
  refine va_callv (va_runI (As := []) (rest := [.ref qy]) S (m_X1_init l G qy H.size) (cwI 0 hts (lw_meth q207) rfl rfl rfl (hts _ q33) (hts _ q205) (hts _ q206) rfl (by decide +kernel) ⟨Nat.le_of_ble_eq_true rfl, Nat.le_of_ble_eq_true rfl⟩) ⟨fun a U g mk q => by obtain ⟨q0, q1, qP, qK, qD⟩ := q; exact ⟨q0, q1, qP, va_K.moved (u := U) (U := U.calling g mk a) (Vm.Alike.refl U.vm) qK, qD⟩, fun U hU hW => ⟨rfl, by rw [hU], by rw [hU]; exact hPc, va_K.moved hW.alike hKc, hDc.weaken (fun _ _ _ _ => trivial)⟩⟩ rfl rfl hl.1 rfl (lv_room (Nat.le_of_ble_eq_true rfl)) dL_law_12 ⟨Nat.le_of_ble_eq_true rfl, Nat.le_of_ble_eq_true rfl⟩) hS (fun q _ h => hFc q h) hFc (fun u t H1 locs ht hvm hw2 hB hz1 hk1 hS => ?_)
  obtain ⟨ay, cI, cZ, eay, hP1, hKy, hD1⟩ := hB
  rw [ht] at hP1
  have hKy := va_K.moved hvm.symm hKy
  obtain ⟨hPj, hDj⟩ := va_join (wr := xW ax cS cB (fun _ => 0) (fun _ => 0) (fun _ => 0) (fun _ => 0) (fun _ => nI 0) (nI 0) (fun _ => 0)) (w1 := yW ay cI cZ (fun _ => 0) (fun _ => 0) (fun _ => nI 0) (fun _ => nI 0) (fun _ => false)) hP hD [7] [0, 1, 2, 3, 4, 5, 6] rfl rfl (by decide) (by decide) hk1 hFc hP1 hD1
  generalize H1 = H at hPj hS ⊢
  subst eay
  refine lv_astore_n (lv' := [(2, .ref (ay 0)), (1, .ref (ax 0)), (0, .ref b)]) hx hb dL_law_15 rfl hl (by decide) rfl (fun ls hl => ?_)
  refine lv_iconst (v := nI 0) hx hb dL_law_16 (by decide +kernel) ?_
  refine lv_istore_n (lv' := [(3, .int (nI 0)), (2, .ref (ay 0)), (1, .ref (ax 0)), (0, .ref b)]) hx hb dL_law_17 rfl hl (by decide) rfl (fun ls hl => ?_)
  refine W.widen (k := 600000) (n := 7290000) (Nat.le_of_ble_eq_true rfl) (Nat.le_of_ble_eq_true rfl) ?_
  have hPx := hPj.sub (ws' := xW ax cS cB (fun _ => 0) (fun _ => 0) (fun _ => 0) (fun _ => 0) (fun _ => nI 0) (nI 0) (fun _ => 0)) [0, 1, 2, 3, 4, 5, 6] rfl
  have hPy := hPj.sub (ws' := yW ay cI cZ (fun _ => 0) (fun _ => 0) (fun _ => nI 0) (fun _ => nI 0) (fun _ => false)) [7, 8, 9, 10, 11, 12] rfl
  have hDx := hDj.sub (ws' := xW ax cS cB (fun _ => 0) (fun _ => 0) (fun _ => 0) (fun _ => 0) (fun _ => nI 0) (nI 0) (fun _ => 0)) [0, 1, 2, 3, 4, 5, 6] (by decide) rfl
  have hDy := hDj.sub (ws' := yW ay cI cZ (fun _ => 0) (fun _ => 0) (fun _ => nI 0) (fun _ => nI 0) (fun _ => false)) [7, 8, 9, 10, 11, 12] (by decide) rfl
  exact law_loop ⟨S, hX, hbl, hKx, hKy, xD_of hDx, yD_of hDy, xyD_of hDj⟩ hr hlocks hL 0 (by omega) _ _ ls ⟨fun _ => 0, fun j _ => (show 0 < 256 by omega), ⟨_, _, _, _, _, _, hPx⟩, ⟨_, _, _, _, hPy⟩, hS, lv_sub hl [3, 2, 1, 0] rfl⟩
end
section
set_option maxRecDepth 100000
set_option maxHeartbeats 4000000 in
theorem lw_walk (l : Launch) (b : Addr) (xs : List Int32) : MetFree l x (headSpec (Jvm.Cond.code x code maxLocals ret :: tables_1) room_1) (lw_P b xs) (fun _ _ _ _ _ => True) lw_Q := by
  refine MetFree.of_bodyS (code := code) (maxLocals := maxLocals) (ret := ret) (by decide) ?_ ?_
  · intro args s m h hn
    obtain ⟨meth, c, h1, h2, h3, h4, h5, h6, -, -⟩ := Cond.code_spec hn (atoms_spec (ws := Jvm.Cond.code x code maxLocals ret :: tables_1) h _ List.mem_cons_self)
    exact ⟨meth, c, h1, h2, h3, h4, h5, h6⟩
  · intro p e s m args below meth c s₁ B hml0 hP _
    obtain ⟨rfl, hx, hbd, hgv⟩ := hP
    obtain ⟨scr, harrAt, hlist, hof, hsmall⟩ := hx
    obtain ⟨hcb, hkn, -, -⟩ := State.arrayAt?_spec harrAt
    have hown : s.vm.findClass R_law = some m.cls := findClass_of_methodNamed B.named
    have hts0 : ∀ c ∈ (Jvm.Cond.code x code maxLocals ret :: tables_1), c.before #[Value.ref b] s = true := atoms_spec (ws := Jvm.Cond.code x code maxLocals ret :: tables_1) B.pre
    have hts : ∀ w ∈ lw_tbl, w.before #[Value.ref b] s = true := k2_hts_sels lw_privs (fun w hw => hts0 w (List.mem_cons_of_mem _ hw)) lw_privs_ok
    have hml : c.maxLocals = 4 := B.maxLocals_eq (hts0 _ List.mem_cons_self)
    have X₀ : Stand p l e room_1 s m #[Value.ref b] below meth c s₁ [] 0 0 := Stand.of_body B
    have hh0 : s₁.heap = s.heap := by rw [B.state]; rfl
    have hsz : scr.slots.size = xs.length := by rw [← Array.length_toList, hlist, List.length_map]
    have hval : ∀ j : Nat, j < xs.length → scr.slots[j]? = some (.int (xs.getD j 0)) := fun j hj => by
      rw [← Array.getElem?_toList, hlist]
      simp [hj]
    have hbl : b < s.heap.size := (Array.getElem?_eq_some_iff.mp hcb).1
    have hX : va_X b xs.length (fun j => xs.getD j 0) s s.heap := ⟨scr, hcb, hof, hkn, hsz, hval⟩
    have K : W p l e room_1 s m #[Value.ref b] below meth c s₁.heap [] 0 0 (lw_Z below #[Value.ref b] s) (entryFrame m ([Value.ref b] : List Value).toArray 4) := by
      rw [hh0]
      exact whole_start l hbd ⟨B.exec, B.bytes, B.returns, hml, hown, hts, hX, hbl, B.notSynchronized, hgv⟩
    obtain ⟨t, a1, o, b1, b2, b3⟩ := K s₁ rfl X₀
    exact ⟨t, o, a1, b1, b2, b3⟩
theorem lw_pre_spec {args : Array Value} {s : State} (h : (Jvm.Cond.and given_1 narrow_1).before args s = true) (hr : rest_1_c.before args s = true) : ∃ (b : Addr) (xs : List Int32), lw_P b xs args s := by
  have hs := flat_of_before _ h
  have hq := flat_of_before _ hr
  have hc : (Cond.count 1).before args s = true := hs _ (by decide +kernel)
  have harr : (Cond.arrayOf (.arg 0) .int).before args s = true := hs _ (by decide +kernel)
  have hle : (Cond.le (.length (.arg 0)) (.int 256)).before args s = true := hs _ (by decide +kernel)
  have hlen : (Cond.isInt (.length (.arg 0))).before args s = true := hq _ (by decide +kernel)
  have hall : (Cond.all (.arg 0) (.isInt (.elem (.arg 0) (.index 0)))).before args s = true := hq _ (by decide +kernel)
  obtain ⟨b, xs, hb, hx⟩ := State.ints_of_pre rfl harr hlen hall
  have hsm : xs.length < 2 ^ 31 := hx.choose_spec.2.2.2
  have hev : (Term.length (.arg 0)).eval args s none [] s = some (.int xs.length.toInt32) := hx.length_eval hb
  have hv := Cond.le_ints hev (show (Term.int 256).eval args s none [] s = some (.int 256) from rfl)
  have hd : xs.length.toInt32 ≤ 256 := by
    simpa [Cond.before, Cond.holds, hv] using hle
  have hN : xs.length ≤ 256 := (Int32.ofNat_le_ofNat hsm (by decide)).mp (show Int32.ofNat xs.length ≤ Int32.ofNat 256 from hd)
  exact ⟨b, xs, Cond.one_arg hc (show args[0]? = some (.ref b) from hb), hx, hN, h⟩
theorem lw_comes (l : Launch) : Comes l x (Jvm.Cond.code x code maxLocals ret :: tables_1) room_1 (fun tb e args s => Calls_1 tb e args s ∧ rest_1 tb e args s ∧ Pre_1 tb e args s)
    (fun _ _ args s o t => lw_Q args s o t) := by
  intro p e ha hc hk s m args below hf hfit hheap happ hpre
  obtain ⟨b, xs, hP⟩ := lw_pre_spec hpre.2.2 hpre.2.1
  obtain ⟨k, o, h1, h2, h3, hQ⟩ := lw_walk l b xs p e ha hc hk s m args below hf ((Spec.applies_iff_loose hf).mp happ).1 hP trivial
  exact ⟨k, o, h1, h2, h3, hQ⟩
theorem lw_frame {s t : State} {o : Outcome} {args : Array Value} (h : Framed s o t [] 600000 7290000) :
    Framed s o t (fieldLocs frame_1_writes args s ++ arrayLocs frame_1_arrays args s ++ staticLocs frame_1_statics s) 600000 7290000 := h
theorem lw_limb (L : Cond) (hL : ∀ (args : Array Value) (s t : State), L.after args s (.returned (some (.int 1))) t = true) :
    ArmFor flags0 classFile x code maxLocals ret World_1 tables_1 room_1 Calls_1 rest_1 Pre_1
      (fun tb e a s o t => postC L tb e a s o t ∧ Framed s o t (fieldLocs frame_1_writes a s ++ arrayLocs frame_1_arrays a s ++ staticLocs frame_1_statics s) 600000 7290000) := by
  intro l _ _ _ p e ha hc hk s m args below hf hfit hheap happ hpre
  obtain ⟨k, o, h1, h2, h3, rfl, hF⟩ := lw_comes l p e ha hc hk s m args below hf hfit hheap happ hpre
  exact ⟨k, _, h1, h2, h3, hL args s _, lw_frame hF⟩
theorem i_vc : Claimed_1_1 ∧ Claimed_1_2 := ⟨lw_limb limb_1_1 (fun args s t => by simp [limb_1_1, Cond.after, Cond.holds, Cond.value]), lw_limb limb_1_2 (fun args s t => Cond.after_iff.mpr (by
  first | (rw [show limb_1_2 = Cond.eq .result (.int 1) from rfl, Cond.eq_ints (x := 1) (y := 1) rfl rfl]; simp; done) | (simp [limb_1_2, Cond.value, Term.eval]; done)))⟩
end
