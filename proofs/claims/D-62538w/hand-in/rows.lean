section
-- ===== PART A: goes FIRST, ahead of the names: the tables' words, and 'selects' of the private methods out of them =====
/-- a private method of a class that the tables say can be made, by its rows of tables_1 -/
def lw_okq (q : MethodName × Nat) : Prop := (q.1.cls ≠ "java/lang/invoke/MethodHandle" ∧ q.1.cls ≠ "java/lang/invoke/VarHandle") ∧ Cond.instantiable q.1.cls q.2 ∈ tables_1 ∧ Cond.privateMethod q.1 ∈ tables_1 ∧ Cond.instanceMethod q.1 ∈ tables_1
set_option maxRecDepth 100000
theorem lw_t1 {w : Cond} (h : w ∈ tables_1_1) : w ∈ tables_1 := List.mem_append_left _ h
theorem lw_t2 {w : Cond} (h : w ∈ tables_1_2) : w ∈ tables_1 := List.mem_append_right _ h
theorem lw_p0 : lw_okq (⟨"FairRuns", "badState", "(I)Z"⟩, 12) := ⟨⟨by decide +kernel, by decide +kernel⟩, lw_t1 (List.mem_of_getElem? (i := 4) rfl), lw_t1 (List.mem_of_getElem? (i := 54) rfl), lw_t1 (List.mem_of_getElem? (i := 55) rfl)⟩
theorem lw_p1 : lw_okq (⟨"FairRuns", "badSet", "(I)Z"⟩, 12) := ⟨⟨by decide +kernel, by decide +kernel⟩, lw_t1 (List.mem_of_getElem? (i := 4) rfl), lw_t1 (List.mem_of_getElem? (i := 58) rfl), lw_t1 (List.mem_of_getElem? (i := 59) rfl)⟩
theorem lw_p2 : lw_okq (⟨"FairRuns", "make", "(III)I"⟩, 12) := ⟨⟨by decide +kernel, by decide +kernel⟩, lw_t1 (List.mem_of_getElem? (i := 4) rfl), lw_t1 (List.mem_of_getElem? (i := 78) rfl), lw_t1 (List.mem_of_getElem? (i := 79) rfl)⟩
theorem lw_p3 : lw_okq (⟨"FairRuns", "valueOf", "(I)I"⟩, 12) := ⟨⟨by decide +kernel, by decide +kernel⟩, lw_t1 (List.mem_of_getElem? (i := 4) rfl), lw_t1 (List.mem_of_getElem? (i := 102) rfl), lw_t1 (List.mem_of_getElem? (i := 103) rfl)⟩
theorem lw_p4 : lw_okq (⟨"FairRuns", "oneValue", "(II)I"⟩, 12) := ⟨⟨by decide +kernel, by decide +kernel⟩, lw_t1 (List.mem_of_getElem? (i := 4) rfl), lw_t1 (List.mem_of_getElem? (i := 106) rfl), lw_t1 (List.mem_of_getElem? (i := 107) rfl)⟩
theorem lw_p5 : lw_okq (⟨"FairRuns", "someNext", "(I)I"⟩, 12) := ⟨⟨by decide +kernel, by decide +kernel⟩, lw_t1 (List.mem_of_getElem? (i := 4) rfl), lw_t1 (List.mem_of_getElem? (i := 110) rfl), lw_t1 (List.mem_of_getElem? (i := 111) rfl)⟩
theorem lw_p6 : lw_okq (⟨"FairRuns", "staying", "(I)I"⟩, 12) := ⟨⟨by decide +kernel, by decide +kernel⟩, lw_t1 (List.mem_of_getElem? (i := 4) rfl), lw_t1 (List.mem_of_getElem? (i := 114) rfl), lw_t1 (List.mem_of_getElem? (i := 115) rfl)⟩
theorem lw_p7 : lw_okq (⟨"FairRuns", "findWays", "(I)V"⟩, 12) := ⟨⟨by decide +kernel, by decide +kernel⟩, lw_t1 (List.mem_of_getElem? (i := 4) rfl), lw_t1 (List.mem_of_getElem? (i := 118) rfl), lw_t1 (List.mem_of_getElem? (i := 119) rfl)⟩
theorem lw_p8 : lw_okq (⟨"FairRuns", "knotOf", "(I)I"⟩, 12) := ⟨⟨by decide +kernel, by decide +kernel⟩, lw_t1 (List.mem_of_getElem? (i := 4) rfl), lw_t1 (List.mem_of_getElem? (i := 122) rfl), lw_t1 (List.mem_of_getElem? (i := 123) rfl)⟩
theorem lw_p9 : lw_okq (⟨"FairRuns", "meetsDemands", "(I)Z"⟩, 12) := ⟨⟨by decide +kernel, by decide +kernel⟩, lw_t1 (List.mem_of_getElem? (i := 4) rfl), lw_t1 (List.mem_of_getElem? (i := 126) rfl), lw_t1 (List.mem_of_getElem? (i := 127) rfl)⟩
theorem lw_p10 : lw_okq (⟨"FairRuns", "backFrom", "(II)I"⟩, 12) := ⟨⟨by decide +kernel, by decide +kernel⟩, lw_t1 (List.mem_of_getElem? (i := 4) rfl), lw_t1 (List.mem_of_getElem? (i := 130) rfl), lw_t1 (List.mem_of_getElem? (i := 131) rfl)⟩
theorem lw_p11 : lw_okq (⟨"FairRuns", "before", "(I)I"⟩, 12) := ⟨⟨by decide +kernel, by decide +kernel⟩, lw_t1 (List.mem_of_getElem? (i := 4) rfl), lw_t1 (List.mem_of_getElem? (i := 134) rfl), lw_t1 (List.mem_of_getElem? (i := 135) rfl)⟩
theorem lw_p12 : lw_okq (⟨"FairRuns", "until", "(II)I"⟩, 12) := ⟨⟨by decide +kernel, by decide +kernel⟩, lw_t1 (List.mem_of_getElem? (i := 4) rfl), lw_t1 (List.mem_of_getElem? (i := 138) rfl), lw_t1 (List.mem_of_getElem? (i := 139) rfl)⟩
theorem lw_p13 : lw_okq (⟨"FairRuns", "twoValue", "(III)I"⟩, 12) := ⟨⟨by decide +kernel, by decide +kernel⟩, lw_t1 (List.mem_of_getElem? (i := 4) rfl), lw_t1 (List.mem_of_getElem? (i := 142) rfl), lw_t1 (List.mem_of_getElem? (i := 143) rfl)⟩
theorem lw_p14 : lw_okq (⟨"FairRuns", "allUntil", "(II)I"⟩, 12) := ⟨⟨by decide +kernel, by decide +kernel⟩, lw_t1 (List.mem_of_getElem? (i := 4) rfl), lw_t1 (List.mem_of_getElem? (i := 146) rfl), lw_t1 (List.mem_of_getElem? (i := 147) rfl)⟩
theorem lw_p15 : lw_okq (⟨"FairRunsModel", "isState", "(I)Z"⟩, 11) := ⟨⟨by decide +kernel, by decide +kernel⟩, lw_t1 (List.mem_of_getElem? (i := 170) rfl), lw_t1 (List.mem_of_getElem? (i := 214) rfl), lw_t1 (List.mem_of_getElem? (i := 215) rfl)⟩
def lw_privs_1 : List (MethodName × Nat) := [(⟨"FairRuns", "badState", "(I)Z"⟩, 12), (⟨"FairRuns", "badSet", "(I)Z"⟩, 12), (⟨"FairRuns", "make", "(III)I"⟩, 12), (⟨"FairRuns", "valueOf", "(I)I"⟩, 12), (⟨"FairRuns", "oneValue", "(II)I"⟩, 12), (⟨"FairRuns", "someNext", "(I)I"⟩, 12), (⟨"FairRuns", "staying", "(I)I"⟩, 12), (⟨"FairRuns", "findWays", "(I)V"⟩, 12), (⟨"FairRuns", "knotOf", "(I)I"⟩, 12), (⟨"FairRuns", "meetsDemands", "(I)Z"⟩, 12), (⟨"FairRuns", "backFrom", "(II)I"⟩, 12), (⟨"FairRuns", "before", "(I)I"⟩, 12), (⟨"FairRuns", "until", "(II)I"⟩, 12), (⟨"FairRuns", "twoValue", "(III)I"⟩, 12), (⟨"FairRuns", "allUntil", "(II)I"⟩, 12), (⟨"FairRunsModel", "isState", "(I)Z"⟩, 11)]
theorem lw_r1 : ∀ q ∈ lw_privs_1, lw_okq q := List.forall_mem_cons.mpr ⟨lw_p0, List.forall_mem_cons.mpr ⟨lw_p1, List.forall_mem_cons.mpr ⟨lw_p2, List.forall_mem_cons.mpr ⟨lw_p3, List.forall_mem_cons.mpr ⟨lw_p4, List.forall_mem_cons.mpr ⟨lw_p5, List.forall_mem_cons.mpr ⟨lw_p6, List.forall_mem_cons.mpr ⟨lw_p7, List.forall_mem_cons.mpr ⟨lw_p8, List.forall_mem_cons.mpr ⟨lw_p9, List.forall_mem_cons.mpr ⟨lw_p10, List.forall_mem_cons.mpr ⟨lw_p11, List.forall_mem_cons.mpr ⟨lw_p12, List.forall_mem_cons.mpr ⟨lw_p13, List.forall_mem_cons.mpr ⟨lw_p14, List.forall_mem_cons.mpr ⟨lw_p15, fun _ h => absurd h List.not_mem_nil⟩⟩⟩⟩⟩⟩⟩⟩⟩⟩⟩⟩⟩⟩⟩⟩
theorem lw_p16 : lw_okq (⟨"FairRunsModel", "isSet", "(I)Z"⟩, 11) := ⟨⟨by decide +kernel, by decide +kernel⟩, lw_t1 (List.mem_of_getElem? (i := 170) rfl), lw_t1 (List.mem_of_getElem? (i := 218) rfl), lw_t1 (List.mem_of_getElem? (i := 219) rfl)⟩
theorem lw_p17 : lw_okq (⟨"FairRunsModel", "note", "(III)I"⟩, 11) := ⟨⟨by decide +kernel, by decide +kernel⟩, lw_t1 (List.mem_of_getElem? (i := 170) rfl), lw_t1 (List.mem_of_getElem? (i := 238) rfl), lw_t1 (List.mem_of_getElem? (i := 239) rfl)⟩
theorem lw_p18 : lw_okq (⟨"FairRunsModel", "findSets", "()V"⟩, 11) := ⟨⟨by decide +kernel, by decide +kernel⟩, lw_t1 (List.mem_of_getElem? (i := 170) rfl), lw_t2 (List.mem_of_getElem? (i := 22) rfl), lw_t2 (List.mem_of_getElem? (i := 23) rfl)⟩
theorem lw_p19 : lw_okq (⟨"FairRunsModel", "ofTwo", "(III)I"⟩, 11) := ⟨⟨by decide +kernel, by decide +kernel⟩, lw_t1 (List.mem_of_getElem? (i := 170) rfl), lw_t2 (List.mem_of_getElem? (i := 26) rfl), lw_t2 (List.mem_of_getElem? (i := 27) rfl)⟩
theorem lw_p20 : lw_okq (⟨"FairRunsModel", "staying", "(I)I"⟩, 11) := ⟨⟨by decide +kernel, by decide +kernel⟩, lw_t1 (List.mem_of_getElem? (i := 170) rfl), lw_t2 (List.mem_of_getElem? (i := 30) rfl), lw_t2 (List.mem_of_getElem? (i := 31) rfl)⟩
theorem lw_p21 : lw_okq (⟨"FairRunsModel", "before", "(I)I"⟩, 11) := ⟨⟨by decide +kernel, by decide +kernel⟩, lw_t1 (List.mem_of_getElem? (i := 170) rfl), lw_t2 (List.mem_of_getElem? (i := 34) rfl), lw_t2 (List.mem_of_getElem? (i := 35) rfl)⟩
theorem lw_p22 : lw_okq (⟨"FairRunsModel", "coming", "(II)I"⟩, 11) := ⟨⟨by decide +kernel, by decide +kernel⟩, lw_t1 (List.mem_of_getElem? (i := 170) rfl), lw_t2 (List.mem_of_getElem? (i := 38) rfl), lw_t2 (List.mem_of_getElem? (i := 39) rfl)⟩
theorem lw_p23 : lw_okq (⟨"FairRunsModel", "not", "(I)I"⟩, 11) := ⟨⟨by decide +kernel, by decide +kernel⟩, lw_t1 (List.mem_of_getElem? (i := 170) rfl), lw_t2 (List.mem_of_getElem? (i := 42) rfl), lw_t2 (List.mem_of_getElem? (i := 43) rfl)⟩
theorem lw_p24 : lw_okq (⟨"FairRunsModel", "ofOne", "(II)I"⟩, 11) := ⟨⟨by decide +kernel, by decide +kernel⟩, lw_t1 (List.mem_of_getElem? (i := 170) rfl), lw_t2 (List.mem_of_getElem? (i := 46) rfl), lw_t2 (List.mem_of_getElem? (i := 47) rfl)⟩
theorem lw_p25 : lw_okq (⟨"FairRunsModel", "behind", "(I)I"⟩, 11) := ⟨⟨by decide +kernel, by decide +kernel⟩, lw_t1 (List.mem_of_getElem? (i := 170) rfl), lw_t2 (List.mem_of_getElem? (i := 62) rfl), lw_t2 (List.mem_of_getElem? (i := 63) rfl)⟩
def lw_privs_2 : List (MethodName × Nat) := [(⟨"FairRunsModel", "isSet", "(I)Z"⟩, 11), (⟨"FairRunsModel", "note", "(III)I"⟩, 11), (⟨"FairRunsModel", "findSets", "()V"⟩, 11), (⟨"FairRunsModel", "ofTwo", "(III)I"⟩, 11), (⟨"FairRunsModel", "staying", "(I)I"⟩, 11), (⟨"FairRunsModel", "before", "(I)I"⟩, 11), (⟨"FairRunsModel", "coming", "(II)I"⟩, 11), (⟨"FairRunsModel", "not", "(I)I"⟩, 11), (⟨"FairRunsModel", "ofOne", "(II)I"⟩, 11), (⟨"FairRunsModel", "behind", "(I)I"⟩, 11)]
theorem lw_r2 : ∀ q ∈ lw_privs_2, lw_okq q := List.forall_mem_cons.mpr ⟨lw_p16, List.forall_mem_cons.mpr ⟨lw_p17, List.forall_mem_cons.mpr ⟨lw_p18, List.forall_mem_cons.mpr ⟨lw_p19, List.forall_mem_cons.mpr ⟨lw_p20, List.forall_mem_cons.mpr ⟨lw_p21, List.forall_mem_cons.mpr ⟨lw_p22, List.forall_mem_cons.mpr ⟨lw_p23, List.forall_mem_cons.mpr ⟨lw_p24, List.forall_mem_cons.mpr ⟨lw_p25, fun _ h => absurd h List.not_mem_nil⟩⟩⟩⟩⟩⟩⟩⟩⟩⟩
def lw_privs : List (MethodName × Nat) := lw_privs_1 ++ (lw_privs_2)
def lw_tbl : List Cond := k2_sels lw_privs ++ tables_1
theorem lw_privs_ok : ∀ q ∈ lw_privs, lw_okq q := by
  show ∀ q ∈ lw_privs_1 ++ (lw_privs_2), lw_okq q
  exact List.forall_mem_append.mpr ⟨lw_r1, lw_r2⟩
-- ===== ONE list of words for every method: the tables' words that hold all through a run =====
def lw_all : List Cond := lw_tbl.filter goodWord
/-- a word of the tables by its place: claim/WORDS.tsv -/
theorem lw_w {w : Cond} (i : Nat) (h : lw_tbl[i]? = some w) (g : goodWord w = true) : w ∈ lw_all := List.mem_filter.mpr ⟨List.mem_of_getElem? h, g⟩
theorem lw_all_tbl {w : Cond} (h : w ∈ lw_all) : w ∈ lw_tbl := (List.mem_filter.mp h).1
theorem lw_self : GoodIn lw_all lw_all := fun w h => ⟨h, good_of_word (List.mem_filter.mp h).2⟩
/-- a class's field words, by their places -/
theorem lw_in (ws : List Cond) (ps : List Nat) (hp : ws = ps.filterMap (fun i => lw_tbl[i]?)) (hg : ws.all goodWord = true) : ∀ w ∈ ws, w ∈ lw_all := by
  intro w h
  have h1 := List.all_eq_true.mp hg w h
  rw [hp] at h
  obtain ⟨i, -, hi⟩ := List.mem_filterMap.mp h
  exact lw_w i hi h1
/-- the words of a contract for the method y with code b, L locals, answer r -/
abbrev ws_ (y : MethodName) (b : ByteArray) (L : Nat) (r : Option FieldType) : List Cond := Cond.code y b L r :: lw_all
theorem lw_meth {y : MethodName} {b : ByteArray} {L : Nat} {r : Option FieldType} (h : Cond.code y b L r ∈ lw_all) : GoodIn lw_all (ws_ y b L r) := by
  intro w hw
  rcases List.mem_cons.mp hw with e | e
  · rw [e]
    exact lw_self _ h
  · exact lw_self _ e
theorem lw_app {a c : List Cond} (ha : ∀ w ∈ a, w ∈ lw_all) (hc : GoodIn lw_all c) : GoodIn lw_all (a ++ c) := by
  intro w hw
  rcases List.mem_append.mp hw with e | e
  · exact lw_self w (ha w e)
  · exact hc w e
/-- what a call through an object asks: cwV n hts (lw_V ..) -/
theorem lw_V {own : String} {idx : Nat} {C : String} {y : MethodName} {b : ByteArray} {L : Nat} {r : Option FieldType} (h1 : Cond.methodLink own idx y ∈ lw_all) (h2 : Cond.instanceMethod y ∈ lw_all) (h3 : Cond.selects C y y ∈ lw_all) (h4 : Cond.initialized C ∈ lw_all) (h5 : Cond.code y b L r ∈ lw_all) : GoodIn lw_all (wsV own idx C y (ws_ y b L r)) := by
  refine lw_app ?_ (lw_meth h5)
  intro w hw
  simp only [List.mem_cons, List.not_mem_nil, or_false] at hw
  rcases hw with e | e | e | e
  · rw [e]; exact h1
  · rw [e]; exact h2
  · rw [e]; exact h3
  · rw [e]; exact h4
/-- what a static call asks: va_cwS n hts (lw_S ..) -/
theorem lw_S {own : String} {idx : Nat} {y : MethodName} {b : ByteArray} {L : Nat} {r : Option FieldType} (h1 : Cond.methodLink own idx y ∈ lw_all) (h2 : Cond.static y ∈ lw_all) (h3 : Cond.initialized y.cls ∈ lw_all) (h4 : Cond.code y b L r ∈ lw_all) : GoodIn lw_all (va_wsS own idx y (ws_ y b L r)) := by
  refine lw_app ?_ (lw_meth h4)
  intro w hw
  simp only [List.mem_cons, List.not_mem_nil, or_false] at hw
  rcases hw with e | e | e
  · rw [e]; exact h1
  · rw [e]; exact h2
  · rw [e]; exact h3
/-- the words of a contract for a method WITH HANDLERS (hh: its table) -/
abbrev wsW_ (y : MethodName) (b : ByteArray) (L : Nat) (r : Option FieldType) (hh : List (Nat × Nat × Nat × Nat)) : List Cond := Cond.codeWith y b L r hh :: lw_all
theorem lw_methW {y : MethodName} {b : ByteArray} {L : Nat} {r : Option FieldType} {hh : List (Nat × Nat × Nat × Nat)} (h : Cond.codeWith y b L r hh ∈ lw_all) : GoodIn lw_all (wsW_ y b L r hh) := by
  intro w hw
  rcases List.mem_cons.mp hw with e | e
  · rw [e]
    exact lw_self _ h
  · exact lw_self _ e
/-- any list of words by their places (lw_in), good -/
theorem lw_good {ws : List Cond} (h : ∀ w ∈ ws, w ∈ lw_all) : GoodIn lw_all ws := fun w hw => lw_self w (h w hw)
/-- what a call of a method with handlers asks: vx_cwVW n hts (lw_VW ..), vx_cwSW n hts (lw_SW ..) -/
theorem lw_VW {own : String} {idx : Nat} {C : String} {y : MethodName} {b : ByteArray} {L : Nat} {r : Option FieldType} {hh : List (Nat × Nat × Nat × Nat)} (h1 : Cond.methodLink own idx y ∈ lw_all) (h2 : Cond.instanceMethod y ∈ lw_all) (h3 : Cond.selects C y y ∈ lw_all) (h4 : Cond.initialized C ∈ lw_all) (h5 : Cond.codeWith y b L r hh ∈ lw_all) : GoodIn lw_all (wsV own idx C y (wsW_ y b L r hh)) := by
  refine lw_app ?_ (lw_methW h5)
  intro w hw
  simp only [List.mem_cons, List.not_mem_nil, or_false] at hw
  rcases hw with e | e | e | e
  · rw [e]; exact h1
  · rw [e]; exact h2
  · rw [e]; exact h3
  · rw [e]; exact h4
theorem lw_SW {own : String} {idx : Nat} {y : MethodName} {b : ByteArray} {L : Nat} {r : Option FieldType} {hh : List (Nat × Nat × Nat × Nat)} (h1 : Cond.methodLink own idx y ∈ lw_all) (h2 : Cond.static y ∈ lw_all) (h3 : Cond.initialized y.cls ∈ lw_all) (h4 : Cond.codeWith y b L r hh ∈ lw_all) : GoodIn lw_all (va_wsS own idx y (wsW_ y b L r hh)) := by
  refine lw_app ?_ (lw_methW h4)
  intro w hw
  simp only [List.mem_cons, List.not_mem_nil, or_false] at hw
  rcases hw with e | e | e
  · rw [e]; exact h1
  · rw [e]; exact h2
  · rw [e]; exact h3
/-- a word by its place in its run of the tables -/
theorem lw_at {r : List Cond} (hr : ∀ w ∈ r, w ∈ lw_tbl) {w : Cond} (i : Nat) (h : r[i]? = some w) : w ∈ lw_tbl := hr w (List.mem_of_getElem? h)
theorem lw_g {w : Cond} (h : w ∈ lw_tbl) (g : goodWord w = true) : w ∈ lw_all := List.mem_filter.mpr ⟨h, g⟩
theorem lw_ms : ∀ w ∈ k2_sels lw_privs, w ∈ lw_tbl := fun w h => show w ∈ k2_sels lw_privs ++ tables_1 from List.mem_append_left _ h
theorem lw_m1 : ∀ w ∈ tables_1_1, w ∈ lw_tbl := fun w h => show w ∈ k2_sels lw_privs ++ tables_1 from List.mem_append_right (k2_sels lw_privs) (show w ∈ tables_1 from List.mem_append_left _ h)
theorem lw_m2 : ∀ w ∈ tables_1_2, w ∈ lw_tbl := fun w h => show w ∈ k2_sels lw_privs ++ tables_1 from List.mem_append_right (k2_sels lw_privs) (show w ∈ tables_1 from List.mem_append_right _ h)
theorem qs0 : (Cond.selects "FairRuns" ⟨"FairRuns", "badState", "(I)Z"⟩ ⟨"FairRuns", "badState", "(I)Z"⟩) ∈ lw_all := lw_g (lw_at lw_ms 0 rfl) rfl
theorem qs1 : (Cond.selects "FairRuns" ⟨"FairRuns", "badSet", "(I)Z"⟩ ⟨"FairRuns", "badSet", "(I)Z"⟩) ∈ lw_all := lw_g (lw_at lw_ms 1 rfl) rfl
theorem qs2 : (Cond.selects "FairRuns" ⟨"FairRuns", "make", "(III)I"⟩ ⟨"FairRuns", "make", "(III)I"⟩) ∈ lw_all := lw_g (lw_at lw_ms 2 rfl) rfl
theorem qs3 : (Cond.selects "FairRuns" ⟨"FairRuns", "valueOf", "(I)I"⟩ ⟨"FairRuns", "valueOf", "(I)I"⟩) ∈ lw_all := lw_g (lw_at lw_ms 3 rfl) rfl
theorem qs4 : (Cond.selects "FairRuns" ⟨"FairRuns", "oneValue", "(II)I"⟩ ⟨"FairRuns", "oneValue", "(II)I"⟩) ∈ lw_all := lw_g (lw_at lw_ms 4 rfl) rfl
theorem qs5 : (Cond.selects "FairRuns" ⟨"FairRuns", "someNext", "(I)I"⟩ ⟨"FairRuns", "someNext", "(I)I"⟩) ∈ lw_all := lw_g (lw_at lw_ms 5 rfl) rfl
theorem qs6 : (Cond.selects "FairRuns" ⟨"FairRuns", "staying", "(I)I"⟩ ⟨"FairRuns", "staying", "(I)I"⟩) ∈ lw_all := lw_g (lw_at lw_ms 6 rfl) rfl
theorem qs7 : (Cond.selects "FairRuns" ⟨"FairRuns", "findWays", "(I)V"⟩ ⟨"FairRuns", "findWays", "(I)V"⟩) ∈ lw_all := lw_g (lw_at lw_ms 7 rfl) rfl
theorem qs8 : (Cond.selects "FairRuns" ⟨"FairRuns", "knotOf", "(I)I"⟩ ⟨"FairRuns", "knotOf", "(I)I"⟩) ∈ lw_all := lw_g (lw_at lw_ms 8 rfl) rfl
theorem qs9 : (Cond.selects "FairRuns" ⟨"FairRuns", "meetsDemands", "(I)Z"⟩ ⟨"FairRuns", "meetsDemands", "(I)Z"⟩) ∈ lw_all := lw_g (lw_at lw_ms 9 rfl) rfl
theorem qs10 : (Cond.selects "FairRuns" ⟨"FairRuns", "backFrom", "(II)I"⟩ ⟨"FairRuns", "backFrom", "(II)I"⟩) ∈ lw_all := lw_g (lw_at lw_ms 10 rfl) rfl
theorem qs11 : (Cond.selects "FairRuns" ⟨"FairRuns", "before", "(I)I"⟩ ⟨"FairRuns", "before", "(I)I"⟩) ∈ lw_all := lw_g (lw_at lw_ms 11 rfl) rfl
theorem qs12 : (Cond.selects "FairRuns" ⟨"FairRuns", "until", "(II)I"⟩ ⟨"FairRuns", "until", "(II)I"⟩) ∈ lw_all := lw_g (lw_at lw_ms 12 rfl) rfl
theorem qs13 : (Cond.selects "FairRuns" ⟨"FairRuns", "twoValue", "(III)I"⟩ ⟨"FairRuns", "twoValue", "(III)I"⟩) ∈ lw_all := lw_g (lw_at lw_ms 13 rfl) rfl
theorem qs14 : (Cond.selects "FairRuns" ⟨"FairRuns", "allUntil", "(II)I"⟩ ⟨"FairRuns", "allUntil", "(II)I"⟩) ∈ lw_all := lw_g (lw_at lw_ms 14 rfl) rfl
theorem qs15 : (Cond.selects "FairRunsModel" ⟨"FairRunsModel", "isState", "(I)Z"⟩ ⟨"FairRunsModel", "isState", "(I)Z"⟩) ∈ lw_all := lw_g (lw_at lw_ms 15 rfl) rfl
theorem qs16 : (Cond.selects "FairRunsModel" ⟨"FairRunsModel", "isSet", "(I)Z"⟩ ⟨"FairRunsModel", "isSet", "(I)Z"⟩) ∈ lw_all := lw_g (lw_at lw_ms 16 rfl) rfl
theorem qs17 : (Cond.selects "FairRunsModel" ⟨"FairRunsModel", "note", "(III)I"⟩ ⟨"FairRunsModel", "note", "(III)I"⟩) ∈ lw_all := lw_g (lw_at lw_ms 17 rfl) rfl
theorem qs18 : (Cond.selects "FairRunsModel" ⟨"FairRunsModel", "findSets", "()V"⟩ ⟨"FairRunsModel", "findSets", "()V"⟩) ∈ lw_all := lw_g (lw_at lw_ms 18 rfl) rfl
theorem qs19 : (Cond.selects "FairRunsModel" ⟨"FairRunsModel", "ofTwo", "(III)I"⟩ ⟨"FairRunsModel", "ofTwo", "(III)I"⟩) ∈ lw_all := lw_g (lw_at lw_ms 19 rfl) rfl
theorem qs20 : (Cond.selects "FairRunsModel" ⟨"FairRunsModel", "staying", "(I)I"⟩ ⟨"FairRunsModel", "staying", "(I)I"⟩) ∈ lw_all := lw_g (lw_at lw_ms 20 rfl) rfl
theorem qs21 : (Cond.selects "FairRunsModel" ⟨"FairRunsModel", "before", "(I)I"⟩ ⟨"FairRunsModel", "before", "(I)I"⟩) ∈ lw_all := lw_g (lw_at lw_ms 21 rfl) rfl
theorem qs22 : (Cond.selects "FairRunsModel" ⟨"FairRunsModel", "coming", "(II)I"⟩ ⟨"FairRunsModel", "coming", "(II)I"⟩) ∈ lw_all := lw_g (lw_at lw_ms 22 rfl) rfl
theorem qs23 : (Cond.selects "FairRunsModel" ⟨"FairRunsModel", "not", "(I)I"⟩ ⟨"FairRunsModel", "not", "(I)I"⟩) ∈ lw_all := lw_g (lw_at lw_ms 23 rfl) rfl
theorem qs24 : (Cond.selects "FairRunsModel" ⟨"FairRunsModel", "ofOne", "(II)I"⟩ ⟨"FairRunsModel", "ofOne", "(II)I"⟩) ∈ lw_all := lw_g (lw_at lw_ms 24 rfl) rfl
theorem qs25 : (Cond.selects "FairRunsModel" ⟨"FairRunsModel", "behind", "(I)I"⟩ ⟨"FairRunsModel", "behind", "(I)I"⟩) ∈ lw_all := lw_g (lw_at lw_ms 25 rfl) rfl
end
section
/-! FairRuns -/
set_option maxRecDepth 100000
def RX0 : String := "FairRuns"
def TX0 : u_T := fun k => match k with
  | 0 => ("FairRuns", "to", "[I", true)
  | 1 => ("FairRuns", "marks", "[I", true)
  | 2 => ("FairRuns", "demands", "I", false)
  | 3 => ("FairRuns", "demanded", "[I", true)
  | 4 => ("FairRuns", "made", "I", false)
  | 5 => ("FairRuns", "kind", "[I", true)
  | 6 => ("FairRuns", "left", "[I", true)
  | 7 => ("FairRuns", "right", "[I", true)
  | 8 => ("FairRuns", "value", "[I", true)
  | 9 => ("FairRuns", "height", "I", false)
  | 10 => ("FairRuns", "stack", "[I", true)
  | _ => ("FairRuns", "ways", "[I", true)
def tyX0 : Nat → FieldType := fun k => match k with
  | 0 => .array .int
  | 1 => .array .int
  | 2 => .int
  | 3 => .array .int
  | 4 => .int
  | 5 => .array .int
  | 6 => .array .int
  | 7 => .array .int
  | 8 => .array .int
  | 9 => .int
  | 10 => .array .int
  | _ => .array .int
abbrev wsX00 : List Cond := u_ws RX0 TX0 12
theorem nmX0 : ∀ a, a < 12 → ∀ b, b < 12 → a ≠ b → (TX0 a).2.1 ≠ (TX0 b).2.1 := by decide +kernel
theorem tyX0_ok : ∀ k, k < 12 → parseFieldDescriptor (TX0 k).2.2.1 = some (tyX0 k) := by decide +kernel
abbrev cX0_init : ByteArray := prog_1_method_1_code
def yX0_init : MethodName := ⟨RX0, "<init>", "()V"⟩
abbrev cX0_arcs : ByteArray := prog_1_method_4_code
def yX0_arcs : MethodName := ⟨RX0, "arcs", "(II)I"⟩
abbrev cX0_badState : ByteArray := prog_1_method_2_code
def yX0_badState : MethodName := ⟨RX0, "badState", "(I)Z"⟩
abbrev cX0_badSet : ByteArray := prog_1_method_3_code
def yX0_badSet : MethodName := ⟨RX0, "badSet", "(I)Z"⟩
abbrev cX0_mark : ByteArray := prog_1_method_5_code
def yX0_mark : MethodName := ⟨RX0, "mark", "(II)I"⟩
abbrev cX0_demand : ByteArray := prog_1_method_6_code
def yX0_demand : MethodName := ⟨RX0, "demand", "(I)I"⟩
abbrev cX0_undemand : ByteArray := prog_1_method_7_code
def yX0_undemand : MethodName := ⟨RX0, "undemand", "()I"⟩
abbrev cX0_push : ByteArray := prog_1_method_9_code
def yX0_push : MethodName := ⟨RX0, "push", "(I)I"⟩
abbrev cX0_make : ByteArray := prog_1_method_8_code
def yX0_make : MethodName := ⟨RX0, "make", "(III)I"⟩
abbrev cX0_one : ByteArray := prog_1_method_10_code
def yX0_one : MethodName := ⟨RX0, "one", "(I)I"⟩
abbrev cX0_two : ByteArray := prog_1_method_11_code
def yX0_two : MethodName := ⟨RX0, "two", "(I)I"⟩
abbrev cX0_discard : ByteArray := prog_1_method_12_code
def yX0_discard : MethodName := ⟨RX0, "discard", "()V"⟩
abbrev cX0_depth : ByteArray := prog_1_method_13_code
def yX0_depth : MethodName := ⟨RX0, "depth", "()I"⟩
abbrev cX0_holds : ByteArray := prog_1_method_26_code
def yX0_holds : MethodName := ⟨RX0, "holds", "()I"⟩
abbrev cX0_valueOf : ByteArray := prog_1_method_25_code
def yX0_valueOf : MethodName := ⟨RX0, "valueOf", "(I)I"⟩
abbrev cX0_oneValue : ByteArray := prog_1_method_23_code
def yX0_oneValue : MethodName := ⟨RX0, "oneValue", "(II)I"⟩
abbrev cX0_someNext : ByteArray := prog_1_method_21_code
def yX0_someNext : MethodName := ⟨RX0, "someNext", "(I)I"⟩
abbrev cX0_staying : ByteArray := prog_1_method_19_code
def yX0_staying : MethodName := ⟨RX0, "staying", "(I)I"⟩
abbrev cX0_findWays : ByteArray := prog_1_method_16_code
def yX0_findWays : MethodName := ⟨RX0, "findWays", "(I)V"⟩
abbrev cX0_knotOf : ByteArray := prog_1_method_17_code
def yX0_knotOf : MethodName := ⟨RX0, "knotOf", "(I)I"⟩
abbrev cX0_meetsDemands : ByteArray := prog_1_method_18_code
def yX0_meetsDemands : MethodName := ⟨RX0, "meetsDemands", "(I)Z"⟩
abbrev cX0_backFrom : ByteArray := prog_1_method_15_code
def yX0_backFrom : MethodName := ⟨RX0, "backFrom", "(II)I"⟩
abbrev cX0_before : ByteArray := prog_1_method_14_code
def yX0_before : MethodName := ⟨RX0, "before", "(I)I"⟩
abbrev cX0_until : ByteArray := prog_1_method_20_code
def yX0_until : MethodName := ⟨RX0, "until", "(II)I"⟩
abbrev cX0_twoValue : ByteArray := prog_1_method_24_code
def yX0_twoValue : MethodName := ⟨RX0, "twoValue", "(III)I"⟩
abbrev cX0_allUntil : ByteArray := prog_1_method_22_code
def yX0_allUntil : MethodName := ⟨RX0, "allUntil", "(II)I"⟩
abbrev cX0_alike : ByteArray := prog_1_method_27_code
def yX0_alike : MethodName := ⟨RX0, "alike", "()Z"⟩
abbrev cX0_fair : ByteArray := prog_1_method_28_code
def yX0_fair : MethodName := ⟨RX0, "fair", "()I"⟩
abbrev cX0_reach : ByteArray := prog_1_method_29_code
def yX0_reach : MethodName := ⟨RX0, "reach", "(I)I"⟩
abbrev cX0_steps : ByteArray := prog_1_method_30_code
def yX0_steps : MethodName := ⟨RX0, "steps", "(I)I"⟩
abbrev cX0_knots : ByteArray := prog_1_method_31_code
def yX0_knots : MethodName := ⟨RX0, "knots", "()I"⟩
theorem q27 : (Jvm.Cond.initialized "FairRuns") ∈ lw_all := lw_g (lw_at lw_m1 1 rfl) rfl
theorem q30 : (Jvm.Cond.instantiable "FairRuns" (12 : Nat)) ∈ lw_all := lw_g (lw_at lw_m1 4 rfl) rfl
theorem q32 : (Jvm.Cond.instanceMethod ({ cls := "FairRuns", name := "<init>", desc := "()V" } : Jvm.MethodName)) ∈ lw_all := lw_g (lw_at lw_m1 6 rfl) rfl
theorem q33 : (Jvm.Cond.code ({ cls := "FairRuns", name := "<init>", desc := "()V" } : Jvm.MethodName) prog_1_method_1_code (1 : Nat) (Option.none : Option Jvm.ClassFile.FieldType)) ∈ lw_all := lw_g (lw_at lw_m1 7 rfl) rfl
theorem q34 : (Jvm.Cond.methodLink "FairRuns" (1 : Nat) ({ cls := "java/lang/Object", name := "<init>", desc := "()V" } : Jvm.MethodName)) ∈ lw_all := lw_g (lw_at lw_m1 8 rfl) rfl
theorem q37 : (Jvm.Cond.fieldLink "FairRuns" (7 : Nat) "FairRuns" "to" "[I") ∈ lw_all := lw_g (lw_at lw_m1 11 rfl) rfl
theorem q38 : (Jvm.Cond.fieldLink "FairRuns" (13 : Nat) "FairRuns" "marks" "[I") ∈ lw_all := lw_g (lw_at lw_m1 12 rfl) rfl
theorem q39 : (Jvm.Cond.fieldLink "FairRuns" (44 : Nat) "FairRuns" "demands" "I") ∈ lw_all := lw_g (lw_at lw_m1 13 rfl) rfl
theorem q40 : (Jvm.Cond.fieldLink "FairRuns" (16 : Nat) "FairRuns" "demanded" "[I") ∈ lw_all := lw_g (lw_at lw_m1 14 rfl) rfl
theorem q41 : (Jvm.Cond.fieldLink "FairRuns" (48 : Nat) "FairRuns" "made" "I") ∈ lw_all := lw_g (lw_at lw_m1 15 rfl) rfl
theorem q42 : (Jvm.Cond.fieldLink "FairRuns" (19 : Nat) "FairRuns" "kind" "[I") ∈ lw_all := lw_g (lw_at lw_m1 16 rfl) rfl
theorem q43 : (Jvm.Cond.fieldLink "FairRuns" (22 : Nat) "FairRuns" "left" "[I") ∈ lw_all := lw_g (lw_at lw_m1 17 rfl) rfl
theorem q44 : (Jvm.Cond.fieldLink "FairRuns" (25 : Nat) "FairRuns" "right" "[I") ∈ lw_all := lw_g (lw_at lw_m1 18 rfl) rfl
theorem q45 : (Jvm.Cond.fieldLink "FairRuns" (28 : Nat) "FairRuns" "value" "[I") ∈ lw_all := lw_g (lw_at lw_m1 19 rfl) rfl
theorem q46 : (Jvm.Cond.fieldLink "FairRuns" (51 : Nat) "FairRuns" "height" "I") ∈ lw_all := lw_g (lw_at lw_m1 20 rfl) rfl
theorem q47 : (Jvm.Cond.fieldLink "FairRuns" (31 : Nat) "FairRuns" "stack" "[I") ∈ lw_all := lw_g (lw_at lw_m1 21 rfl) rfl
theorem q48 : (Jvm.Cond.fieldLink "FairRuns" (34 : Nat) "FairRuns" "ways" "[I") ∈ lw_all := lw_g (lw_at lw_m1 22 rfl) rfl
theorem q49 : (Jvm.Cond.laysFinal "FairRuns" "FairRuns" "to" "[I") ∈ lw_all := lw_g (lw_at lw_m1 23 rfl) rfl
theorem q50 : (Jvm.Cond.soleField "FairRuns" "to") ∈ lw_all := lw_g (lw_at lw_m1 24 rfl) rfl
theorem q51 : (Jvm.Cond.laysFinal "FairRuns" "FairRuns" "marks" "[I") ∈ lw_all := lw_g (lw_at lw_m1 25 rfl) rfl
theorem q52 : (Jvm.Cond.soleField "FairRuns" "marks") ∈ lw_all := lw_g (lw_at lw_m1 26 rfl) rfl
theorem q53 : (Jvm.Cond.lays "FairRuns" "FairRuns" "demands" "I") ∈ lw_all := lw_g (lw_at lw_m1 27 rfl) rfl
theorem q54 : (Jvm.Cond.soleField "FairRuns" "demands") ∈ lw_all := lw_g (lw_at lw_m1 28 rfl) rfl
theorem q55 : (Jvm.Cond.laysFinal "FairRuns" "FairRuns" "demanded" "[I") ∈ lw_all := lw_g (lw_at lw_m1 29 rfl) rfl
theorem q56 : (Jvm.Cond.soleField "FairRuns" "demanded") ∈ lw_all := lw_g (lw_at lw_m1 30 rfl) rfl
theorem q57 : (Jvm.Cond.lays "FairRuns" "FairRuns" "made" "I") ∈ lw_all := lw_g (lw_at lw_m1 31 rfl) rfl
theorem q58 : (Jvm.Cond.soleField "FairRuns" "made") ∈ lw_all := lw_g (lw_at lw_m1 32 rfl) rfl
theorem q59 : (Jvm.Cond.laysFinal "FairRuns" "FairRuns" "kind" "[I") ∈ lw_all := lw_g (lw_at lw_m1 33 rfl) rfl
theorem q60 : (Jvm.Cond.soleField "FairRuns" "kind") ∈ lw_all := lw_g (lw_at lw_m1 34 rfl) rfl
theorem q61 : (Jvm.Cond.laysFinal "FairRuns" "FairRuns" "left" "[I") ∈ lw_all := lw_g (lw_at lw_m1 35 rfl) rfl
theorem q62 : (Jvm.Cond.soleField "FairRuns" "left") ∈ lw_all := lw_g (lw_at lw_m1 36 rfl) rfl
theorem q63 : (Jvm.Cond.laysFinal "FairRuns" "FairRuns" "right" "[I") ∈ lw_all := lw_g (lw_at lw_m1 37 rfl) rfl
theorem q64 : (Jvm.Cond.soleField "FairRuns" "right") ∈ lw_all := lw_g (lw_at lw_m1 38 rfl) rfl
theorem q65 : (Jvm.Cond.laysFinal "FairRuns" "FairRuns" "value" "[I") ∈ lw_all := lw_g (lw_at lw_m1 39 rfl) rfl
theorem q66 : (Jvm.Cond.soleField "FairRuns" "value") ∈ lw_all := lw_g (lw_at lw_m1 40 rfl) rfl
theorem q67 : (Jvm.Cond.lays "FairRuns" "FairRuns" "height" "I") ∈ lw_all := lw_g (lw_at lw_m1 41 rfl) rfl
theorem q68 : (Jvm.Cond.soleField "FairRuns" "height") ∈ lw_all := lw_g (lw_at lw_m1 42 rfl) rfl
theorem q69 : (Jvm.Cond.laysFinal "FairRuns" "FairRuns" "stack" "[I") ∈ lw_all := lw_g (lw_at lw_m1 43 rfl) rfl
theorem q70 : (Jvm.Cond.soleField "FairRuns" "stack") ∈ lw_all := lw_g (lw_at lw_m1 44 rfl) rfl
theorem q71 : (Jvm.Cond.laysFinal "FairRuns" "FairRuns" "ways" "[I") ∈ lw_all := lw_g (lw_at lw_m1 45 rfl) rfl
theorem q72 : (Jvm.Cond.soleField "FairRuns" "ways") ∈ lw_all := lw_g (lw_at lw_m1 46 rfl) rfl
theorem q73 : (Jvm.Cond.superclass "FairRuns" "java/lang/Object") ∈ lw_all := lw_g (lw_at lw_m1 47 rfl) rfl
theorem q76 : (Jvm.Cond.instanceMethod ({ cls := "FairRuns", name := "arcs", desc := "(II)I" } : Jvm.MethodName)) ∈ lw_all := lw_g (lw_at lw_m1 50 rfl) rfl
theorem q77 : (Jvm.Cond.selects "FairRuns" ({ cls := "FairRuns", name := "arcs", desc := "(II)I" } : Jvm.MethodName) ({ cls := "FairRuns", name := "arcs", desc := "(II)I" } : Jvm.MethodName)) ∈ lw_all := lw_g (lw_at lw_m1 51 rfl) rfl
theorem q78 : (Jvm.Cond.code ({ cls := "FairRuns", name := "arcs", desc := "(II)I" } : Jvm.MethodName) prog_1_method_4_code (4 : Nat) (Option.some Jvm.ClassFile.FieldType.int)) ∈ lw_all := lw_g (lw_at lw_m1 52 rfl) rfl
theorem q79 : (Jvm.Cond.methodLink "FairRuns" (37 : Nat) ({ cls := "FairRuns", name := "badState", desc := "(I)Z" } : Jvm.MethodName)) ∈ lw_all := lw_g (lw_at lw_m1 53 rfl) rfl
theorem q80 : (Jvm.Cond.privateMethod ({ cls := "FairRuns", name := "badState", desc := "(I)Z" } : Jvm.MethodName)) ∈ lw_tbl := lw_at lw_m1 54 rfl
theorem q81 : (Jvm.Cond.instanceMethod ({ cls := "FairRuns", name := "badState", desc := "(I)Z" } : Jvm.MethodName)) ∈ lw_all := lw_g (lw_at lw_m1 55 rfl) rfl
theorem q82 : (Jvm.Cond.code ({ cls := "FairRuns", name := "badState", desc := "(I)Z" } : Jvm.MethodName) prog_1_method_2_code (2 : Nat) (Option.some Jvm.ClassFile.FieldType.boolean)) ∈ lw_all := lw_g (lw_at lw_m1 56 rfl) rfl
theorem q83 : (Jvm.Cond.methodLink "FairRuns" (41 : Nat) ({ cls := "FairRuns", name := "badSet", desc := "(I)Z" } : Jvm.MethodName)) ∈ lw_all := lw_g (lw_at lw_m1 57 rfl) rfl
theorem q84 : (Jvm.Cond.privateMethod ({ cls := "FairRuns", name := "badSet", desc := "(I)Z" } : Jvm.MethodName)) ∈ lw_tbl := lw_at lw_m1 58 rfl
theorem q85 : (Jvm.Cond.instanceMethod ({ cls := "FairRuns", name := "badSet", desc := "(I)Z" } : Jvm.MethodName)) ∈ lw_all := lw_g (lw_at lw_m1 59 rfl) rfl
theorem q86 : (Jvm.Cond.code ({ cls := "FairRuns", name := "badSet", desc := "(I)Z" } : Jvm.MethodName) prog_1_method_3_code (2 : Nat) (Option.some Jvm.ClassFile.FieldType.boolean)) ∈ lw_all := lw_g (lw_at lw_m1 60 rfl) rfl
theorem q88 : (Jvm.Cond.instanceMethod ({ cls := "FairRuns", name := "mark", desc := "(II)I" } : Jvm.MethodName)) ∈ lw_all := lw_g (lw_at lw_m1 62 rfl) rfl
theorem q89 : (Jvm.Cond.selects "FairRuns" ({ cls := "FairRuns", name := "mark", desc := "(II)I" } : Jvm.MethodName) ({ cls := "FairRuns", name := "mark", desc := "(II)I" } : Jvm.MethodName)) ∈ lw_all := lw_g (lw_at lw_m1 63 rfl) rfl
theorem q90 : (Jvm.Cond.code ({ cls := "FairRuns", name := "mark", desc := "(II)I" } : Jvm.MethodName) prog_1_method_5_code (4 : Nat) (Option.some Jvm.ClassFile.FieldType.int)) ∈ lw_all := lw_g (lw_at lw_m1 64 rfl) rfl
theorem q92 : (Jvm.Cond.instanceMethod ({ cls := "FairRuns", name := "demand", desc := "(I)I" } : Jvm.MethodName)) ∈ lw_all := lw_g (lw_at lw_m1 66 rfl) rfl
theorem q93 : (Jvm.Cond.selects "FairRuns" ({ cls := "FairRuns", name := "demand", desc := "(I)I" } : Jvm.MethodName) ({ cls := "FairRuns", name := "demand", desc := "(I)I" } : Jvm.MethodName)) ∈ lw_all := lw_g (lw_at lw_m1 67 rfl) rfl
theorem q94 : (Jvm.Cond.code ({ cls := "FairRuns", name := "demand", desc := "(I)I" } : Jvm.MethodName) prog_1_method_6_code (2 : Nat) (Option.some Jvm.ClassFile.FieldType.int)) ∈ lw_all := lw_g (lw_at lw_m1 68 rfl) rfl
theorem q96 : (Jvm.Cond.instanceMethod ({ cls := "FairRuns", name := "undemand", desc := "()I" } : Jvm.MethodName)) ∈ lw_all := lw_g (lw_at lw_m1 70 rfl) rfl
theorem q97 : (Jvm.Cond.selects "FairRuns" ({ cls := "FairRuns", name := "undemand", desc := "()I" } : Jvm.MethodName) ({ cls := "FairRuns", name := "undemand", desc := "()I" } : Jvm.MethodName)) ∈ lw_all := lw_g (lw_at lw_m1 71 rfl) rfl
theorem q98 : (Jvm.Cond.code ({ cls := "FairRuns", name := "undemand", desc := "()I" } : Jvm.MethodName) prog_1_method_7_code (1 : Nat) (Option.some Jvm.ClassFile.FieldType.int)) ∈ lw_all := lw_g (lw_at lw_m1 72 rfl) rfl
theorem q100 : (Jvm.Cond.instanceMethod ({ cls := "FairRuns", name := "push", desc := "(I)I" } : Jvm.MethodName)) ∈ lw_all := lw_g (lw_at lw_m1 74 rfl) rfl
theorem q101 : (Jvm.Cond.selects "FairRuns" ({ cls := "FairRuns", name := "push", desc := "(I)I" } : Jvm.MethodName) ({ cls := "FairRuns", name := "push", desc := "(I)I" } : Jvm.MethodName)) ∈ lw_all := lw_g (lw_at lw_m1 75 rfl) rfl
theorem q102 : (Jvm.Cond.code ({ cls := "FairRuns", name := "push", desc := "(I)I" } : Jvm.MethodName) prog_1_method_9_code (2 : Nat) (Option.some Jvm.ClassFile.FieldType.int)) ∈ lw_all := lw_g (lw_at lw_m1 76 rfl) rfl
theorem q103 : (Jvm.Cond.methodLink "FairRuns" (54 : Nat) ({ cls := "FairRuns", name := "make", desc := "(III)I" } : Jvm.MethodName)) ∈ lw_all := lw_g (lw_at lw_m1 77 rfl) rfl
theorem q104 : (Jvm.Cond.privateMethod ({ cls := "FairRuns", name := "make", desc := "(III)I" } : Jvm.MethodName)) ∈ lw_tbl := lw_at lw_m1 78 rfl
theorem q105 : (Jvm.Cond.instanceMethod ({ cls := "FairRuns", name := "make", desc := "(III)I" } : Jvm.MethodName)) ∈ lw_all := lw_g (lw_at lw_m1 79 rfl) rfl
theorem q106 : (Jvm.Cond.code ({ cls := "FairRuns", name := "make", desc := "(III)I" } : Jvm.MethodName) prog_1_method_8_code (4 : Nat) (Option.some Jvm.ClassFile.FieldType.int)) ∈ lw_all := lw_g (lw_at lw_m1 80 rfl) rfl
theorem q108 : (Jvm.Cond.instanceMethod ({ cls := "FairRuns", name := "one", desc := "(I)I" } : Jvm.MethodName)) ∈ lw_all := lw_g (lw_at lw_m1 82 rfl) rfl
theorem q109 : (Jvm.Cond.selects "FairRuns" ({ cls := "FairRuns", name := "one", desc := "(I)I" } : Jvm.MethodName) ({ cls := "FairRuns", name := "one", desc := "(I)I" } : Jvm.MethodName)) ∈ lw_all := lw_g (lw_at lw_m1 83 rfl) rfl
theorem q110 : (Jvm.Cond.code ({ cls := "FairRuns", name := "one", desc := "(I)I" } : Jvm.MethodName) prog_1_method_10_code (2 : Nat) (Option.some Jvm.ClassFile.FieldType.int)) ∈ lw_all := lw_g (lw_at lw_m1 84 rfl) rfl
theorem q112 : (Jvm.Cond.instanceMethod ({ cls := "FairRuns", name := "two", desc := "(I)I" } : Jvm.MethodName)) ∈ lw_all := lw_g (lw_at lw_m1 86 rfl) rfl
theorem q113 : (Jvm.Cond.selects "FairRuns" ({ cls := "FairRuns", name := "two", desc := "(I)I" } : Jvm.MethodName) ({ cls := "FairRuns", name := "two", desc := "(I)I" } : Jvm.MethodName)) ∈ lw_all := lw_g (lw_at lw_m1 87 rfl) rfl
theorem q114 : (Jvm.Cond.code ({ cls := "FairRuns", name := "two", desc := "(I)I" } : Jvm.MethodName) prog_1_method_11_code (2 : Nat) (Option.some Jvm.ClassFile.FieldType.int)) ∈ lw_all := lw_g (lw_at lw_m1 88 rfl) rfl
theorem q116 : (Jvm.Cond.instanceMethod ({ cls := "FairRuns", name := "discard", desc := "()V" } : Jvm.MethodName)) ∈ lw_all := lw_g (lw_at lw_m1 90 rfl) rfl
theorem q117 : (Jvm.Cond.selects "FairRuns" ({ cls := "FairRuns", name := "discard", desc := "()V" } : Jvm.MethodName) ({ cls := "FairRuns", name := "discard", desc := "()V" } : Jvm.MethodName)) ∈ lw_all := lw_g (lw_at lw_m1 91 rfl) rfl
theorem q118 : (Jvm.Cond.code ({ cls := "FairRuns", name := "discard", desc := "()V" } : Jvm.MethodName) prog_1_method_12_code (1 : Nat) (Option.none : Option Jvm.ClassFile.FieldType)) ∈ lw_all := lw_g (lw_at lw_m1 92 rfl) rfl
theorem q120 : (Jvm.Cond.instanceMethod ({ cls := "FairRuns", name := "depth", desc := "()I" } : Jvm.MethodName)) ∈ lw_all := lw_g (lw_at lw_m1 94 rfl) rfl
theorem q121 : (Jvm.Cond.selects "FairRuns" ({ cls := "FairRuns", name := "depth", desc := "()I" } : Jvm.MethodName) ({ cls := "FairRuns", name := "depth", desc := "()I" } : Jvm.MethodName)) ∈ lw_all := lw_g (lw_at lw_m1 95 rfl) rfl
theorem q122 : (Jvm.Cond.code ({ cls := "FairRuns", name := "depth", desc := "()I" } : Jvm.MethodName) prog_1_method_13_code (1 : Nat) (Option.some Jvm.ClassFile.FieldType.int)) ∈ lw_all := lw_g (lw_at lw_m1 96 rfl) rfl
theorem q124 : (Jvm.Cond.instanceMethod ({ cls := "FairRuns", name := "holds", desc := "()I" } : Jvm.MethodName)) ∈ lw_all := lw_g (lw_at lw_m1 98 rfl) rfl
theorem q125 : (Jvm.Cond.selects "FairRuns" ({ cls := "FairRuns", name := "holds", desc := "()I" } : Jvm.MethodName) ({ cls := "FairRuns", name := "holds", desc := "()I" } : Jvm.MethodName)) ∈ lw_all := lw_g (lw_at lw_m1 99 rfl) rfl
theorem q126 : (Jvm.Cond.code ({ cls := "FairRuns", name := "holds", desc := "()I" } : Jvm.MethodName) prog_1_method_26_code (1 : Nat) (Option.some Jvm.ClassFile.FieldType.int)) ∈ lw_all := lw_g (lw_at lw_m1 100 rfl) rfl
theorem q127 : (Jvm.Cond.methodLink "FairRuns" (94 : Nat) ({ cls := "FairRuns", name := "valueOf", desc := "(I)I" } : Jvm.MethodName)) ∈ lw_all := lw_g (lw_at lw_m1 101 rfl) rfl
theorem q128 : (Jvm.Cond.privateMethod ({ cls := "FairRuns", name := "valueOf", desc := "(I)I" } : Jvm.MethodName)) ∈ lw_tbl := lw_at lw_m1 102 rfl
theorem q129 : (Jvm.Cond.instanceMethod ({ cls := "FairRuns", name := "valueOf", desc := "(I)I" } : Jvm.MethodName)) ∈ lw_all := lw_g (lw_at lw_m1 103 rfl) rfl
theorem q130 : (Jvm.Cond.code ({ cls := "FairRuns", name := "valueOf", desc := "(I)I" } : Jvm.MethodName) prog_1_method_25_code (4 : Nat) (Option.some Jvm.ClassFile.FieldType.int)) ∈ lw_all := lw_g (lw_at lw_m1 104 rfl) rfl
theorem q131 : (Jvm.Cond.methodLink "FairRuns" (88 : Nat) ({ cls := "FairRuns", name := "oneValue", desc := "(II)I" } : Jvm.MethodName)) ∈ lw_all := lw_g (lw_at lw_m1 105 rfl) rfl
theorem q132 : (Jvm.Cond.privateMethod ({ cls := "FairRuns", name := "oneValue", desc := "(II)I" } : Jvm.MethodName)) ∈ lw_tbl := lw_at lw_m1 106 rfl
theorem q133 : (Jvm.Cond.instanceMethod ({ cls := "FairRuns", name := "oneValue", desc := "(II)I" } : Jvm.MethodName)) ∈ lw_all := lw_g (lw_at lw_m1 107 rfl) rfl
theorem q134 : (Jvm.Cond.code ({ cls := "FairRuns", name := "oneValue", desc := "(II)I" } : Jvm.MethodName) prog_1_method_23_code (4 : Nat) (Option.some Jvm.ClassFile.FieldType.int)) ∈ lw_all := lw_g (lw_at lw_m1 108 rfl) rfl
theorem q135 : (Jvm.Cond.methodLink "FairRuns" (82 : Nat) ({ cls := "FairRuns", name := "someNext", desc := "(I)I" } : Jvm.MethodName)) ∈ lw_all := lw_g (lw_at lw_m1 109 rfl) rfl
theorem q136 : (Jvm.Cond.privateMethod ({ cls := "FairRuns", name := "someNext", desc := "(I)I" } : Jvm.MethodName)) ∈ lw_tbl := lw_at lw_m1 110 rfl
theorem q137 : (Jvm.Cond.instanceMethod ({ cls := "FairRuns", name := "someNext", desc := "(I)I" } : Jvm.MethodName)) ∈ lw_all := lw_g (lw_at lw_m1 111 rfl) rfl
theorem q138 : (Jvm.Cond.code ({ cls := "FairRuns", name := "someNext", desc := "(I)I" } : Jvm.MethodName) prog_1_method_21_code (3 : Nat) (Option.some Jvm.ClassFile.FieldType.int)) ∈ lw_all := lw_g (lw_at lw_m1 112 rfl) rfl
theorem q139 : (Jvm.Cond.methodLink "FairRuns" (76 : Nat) ({ cls := "FairRuns", name := "staying", desc := "(I)I" } : Jvm.MethodName)) ∈ lw_all := lw_g (lw_at lw_m1 113 rfl) rfl
theorem q140 : (Jvm.Cond.privateMethod ({ cls := "FairRuns", name := "staying", desc := "(I)I" } : Jvm.MethodName)) ∈ lw_tbl := lw_at lw_m1 114 rfl
theorem q141 : (Jvm.Cond.instanceMethod ({ cls := "FairRuns", name := "staying", desc := "(I)I" } : Jvm.MethodName)) ∈ lw_all := lw_g (lw_at lw_m1 115 rfl) rfl
theorem q142 : (Jvm.Cond.code ({ cls := "FairRuns", name := "staying", desc := "(I)I" } : Jvm.MethodName) prog_1_method_19_code (6 : Nat) (Option.some Jvm.ClassFile.FieldType.int)) ∈ lw_all := lw_g (lw_at lw_m1 116 rfl) rfl
theorem q143 : (Jvm.Cond.methodLink "FairRuns" (62 : Nat) ({ cls := "FairRuns", name := "findWays", desc := "(I)V" } : Jvm.MethodName)) ∈ lw_all := lw_g (lw_at lw_m1 117 rfl) rfl
theorem q144 : (Jvm.Cond.privateMethod ({ cls := "FairRuns", name := "findWays", desc := "(I)V" } : Jvm.MethodName)) ∈ lw_tbl := lw_at lw_m1 118 rfl
theorem q145 : (Jvm.Cond.instanceMethod ({ cls := "FairRuns", name := "findWays", desc := "(I)V" } : Jvm.MethodName)) ∈ lw_all := lw_g (lw_at lw_m1 119 rfl) rfl
theorem q146 : (Jvm.Cond.code ({ cls := "FairRuns", name := "findWays", desc := "(I)V" } : Jvm.MethodName) prog_1_method_16_code (4 : Nat) (Option.none : Option Jvm.ClassFile.FieldType)) ∈ lw_all := lw_g (lw_at lw_m1 120 rfl) rfl
theorem q147 : (Jvm.Cond.methodLink "FairRuns" (66 : Nat) ({ cls := "FairRuns", name := "knotOf", desc := "(I)I" } : Jvm.MethodName)) ∈ lw_all := lw_g (lw_at lw_m1 121 rfl) rfl
theorem q148 : (Jvm.Cond.privateMethod ({ cls := "FairRuns", name := "knotOf", desc := "(I)I" } : Jvm.MethodName)) ∈ lw_tbl := lw_at lw_m1 122 rfl
theorem q149 : (Jvm.Cond.instanceMethod ({ cls := "FairRuns", name := "knotOf", desc := "(I)I" } : Jvm.MethodName)) ∈ lw_all := lw_g (lw_at lw_m1 123 rfl) rfl
theorem q150 : (Jvm.Cond.code ({ cls := "FairRuns", name := "knotOf", desc := "(I)I" } : Jvm.MethodName) prog_1_method_17_code (4 : Nat) (Option.some Jvm.ClassFile.FieldType.int)) ∈ lw_all := lw_g (lw_at lw_m1 124 rfl) rfl
theorem q151 : (Jvm.Cond.methodLink "FairRuns" (69 : Nat) ({ cls := "FairRuns", name := "meetsDemands", desc := "(I)Z" } : Jvm.MethodName)) ∈ lw_all := lw_g (lw_at lw_m1 125 rfl) rfl
theorem q152 : (Jvm.Cond.privateMethod ({ cls := "FairRuns", name := "meetsDemands", desc := "(I)Z" } : Jvm.MethodName)) ∈ lw_tbl := lw_at lw_m1 126 rfl
theorem q153 : (Jvm.Cond.instanceMethod ({ cls := "FairRuns", name := "meetsDemands", desc := "(I)Z" } : Jvm.MethodName)) ∈ lw_all := lw_g (lw_at lw_m1 127 rfl) rfl
theorem q154 : (Jvm.Cond.code ({ cls := "FairRuns", name := "meetsDemands", desc := "(I)Z" } : Jvm.MethodName) prog_1_method_18_code (4 : Nat) (Option.some Jvm.ClassFile.FieldType.boolean)) ∈ lw_all := lw_g (lw_at lw_m1 128 rfl) rfl
theorem q155 : (Jvm.Cond.methodLink "FairRuns" (72 : Nat) ({ cls := "FairRuns", name := "backFrom", desc := "(II)I" } : Jvm.MethodName)) ∈ lw_all := lw_g (lw_at lw_m1 129 rfl) rfl
theorem q156 : (Jvm.Cond.privateMethod ({ cls := "FairRuns", name := "backFrom", desc := "(II)I" } : Jvm.MethodName)) ∈ lw_tbl := lw_at lw_m1 130 rfl
theorem q157 : (Jvm.Cond.instanceMethod ({ cls := "FairRuns", name := "backFrom", desc := "(II)I" } : Jvm.MethodName)) ∈ lw_all := lw_g (lw_at lw_m1 131 rfl) rfl
theorem q158 : (Jvm.Cond.code ({ cls := "FairRuns", name := "backFrom", desc := "(II)I" } : Jvm.MethodName) prog_1_method_15_code (6 : Nat) (Option.some Jvm.ClassFile.FieldType.int)) ∈ lw_all := lw_g (lw_at lw_m1 132 rfl) rfl
theorem q159 : (Jvm.Cond.methodLink "FairRuns" (58 : Nat) ({ cls := "FairRuns", name := "before", desc := "(I)I" } : Jvm.MethodName)) ∈ lw_all := lw_g (lw_at lw_m1 133 rfl) rfl
theorem q160 : (Jvm.Cond.privateMethod ({ cls := "FairRuns", name := "before", desc := "(I)I" } : Jvm.MethodName)) ∈ lw_tbl := lw_at lw_m1 134 rfl
theorem q161 : (Jvm.Cond.instanceMethod ({ cls := "FairRuns", name := "before", desc := "(I)I" } : Jvm.MethodName)) ∈ lw_all := lw_g (lw_at lw_m1 135 rfl) rfl
theorem q162 : (Jvm.Cond.code ({ cls := "FairRuns", name := "before", desc := "(I)I" } : Jvm.MethodName) prog_1_method_14_code (4 : Nat) (Option.some Jvm.ClassFile.FieldType.int)) ∈ lw_all := lw_g (lw_at lw_m1 136 rfl) rfl
theorem q163 : (Jvm.Cond.methodLink "FairRuns" (79 : Nat) ({ cls := "FairRuns", name := "until", desc := "(II)I" } : Jvm.MethodName)) ∈ lw_all := lw_g (lw_at lw_m1 137 rfl) rfl
theorem q164 : (Jvm.Cond.privateMethod ({ cls := "FairRuns", name := "until", desc := "(II)I" } : Jvm.MethodName)) ∈ lw_tbl := lw_at lw_m1 138 rfl
theorem q165 : (Jvm.Cond.instanceMethod ({ cls := "FairRuns", name := "until", desc := "(II)I" } : Jvm.MethodName)) ∈ lw_all := lw_g (lw_at lw_m1 139 rfl) rfl
theorem q166 : (Jvm.Cond.code ({ cls := "FairRuns", name := "until", desc := "(II)I" } : Jvm.MethodName) prog_1_method_20_code (4 : Nat) (Option.some Jvm.ClassFile.FieldType.int)) ∈ lw_all := lw_g (lw_at lw_m1 140 rfl) rfl
theorem q167 : (Jvm.Cond.methodLink "FairRuns" (91 : Nat) ({ cls := "FairRuns", name := "twoValue", desc := "(III)I" } : Jvm.MethodName)) ∈ lw_all := lw_g (lw_at lw_m1 141 rfl) rfl
theorem q168 : (Jvm.Cond.privateMethod ({ cls := "FairRuns", name := "twoValue", desc := "(III)I" } : Jvm.MethodName)) ∈ lw_tbl := lw_at lw_m1 142 rfl
theorem q169 : (Jvm.Cond.instanceMethod ({ cls := "FairRuns", name := "twoValue", desc := "(III)I" } : Jvm.MethodName)) ∈ lw_all := lw_g (lw_at lw_m1 143 rfl) rfl
theorem q170 : (Jvm.Cond.code ({ cls := "FairRuns", name := "twoValue", desc := "(III)I" } : Jvm.MethodName) prog_1_method_24_code (4 : Nat) (Option.some Jvm.ClassFile.FieldType.int)) ∈ lw_all := lw_g (lw_at lw_m1 144 rfl) rfl
theorem q171 : (Jvm.Cond.methodLink "FairRuns" (85 : Nat) ({ cls := "FairRuns", name := "allUntil", desc := "(II)I" } : Jvm.MethodName)) ∈ lw_all := lw_g (lw_at lw_m1 145 rfl) rfl
theorem q172 : (Jvm.Cond.privateMethod ({ cls := "FairRuns", name := "allUntil", desc := "(II)I" } : Jvm.MethodName)) ∈ lw_tbl := lw_at lw_m1 146 rfl
theorem q173 : (Jvm.Cond.instanceMethod ({ cls := "FairRuns", name := "allUntil", desc := "(II)I" } : Jvm.MethodName)) ∈ lw_all := lw_g (lw_at lw_m1 147 rfl) rfl
theorem q174 : (Jvm.Cond.code ({ cls := "FairRuns", name := "allUntil", desc := "(II)I" } : Jvm.MethodName) prog_1_method_22_code (7 : Nat) (Option.some Jvm.ClassFile.FieldType.int)) ∈ lw_all := lw_g (lw_at lw_m1 148 rfl) rfl
theorem q176 : (Jvm.Cond.instanceMethod ({ cls := "FairRuns", name := "alike", desc := "()Z" } : Jvm.MethodName)) ∈ lw_all := lw_g (lw_at lw_m1 150 rfl) rfl
theorem q177 : (Jvm.Cond.selects "FairRuns" ({ cls := "FairRuns", name := "alike", desc := "()Z" } : Jvm.MethodName) ({ cls := "FairRuns", name := "alike", desc := "()Z" } : Jvm.MethodName)) ∈ lw_all := lw_g (lw_at lw_m1 151 rfl) rfl
theorem q178 : (Jvm.Cond.code ({ cls := "FairRuns", name := "alike", desc := "()Z" } : Jvm.MethodName) prog_1_method_27_code (3 : Nat) (Option.some Jvm.ClassFile.FieldType.boolean)) ∈ lw_all := lw_g (lw_at lw_m1 152 rfl) rfl
theorem q180 : (Jvm.Cond.instanceMethod ({ cls := "FairRuns", name := "fair", desc := "()I" } : Jvm.MethodName)) ∈ lw_all := lw_g (lw_at lw_m1 154 rfl) rfl
theorem q181 : (Jvm.Cond.selects "FairRuns" ({ cls := "FairRuns", name := "fair", desc := "()I" } : Jvm.MethodName) ({ cls := "FairRuns", name := "fair", desc := "()I" } : Jvm.MethodName)) ∈ lw_all := lw_g (lw_at lw_m1 155 rfl) rfl
theorem q182 : (Jvm.Cond.code ({ cls := "FairRuns", name := "fair", desc := "()I" } : Jvm.MethodName) prog_1_method_28_code (1 : Nat) (Option.some Jvm.ClassFile.FieldType.int)) ∈ lw_all := lw_g (lw_at lw_m1 156 rfl) rfl
theorem q184 : (Jvm.Cond.instanceMethod ({ cls := "FairRuns", name := "reach", desc := "(I)I" } : Jvm.MethodName)) ∈ lw_all := lw_g (lw_at lw_m1 158 rfl) rfl
theorem q185 : (Jvm.Cond.selects "FairRuns" ({ cls := "FairRuns", name := "reach", desc := "(I)I" } : Jvm.MethodName) ({ cls := "FairRuns", name := "reach", desc := "(I)I" } : Jvm.MethodName)) ∈ lw_all := lw_g (lw_at lw_m1 159 rfl) rfl
theorem q186 : (Jvm.Cond.code ({ cls := "FairRuns", name := "reach", desc := "(I)I" } : Jvm.MethodName) prog_1_method_29_code (2 : Nat) (Option.some Jvm.ClassFile.FieldType.int)) ∈ lw_all := lw_g (lw_at lw_m1 160 rfl) rfl
theorem q188 : (Jvm.Cond.instanceMethod ({ cls := "FairRuns", name := "steps", desc := "(I)I" } : Jvm.MethodName)) ∈ lw_all := lw_g (lw_at lw_m1 162 rfl) rfl
theorem q189 : (Jvm.Cond.selects "FairRuns" ({ cls := "FairRuns", name := "steps", desc := "(I)I" } : Jvm.MethodName) ({ cls := "FairRuns", name := "steps", desc := "(I)I" } : Jvm.MethodName)) ∈ lw_all := lw_g (lw_at lw_m1 163 rfl) rfl
theorem q190 : (Jvm.Cond.code ({ cls := "FairRuns", name := "steps", desc := "(I)I" } : Jvm.MethodName) prog_1_method_30_code (5 : Nat) (Option.some Jvm.ClassFile.FieldType.int)) ∈ lw_all := lw_g (lw_at lw_m1 164 rfl) rfl
theorem q192 : (Jvm.Cond.instanceMethod ({ cls := "FairRuns", name := "knots", desc := "()I" } : Jvm.MethodName)) ∈ lw_all := lw_g (lw_at lw_m1 166 rfl) rfl
theorem q193 : (Jvm.Cond.selects "FairRuns" ({ cls := "FairRuns", name := "knots", desc := "()I" } : Jvm.MethodName) ({ cls := "FairRuns", name := "knots", desc := "()I" } : Jvm.MethodName)) ∈ lw_all := lw_g (lw_at lw_m1 167 rfl) rfl
theorem q194 : (Jvm.Cond.code ({ cls := "FairRuns", name := "knots", desc := "()I" } : Jvm.MethodName) prog_1_method_31_code (5 : Nat) (Option.some Jvm.ClassFile.FieldType.int)) ∈ lw_all := lw_g (lw_at lw_m1 168 rfl) rfl
theorem in_X0 : ∀ w ∈ wsX00, w ∈ lw_all := lw_in wsX00 [49, 51, 53, 55, 57, 59, 61, 63, 65, 67, 69, 71] (by decide +kernel) (by decide +kernel)
end
section
/-! FairRunsModel -/
set_option maxRecDepth 100000
def RX1 : String := "FairRunsModel"
def TX1 : u_T := fun k => match k with
  | 0 => ("FairRunsModel", "next", "[I", true)
  | 1 => ("FairRunsModel", "marks", "[I", true)
  | 2 => ("FairRunsModel", "demands", "[I", true)
  | 3 => ("FairRunsModel", "demandCount", "I", false)
  | 4 => ("FairRunsModel", "kinds", "[I", true)
  | 5 => ("FairRunsModel", "firsts", "[I", true)
  | 6 => ("FairRunsModel", "seconds", "[I", true)
  | 7 => ("FairRunsModel", "sets", "[I", true)
  | 8 => ("FairRunsModel", "made", "I", false)
  | 9 => ("FairRunsModel", "stack", "[I", true)
  | _ => ("FairRunsModel", "depth", "I", false)
def tyX1 : Nat → FieldType := fun k => match k with
  | 0 => .array .int
  | 1 => .array .int
  | 2 => .array .int
  | 3 => .int
  | 4 => .array .int
  | 5 => .array .int
  | 6 => .array .int
  | 7 => .array .int
  | 8 => .int
  | 9 => .array .int
  | _ => .int
abbrev wsX10 : List Cond := u_ws RX1 TX1 11
theorem nmX1 : ∀ a, a < 11 → ∀ b, b < 11 → a ≠ b → (TX1 a).2.1 ≠ (TX1 b).2.1 := by decide +kernel
theorem tyX1_ok : ∀ k, k < 11 → parseFieldDescriptor (TX1 k).2.2.1 = some (tyX1 k) := by decide +kernel
abbrev cX1_init : ByteArray := prog_3_method_1_code
def yX1_init : MethodName := ⟨RX1, "<init>", "()V"⟩
abbrev cX1_arcs : ByteArray := prog_3_method_4_code
def yX1_arcs : MethodName := ⟨RX1, "arcs", "(II)I"⟩
abbrev cX1_isState : ByteArray := prog_3_method_2_code
def yX1_isState : MethodName := ⟨RX1, "isState", "(I)Z"⟩
abbrev cX1_isSet : ByteArray := prog_3_method_3_code
def yX1_isSet : MethodName := ⟨RX1, "isSet", "(I)Z"⟩
abbrev cX1_mark : ByteArray := prog_3_method_5_code
def yX1_mark : MethodName := ⟨RX1, "mark", "(II)I"⟩
abbrev cX1_demand : ByteArray := prog_3_method_6_code
def yX1_demand : MethodName := ⟨RX1, "demand", "(I)I"⟩
abbrev cX1_undemand : ByteArray := prog_3_method_7_code
def yX1_undemand : MethodName := ⟨RX1, "undemand", "()I"⟩
abbrev cX1_push : ByteArray := prog_3_method_9_code
def yX1_push : MethodName := ⟨RX1, "push", "(I)I"⟩
abbrev cX1_note : ByteArray := prog_3_method_8_code
def yX1_note : MethodName := ⟨RX1, "note", "(III)I"⟩
abbrev cX1_one : ByteArray := prog_3_method_10_code
def yX1_one : MethodName := ⟨RX1, "one", "(I)I"⟩
abbrev cX1_two : ByteArray := prog_3_method_11_code
def yX1_two : MethodName := ⟨RX1, "two", "(I)I"⟩
abbrev cX1_discard : ByteArray := prog_3_method_12_code
def yX1_discard : MethodName := ⟨RX1, "discard", "()V"⟩
abbrev cX1_depth : ByteArray := prog_3_method_13_code
def yX1_depth : MethodName := ⟨RX1, "depth", "()I"⟩
abbrev cX1_holds : ByteArray := prog_3_method_21_code
def yX1_holds : MethodName := ⟨RX1, "holds", "()I"⟩
abbrev cX1_findSets : ByteArray := prog_3_method_20_code
def yX1_findSets : MethodName := ⟨RX1, "findSets", "()V"⟩
abbrev cX1_ofTwo : ByteArray := prog_3_method_19_code
def yX1_ofTwo : MethodName := ⟨RX1, "ofTwo", "(III)I"⟩
abbrev cX1_staying : ByteArray := prog_3_method_16_code
def yX1_staying : MethodName := ⟨RX1, "staying", "(I)I"⟩
abbrev cX1_before : ByteArray := prog_3_method_14_code
def yX1_before : MethodName := ⟨RX1, "before", "(I)I"⟩
abbrev cX1_coming : ByteArray := prog_3_method_15_code
def yX1_coming : MethodName := ⟨RX1, "coming", "(II)I"⟩
abbrev cX1_not : ByteArray := prog_3_method_17_code
def yX1_not : MethodName := ⟨RX1, "not", "(I)I"⟩
abbrev cX1_ofOne : ByteArray := prog_3_method_18_code
def yX1_ofOne : MethodName := ⟨RX1, "ofOne", "(II)I"⟩
abbrev cX1_alike : ByteArray := prog_3_method_22_code
def yX1_alike : MethodName := ⟨RX1, "alike", "()Z"⟩
abbrev cX1_fair : ByteArray := prog_3_method_23_code
def yX1_fair : MethodName := ⟨RX1, "fair", "()I"⟩
abbrev cX1_reach : ByteArray := prog_3_method_25_code
def yX1_reach : MethodName := ⟨RX1, "reach", "(I)I"⟩
abbrev cX1_behind : ByteArray := prog_3_method_24_code
def yX1_behind : MethodName := ⟨RX1, "behind", "(I)I"⟩
abbrev cX1_steps : ByteArray := prog_3_method_26_code
def yX1_steps : MethodName := ⟨RX1, "steps", "(I)I"⟩
abbrev cX1_knots : ByteArray := prog_3_method_27_code
def yX1_knots : MethodName := ⟨RX1, "knots", "()I"⟩
theorem q28 : (Jvm.Cond.initialized "FairRunsModel") ∈ lw_all := lw_g (lw_at lw_m1 2 rfl) rfl
theorem q196 : (Jvm.Cond.instantiable "FairRunsModel" (11 : Nat)) ∈ lw_all := lw_g (lw_at lw_m1 170 rfl) rfl
theorem q198 : (Jvm.Cond.instanceMethod ({ cls := "FairRunsModel", name := "<init>", desc := "()V" } : Jvm.MethodName)) ∈ lw_all := lw_g (lw_at lw_m1 172 rfl) rfl
theorem q199 : (Jvm.Cond.code ({ cls := "FairRunsModel", name := "<init>", desc := "()V" } : Jvm.MethodName) prog_3_method_1_code (1 : Nat) (Option.none : Option Jvm.ClassFile.FieldType)) ∈ lw_all := lw_g (lw_at lw_m1 173 rfl) rfl
theorem q200 : (Jvm.Cond.methodLink "FairRunsModel" (1 : Nat) ({ cls := "java/lang/Object", name := "<init>", desc := "()V" } : Jvm.MethodName)) ∈ lw_all := lw_g (lw_at lw_m1 174 rfl) rfl
theorem q201 : (Jvm.Cond.fieldLink "FairRunsModel" (7 : Nat) "FairRunsModel" "next" "[I") ∈ lw_all := lw_g (lw_at lw_m1 175 rfl) rfl
theorem q202 : (Jvm.Cond.fieldLink "FairRunsModel" (13 : Nat) "FairRunsModel" "marks" "[I") ∈ lw_all := lw_g (lw_at lw_m1 176 rfl) rfl
theorem q203 : (Jvm.Cond.fieldLink "FairRunsModel" (16 : Nat) "FairRunsModel" "demands" "[I") ∈ lw_all := lw_g (lw_at lw_m1 177 rfl) rfl
theorem q204 : (Jvm.Cond.fieldLink "FairRunsModel" (41 : Nat) "FairRunsModel" "demandCount" "I") ∈ lw_all := lw_g (lw_at lw_m1 178 rfl) rfl
theorem q205 : (Jvm.Cond.fieldLink "FairRunsModel" (19 : Nat) "FairRunsModel" "kinds" "[I") ∈ lw_all := lw_g (lw_at lw_m1 179 rfl) rfl
theorem q206 : (Jvm.Cond.fieldLink "FairRunsModel" (22 : Nat) "FairRunsModel" "firsts" "[I") ∈ lw_all := lw_g (lw_at lw_m1 180 rfl) rfl
theorem q207 : (Jvm.Cond.fieldLink "FairRunsModel" (25 : Nat) "FairRunsModel" "seconds" "[I") ∈ lw_all := lw_g (lw_at lw_m1 181 rfl) rfl
theorem q208 : (Jvm.Cond.fieldLink "FairRunsModel" (28 : Nat) "FairRunsModel" "sets" "[I") ∈ lw_all := lw_g (lw_at lw_m1 182 rfl) rfl
theorem q209 : (Jvm.Cond.fieldLink "FairRunsModel" (45 : Nat) "FairRunsModel" "made" "I") ∈ lw_all := lw_g (lw_at lw_m1 183 rfl) rfl
theorem q210 : (Jvm.Cond.fieldLink "FairRunsModel" (31 : Nat) "FairRunsModel" "stack" "[I") ∈ lw_all := lw_g (lw_at lw_m1 184 rfl) rfl
theorem q211 : (Jvm.Cond.fieldLink "FairRunsModel" (48 : Nat) "FairRunsModel" "depth" "I") ∈ lw_all := lw_g (lw_at lw_m1 185 rfl) rfl
theorem q212 : (Jvm.Cond.laysFinal "FairRunsModel" "FairRunsModel" "next" "[I") ∈ lw_all := lw_g (lw_at lw_m1 186 rfl) rfl
theorem q213 : (Jvm.Cond.soleField "FairRunsModel" "next") ∈ lw_all := lw_g (lw_at lw_m1 187 rfl) rfl
theorem q214 : (Jvm.Cond.laysFinal "FairRunsModel" "FairRunsModel" "marks" "[I") ∈ lw_all := lw_g (lw_at lw_m1 188 rfl) rfl
theorem q215 : (Jvm.Cond.soleField "FairRunsModel" "marks") ∈ lw_all := lw_g (lw_at lw_m1 189 rfl) rfl
theorem q216 : (Jvm.Cond.laysFinal "FairRunsModel" "FairRunsModel" "demands" "[I") ∈ lw_all := lw_g (lw_at lw_m1 190 rfl) rfl
theorem q217 : (Jvm.Cond.soleField "FairRunsModel" "demands") ∈ lw_all := lw_g (lw_at lw_m1 191 rfl) rfl
theorem q218 : (Jvm.Cond.lays "FairRunsModel" "FairRunsModel" "demandCount" "I") ∈ lw_all := lw_g (lw_at lw_m1 192 rfl) rfl
theorem q219 : (Jvm.Cond.soleField "FairRunsModel" "demandCount") ∈ lw_all := lw_g (lw_at lw_m1 193 rfl) rfl
theorem q220 : (Jvm.Cond.laysFinal "FairRunsModel" "FairRunsModel" "kinds" "[I") ∈ lw_all := lw_g (lw_at lw_m1 194 rfl) rfl
theorem q221 : (Jvm.Cond.soleField "FairRunsModel" "kinds") ∈ lw_all := lw_g (lw_at lw_m1 195 rfl) rfl
theorem q222 : (Jvm.Cond.laysFinal "FairRunsModel" "FairRunsModel" "firsts" "[I") ∈ lw_all := lw_g (lw_at lw_m1 196 rfl) rfl
theorem q223 : (Jvm.Cond.soleField "FairRunsModel" "firsts") ∈ lw_all := lw_g (lw_at lw_m1 197 rfl) rfl
theorem q224 : (Jvm.Cond.laysFinal "FairRunsModel" "FairRunsModel" "seconds" "[I") ∈ lw_all := lw_g (lw_at lw_m1 198 rfl) rfl
theorem q225 : (Jvm.Cond.soleField "FairRunsModel" "seconds") ∈ lw_all := lw_g (lw_at lw_m1 199 rfl) rfl
theorem q226 : (Jvm.Cond.laysFinal "FairRunsModel" "FairRunsModel" "sets" "[I") ∈ lw_all := lw_g (lw_at lw_m1 200 rfl) rfl
theorem q227 : (Jvm.Cond.soleField "FairRunsModel" "sets") ∈ lw_all := lw_g (lw_at lw_m1 201 rfl) rfl
theorem q228 : (Jvm.Cond.lays "FairRunsModel" "FairRunsModel" "made" "I") ∈ lw_all := lw_g (lw_at lw_m1 202 rfl) rfl
theorem q229 : (Jvm.Cond.soleField "FairRunsModel" "made") ∈ lw_all := lw_g (lw_at lw_m1 203 rfl) rfl
theorem q230 : (Jvm.Cond.laysFinal "FairRunsModel" "FairRunsModel" "stack" "[I") ∈ lw_all := lw_g (lw_at lw_m1 204 rfl) rfl
theorem q231 : (Jvm.Cond.soleField "FairRunsModel" "stack") ∈ lw_all := lw_g (lw_at lw_m1 205 rfl) rfl
theorem q232 : (Jvm.Cond.lays "FairRunsModel" "FairRunsModel" "depth" "I") ∈ lw_all := lw_g (lw_at lw_m1 206 rfl) rfl
theorem q233 : (Jvm.Cond.soleField "FairRunsModel" "depth") ∈ lw_all := lw_g (lw_at lw_m1 207 rfl) rfl
theorem q234 : (Jvm.Cond.superclass "FairRunsModel" "java/lang/Object") ∈ lw_all := lw_g (lw_at lw_m1 208 rfl) rfl
theorem q236 : (Jvm.Cond.instanceMethod ({ cls := "FairRunsModel", name := "arcs", desc := "(II)I" } : Jvm.MethodName)) ∈ lw_all := lw_g (lw_at lw_m1 210 rfl) rfl
theorem q237 : (Jvm.Cond.selects "FairRunsModel" ({ cls := "FairRunsModel", name := "arcs", desc := "(II)I" } : Jvm.MethodName) ({ cls := "FairRunsModel", name := "arcs", desc := "(II)I" } : Jvm.MethodName)) ∈ lw_all := lw_g (lw_at lw_m1 211 rfl) rfl
theorem q238 : (Jvm.Cond.code ({ cls := "FairRunsModel", name := "arcs", desc := "(II)I" } : Jvm.MethodName) prog_3_method_4_code (4 : Nat) (Option.some Jvm.ClassFile.FieldType.int)) ∈ lw_all := lw_g (lw_at lw_m1 212 rfl) rfl
theorem q239 : (Jvm.Cond.methodLink "FairRunsModel" (34 : Nat) ({ cls := "FairRunsModel", name := "isState", desc := "(I)Z" } : Jvm.MethodName)) ∈ lw_all := lw_g (lw_at lw_m1 213 rfl) rfl
theorem q240 : (Jvm.Cond.privateMethod ({ cls := "FairRunsModel", name := "isState", desc := "(I)Z" } : Jvm.MethodName)) ∈ lw_tbl := lw_at lw_m1 214 rfl
theorem q241 : (Jvm.Cond.instanceMethod ({ cls := "FairRunsModel", name := "isState", desc := "(I)Z" } : Jvm.MethodName)) ∈ lw_all := lw_g (lw_at lw_m1 215 rfl) rfl
theorem q242 : (Jvm.Cond.code ({ cls := "FairRunsModel", name := "isState", desc := "(I)Z" } : Jvm.MethodName) prog_3_method_2_code (2 : Nat) (Option.some Jvm.ClassFile.FieldType.boolean)) ∈ lw_all := lw_g (lw_at lw_m1 216 rfl) rfl
theorem q243 : (Jvm.Cond.methodLink "FairRunsModel" (38 : Nat) ({ cls := "FairRunsModel", name := "isSet", desc := "(I)Z" } : Jvm.MethodName)) ∈ lw_all := lw_g (lw_at lw_m1 217 rfl) rfl
theorem q244 : (Jvm.Cond.privateMethod ({ cls := "FairRunsModel", name := "isSet", desc := "(I)Z" } : Jvm.MethodName)) ∈ lw_tbl := lw_at lw_m1 218 rfl
theorem q245 : (Jvm.Cond.instanceMethod ({ cls := "FairRunsModel", name := "isSet", desc := "(I)Z" } : Jvm.MethodName)) ∈ lw_all := lw_g (lw_at lw_m1 219 rfl) rfl
theorem q246 : (Jvm.Cond.code ({ cls := "FairRunsModel", name := "isSet", desc := "(I)Z" } : Jvm.MethodName) prog_3_method_3_code (2 : Nat) (Option.some Jvm.ClassFile.FieldType.boolean)) ∈ lw_all := lw_g (lw_at lw_m1 220 rfl) rfl
theorem q248 : (Jvm.Cond.instanceMethod ({ cls := "FairRunsModel", name := "mark", desc := "(II)I" } : Jvm.MethodName)) ∈ lw_all := lw_g (lw_at lw_m1 222 rfl) rfl
theorem q249 : (Jvm.Cond.selects "FairRunsModel" ({ cls := "FairRunsModel", name := "mark", desc := "(II)I" } : Jvm.MethodName) ({ cls := "FairRunsModel", name := "mark", desc := "(II)I" } : Jvm.MethodName)) ∈ lw_all := lw_g (lw_at lw_m1 223 rfl) rfl
theorem q250 : (Jvm.Cond.code ({ cls := "FairRunsModel", name := "mark", desc := "(II)I" } : Jvm.MethodName) prog_3_method_5_code (4 : Nat) (Option.some Jvm.ClassFile.FieldType.int)) ∈ lw_all := lw_g (lw_at lw_m1 224 rfl) rfl
theorem q252 : (Jvm.Cond.instanceMethod ({ cls := "FairRunsModel", name := "demand", desc := "(I)I" } : Jvm.MethodName)) ∈ lw_all := lw_g (lw_at lw_m1 226 rfl) rfl
theorem q253 : (Jvm.Cond.selects "FairRunsModel" ({ cls := "FairRunsModel", name := "demand", desc := "(I)I" } : Jvm.MethodName) ({ cls := "FairRunsModel", name := "demand", desc := "(I)I" } : Jvm.MethodName)) ∈ lw_all := lw_g (lw_at lw_m1 227 rfl) rfl
theorem q254 : (Jvm.Cond.code ({ cls := "FairRunsModel", name := "demand", desc := "(I)I" } : Jvm.MethodName) prog_3_method_6_code (2 : Nat) (Option.some Jvm.ClassFile.FieldType.int)) ∈ lw_all := lw_g (lw_at lw_m1 228 rfl) rfl
theorem q256 : (Jvm.Cond.instanceMethod ({ cls := "FairRunsModel", name := "undemand", desc := "()I" } : Jvm.MethodName)) ∈ lw_all := lw_g (lw_at lw_m1 230 rfl) rfl
theorem q257 : (Jvm.Cond.selects "FairRunsModel" ({ cls := "FairRunsModel", name := "undemand", desc := "()I" } : Jvm.MethodName) ({ cls := "FairRunsModel", name := "undemand", desc := "()I" } : Jvm.MethodName)) ∈ lw_all := lw_g (lw_at lw_m1 231 rfl) rfl
theorem q258 : (Jvm.Cond.code ({ cls := "FairRunsModel", name := "undemand", desc := "()I" } : Jvm.MethodName) prog_3_method_7_code (1 : Nat) (Option.some Jvm.ClassFile.FieldType.int)) ∈ lw_all := lw_g (lw_at lw_m1 232 rfl) rfl
theorem q260 : (Jvm.Cond.instanceMethod ({ cls := "FairRunsModel", name := "push", desc := "(I)I" } : Jvm.MethodName)) ∈ lw_all := lw_g (lw_at lw_m1 234 rfl) rfl
theorem q261 : (Jvm.Cond.selects "FairRunsModel" ({ cls := "FairRunsModel", name := "push", desc := "(I)I" } : Jvm.MethodName) ({ cls := "FairRunsModel", name := "push", desc := "(I)I" } : Jvm.MethodName)) ∈ lw_all := lw_g (lw_at lw_m1 235 rfl) rfl
theorem q262 : (Jvm.Cond.code ({ cls := "FairRunsModel", name := "push", desc := "(I)I" } : Jvm.MethodName) prog_3_method_9_code (2 : Nat) (Option.some Jvm.ClassFile.FieldType.int)) ∈ lw_all := lw_g (lw_at lw_m1 236 rfl) rfl
theorem q263 : (Jvm.Cond.methodLink "FairRunsModel" (51 : Nat) ({ cls := "FairRunsModel", name := "note", desc := "(III)I" } : Jvm.MethodName)) ∈ lw_all := lw_g (lw_at lw_m1 237 rfl) rfl
theorem q264 : (Jvm.Cond.privateMethod ({ cls := "FairRunsModel", name := "note", desc := "(III)I" } : Jvm.MethodName)) ∈ lw_tbl := lw_at lw_m1 238 rfl
theorem q265 : (Jvm.Cond.instanceMethod ({ cls := "FairRunsModel", name := "note", desc := "(III)I" } : Jvm.MethodName)) ∈ lw_all := lw_g (lw_at lw_m1 239 rfl) rfl
theorem q266 : (Jvm.Cond.code ({ cls := "FairRunsModel", name := "note", desc := "(III)I" } : Jvm.MethodName) prog_3_method_8_code (4 : Nat) (Option.some Jvm.ClassFile.FieldType.int)) ∈ lw_all := lw_g (lw_at lw_m2 0 rfl) rfl
theorem q268 : (Jvm.Cond.instanceMethod ({ cls := "FairRunsModel", name := "one", desc := "(I)I" } : Jvm.MethodName)) ∈ lw_all := lw_g (lw_at lw_m2 2 rfl) rfl
theorem q269 : (Jvm.Cond.selects "FairRunsModel" ({ cls := "FairRunsModel", name := "one", desc := "(I)I" } : Jvm.MethodName) ({ cls := "FairRunsModel", name := "one", desc := "(I)I" } : Jvm.MethodName)) ∈ lw_all := lw_g (lw_at lw_m2 3 rfl) rfl
theorem q270 : (Jvm.Cond.code ({ cls := "FairRunsModel", name := "one", desc := "(I)I" } : Jvm.MethodName) prog_3_method_10_code (2 : Nat) (Option.some Jvm.ClassFile.FieldType.int)) ∈ lw_all := lw_g (lw_at lw_m2 4 rfl) rfl
theorem q272 : (Jvm.Cond.instanceMethod ({ cls := "FairRunsModel", name := "two", desc := "(I)I" } : Jvm.MethodName)) ∈ lw_all := lw_g (lw_at lw_m2 6 rfl) rfl
theorem q273 : (Jvm.Cond.selects "FairRunsModel" ({ cls := "FairRunsModel", name := "two", desc := "(I)I" } : Jvm.MethodName) ({ cls := "FairRunsModel", name := "two", desc := "(I)I" } : Jvm.MethodName)) ∈ lw_all := lw_g (lw_at lw_m2 7 rfl) rfl
theorem q274 : (Jvm.Cond.code ({ cls := "FairRunsModel", name := "two", desc := "(I)I" } : Jvm.MethodName) prog_3_method_11_code (2 : Nat) (Option.some Jvm.ClassFile.FieldType.int)) ∈ lw_all := lw_g (lw_at lw_m2 8 rfl) rfl
theorem q276 : (Jvm.Cond.instanceMethod ({ cls := "FairRunsModel", name := "discard", desc := "()V" } : Jvm.MethodName)) ∈ lw_all := lw_g (lw_at lw_m2 10 rfl) rfl
theorem q277 : (Jvm.Cond.selects "FairRunsModel" ({ cls := "FairRunsModel", name := "discard", desc := "()V" } : Jvm.MethodName) ({ cls := "FairRunsModel", name := "discard", desc := "()V" } : Jvm.MethodName)) ∈ lw_all := lw_g (lw_at lw_m2 11 rfl) rfl
theorem q278 : (Jvm.Cond.code ({ cls := "FairRunsModel", name := "discard", desc := "()V" } : Jvm.MethodName) prog_3_method_12_code (1 : Nat) (Option.none : Option Jvm.ClassFile.FieldType)) ∈ lw_all := lw_g (lw_at lw_m2 12 rfl) rfl
theorem q280 : (Jvm.Cond.instanceMethod ({ cls := "FairRunsModel", name := "depth", desc := "()I" } : Jvm.MethodName)) ∈ lw_all := lw_g (lw_at lw_m2 14 rfl) rfl
theorem q281 : (Jvm.Cond.selects "FairRunsModel" ({ cls := "FairRunsModel", name := "depth", desc := "()I" } : Jvm.MethodName) ({ cls := "FairRunsModel", name := "depth", desc := "()I" } : Jvm.MethodName)) ∈ lw_all := lw_g (lw_at lw_m2 15 rfl) rfl
theorem q282 : (Jvm.Cond.code ({ cls := "FairRunsModel", name := "depth", desc := "()I" } : Jvm.MethodName) prog_3_method_13_code (1 : Nat) (Option.some Jvm.ClassFile.FieldType.int)) ∈ lw_all := lw_g (lw_at lw_m2 16 rfl) rfl
theorem q284 : (Jvm.Cond.instanceMethod ({ cls := "FairRunsModel", name := "holds", desc := "()I" } : Jvm.MethodName)) ∈ lw_all := lw_g (lw_at lw_m2 18 rfl) rfl
theorem q285 : (Jvm.Cond.selects "FairRunsModel" ({ cls := "FairRunsModel", name := "holds", desc := "()I" } : Jvm.MethodName) ({ cls := "FairRunsModel", name := "holds", desc := "()I" } : Jvm.MethodName)) ∈ lw_all := lw_g (lw_at lw_m2 19 rfl) rfl
theorem q286 : (Jvm.Cond.code ({ cls := "FairRunsModel", name := "holds", desc := "()I" } : Jvm.MethodName) prog_3_method_21_code (1 : Nat) (Option.some Jvm.ClassFile.FieldType.int)) ∈ lw_all := lw_g (lw_at lw_m2 20 rfl) rfl
theorem q287 : (Jvm.Cond.methodLink "FairRunsModel" (75 : Nat) ({ cls := "FairRunsModel", name := "findSets", desc := "()V" } : Jvm.MethodName)) ∈ lw_all := lw_g (lw_at lw_m2 21 rfl) rfl
theorem q288 : (Jvm.Cond.privateMethod ({ cls := "FairRunsModel", name := "findSets", desc := "()V" } : Jvm.MethodName)) ∈ lw_tbl := lw_at lw_m2 22 rfl
theorem q289 : (Jvm.Cond.instanceMethod ({ cls := "FairRunsModel", name := "findSets", desc := "()V" } : Jvm.MethodName)) ∈ lw_all := lw_g (lw_at lw_m2 23 rfl) rfl
theorem q290 : (Jvm.Cond.code ({ cls := "FairRunsModel", name := "findSets", desc := "()V" } : Jvm.MethodName) prog_3_method_20_code (3 : Nat) (Option.none : Option Jvm.ClassFile.FieldType)) ∈ lw_all := lw_g (lw_at lw_m2 24 rfl) rfl
theorem q291 : (Jvm.Cond.methodLink "FairRunsModel" (69 : Nat) ({ cls := "FairRunsModel", name := "ofTwo", desc := "(III)I" } : Jvm.MethodName)) ∈ lw_all := lw_g (lw_at lw_m2 25 rfl) rfl
theorem q292 : (Jvm.Cond.privateMethod ({ cls := "FairRunsModel", name := "ofTwo", desc := "(III)I" } : Jvm.MethodName)) ∈ lw_tbl := lw_at lw_m2 26 rfl
theorem q293 : (Jvm.Cond.instanceMethod ({ cls := "FairRunsModel", name := "ofTwo", desc := "(III)I" } : Jvm.MethodName)) ∈ lw_all := lw_g (lw_at lw_m2 27 rfl) rfl
theorem q294 : (Jvm.Cond.code ({ cls := "FairRunsModel", name := "ofTwo", desc := "(III)I" } : Jvm.MethodName) prog_3_method_19_code (7 : Nat) (Option.some Jvm.ClassFile.FieldType.int)) ∈ lw_all := lw_g (lw_at lw_m2 28 rfl) rfl
theorem q295 : (Jvm.Cond.methodLink "FairRunsModel" (63 : Nat) ({ cls := "FairRunsModel", name := "staying", desc := "(I)I" } : Jvm.MethodName)) ∈ lw_all := lw_g (lw_at lw_m2 29 rfl) rfl
theorem q296 : (Jvm.Cond.privateMethod ({ cls := "FairRunsModel", name := "staying", desc := "(I)I" } : Jvm.MethodName)) ∈ lw_tbl := lw_at lw_m2 30 rfl
theorem q297 : (Jvm.Cond.instanceMethod ({ cls := "FairRunsModel", name := "staying", desc := "(I)I" } : Jvm.MethodName)) ∈ lw_all := lw_g (lw_at lw_m2 31 rfl) rfl
theorem q298 : (Jvm.Cond.code ({ cls := "FairRunsModel", name := "staying", desc := "(I)I" } : Jvm.MethodName) prog_3_method_16_code (6 : Nat) (Option.some Jvm.ClassFile.FieldType.int)) ∈ lw_all := lw_g (lw_at lw_m2 32 rfl) rfl
theorem q299 : (Jvm.Cond.methodLink "FairRunsModel" (55 : Nat) ({ cls := "FairRunsModel", name := "before", desc := "(I)I" } : Jvm.MethodName)) ∈ lw_all := lw_g (lw_at lw_m2 33 rfl) rfl
theorem q300 : (Jvm.Cond.privateMethod ({ cls := "FairRunsModel", name := "before", desc := "(I)I" } : Jvm.MethodName)) ∈ lw_tbl := lw_at lw_m2 34 rfl
theorem q301 : (Jvm.Cond.instanceMethod ({ cls := "FairRunsModel", name := "before", desc := "(I)I" } : Jvm.MethodName)) ∈ lw_all := lw_g (lw_at lw_m2 35 rfl) rfl
theorem q302 : (Jvm.Cond.code ({ cls := "FairRunsModel", name := "before", desc := "(I)I" } : Jvm.MethodName) prog_3_method_14_code (4 : Nat) (Option.some Jvm.ClassFile.FieldType.int)) ∈ lw_all := lw_g (lw_at lw_m2 36 rfl) rfl
theorem q303 : (Jvm.Cond.methodLink "FairRunsModel" (59 : Nat) ({ cls := "FairRunsModel", name := "coming", desc := "(II)I" } : Jvm.MethodName)) ∈ lw_all := lw_g (lw_at lw_m2 37 rfl) rfl
theorem q304 : (Jvm.Cond.privateMethod ({ cls := "FairRunsModel", name := "coming", desc := "(II)I" } : Jvm.MethodName)) ∈ lw_tbl := lw_at lw_m2 38 rfl
theorem q305 : (Jvm.Cond.instanceMethod ({ cls := "FairRunsModel", name := "coming", desc := "(II)I" } : Jvm.MethodName)) ∈ lw_all := lw_g (lw_at lw_m2 39 rfl) rfl
theorem q306 : (Jvm.Cond.code ({ cls := "FairRunsModel", name := "coming", desc := "(II)I" } : Jvm.MethodName) prog_3_method_15_code (5 : Nat) (Option.some Jvm.ClassFile.FieldType.int)) ∈ lw_all := lw_g (lw_at lw_m2 40 rfl) rfl
theorem q307 : (Jvm.Cond.methodLink "FairRunsModel" (66 : Nat) ({ cls := "FairRunsModel", name := "not", desc := "(I)I" } : Jvm.MethodName)) ∈ lw_all := lw_g (lw_at lw_m2 41 rfl) rfl
theorem q308 : (Jvm.Cond.privateMethod ({ cls := "FairRunsModel", name := "not", desc := "(I)I" } : Jvm.MethodName)) ∈ lw_tbl := lw_at lw_m2 42 rfl
theorem q309 : (Jvm.Cond.instanceMethod ({ cls := "FairRunsModel", name := "not", desc := "(I)I" } : Jvm.MethodName)) ∈ lw_all := lw_g (lw_at lw_m2 43 rfl) rfl
theorem q310 : (Jvm.Cond.code ({ cls := "FairRunsModel", name := "not", desc := "(I)I" } : Jvm.MethodName) prog_3_method_17_code (2 : Nat) (Option.some Jvm.ClassFile.FieldType.int)) ∈ lw_all := lw_g (lw_at lw_m2 44 rfl) rfl
theorem q311 : (Jvm.Cond.methodLink "FairRunsModel" (72 : Nat) ({ cls := "FairRunsModel", name := "ofOne", desc := "(II)I" } : Jvm.MethodName)) ∈ lw_all := lw_g (lw_at lw_m2 45 rfl) rfl
theorem q312 : (Jvm.Cond.privateMethod ({ cls := "FairRunsModel", name := "ofOne", desc := "(II)I" } : Jvm.MethodName)) ∈ lw_tbl := lw_at lw_m2 46 rfl
theorem q313 : (Jvm.Cond.instanceMethod ({ cls := "FairRunsModel", name := "ofOne", desc := "(II)I" } : Jvm.MethodName)) ∈ lw_all := lw_g (lw_at lw_m2 47 rfl) rfl
theorem q314 : (Jvm.Cond.code ({ cls := "FairRunsModel", name := "ofOne", desc := "(II)I" } : Jvm.MethodName) prog_3_method_18_code (5 : Nat) (Option.some Jvm.ClassFile.FieldType.int)) ∈ lw_all := lw_g (lw_at lw_m2 48 rfl) rfl
theorem q316 : (Jvm.Cond.instanceMethod ({ cls := "FairRunsModel", name := "alike", desc := "()Z" } : Jvm.MethodName)) ∈ lw_all := lw_g (lw_at lw_m2 50 rfl) rfl
theorem q317 : (Jvm.Cond.selects "FairRunsModel" ({ cls := "FairRunsModel", name := "alike", desc := "()Z" } : Jvm.MethodName) ({ cls := "FairRunsModel", name := "alike", desc := "()Z" } : Jvm.MethodName)) ∈ lw_all := lw_g (lw_at lw_m2 51 rfl) rfl
theorem q318 : (Jvm.Cond.code ({ cls := "FairRunsModel", name := "alike", desc := "()Z" } : Jvm.MethodName) prog_3_method_22_code (1 : Nat) (Option.some Jvm.ClassFile.FieldType.boolean)) ∈ lw_all := lw_g (lw_at lw_m2 52 rfl) rfl
theorem q320 : (Jvm.Cond.instanceMethod ({ cls := "FairRunsModel", name := "fair", desc := "()I" } : Jvm.MethodName)) ∈ lw_all := lw_g (lw_at lw_m2 54 rfl) rfl
theorem q321 : (Jvm.Cond.selects "FairRunsModel" ({ cls := "FairRunsModel", name := "fair", desc := "()I" } : Jvm.MethodName) ({ cls := "FairRunsModel", name := "fair", desc := "()I" } : Jvm.MethodName)) ∈ lw_all := lw_g (lw_at lw_m2 55 rfl) rfl
theorem q322 : (Jvm.Cond.code ({ cls := "FairRunsModel", name := "fair", desc := "()I" } : Jvm.MethodName) prog_3_method_23_code (1 : Nat) (Option.some Jvm.ClassFile.FieldType.int)) ∈ lw_all := lw_g (lw_at lw_m2 56 rfl) rfl
theorem q324 : (Jvm.Cond.instanceMethod ({ cls := "FairRunsModel", name := "reach", desc := "(I)I" } : Jvm.MethodName)) ∈ lw_all := lw_g (lw_at lw_m2 58 rfl) rfl
theorem q325 : (Jvm.Cond.selects "FairRunsModel" ({ cls := "FairRunsModel", name := "reach", desc := "(I)I" } : Jvm.MethodName) ({ cls := "FairRunsModel", name := "reach", desc := "(I)I" } : Jvm.MethodName)) ∈ lw_all := lw_g (lw_at lw_m2 59 rfl) rfl
theorem q326 : (Jvm.Cond.code ({ cls := "FairRunsModel", name := "reach", desc := "(I)I" } : Jvm.MethodName) prog_3_method_25_code (4 : Nat) (Option.some Jvm.ClassFile.FieldType.int)) ∈ lw_all := lw_g (lw_at lw_m2 60 rfl) rfl
theorem q327 : (Jvm.Cond.methodLink "FairRunsModel" (78 : Nat) ({ cls := "FairRunsModel", name := "behind", desc := "(I)I" } : Jvm.MethodName)) ∈ lw_all := lw_g (lw_at lw_m2 61 rfl) rfl
theorem q328 : (Jvm.Cond.privateMethod ({ cls := "FairRunsModel", name := "behind", desc := "(I)I" } : Jvm.MethodName)) ∈ lw_tbl := lw_at lw_m2 62 rfl
theorem q329 : (Jvm.Cond.instanceMethod ({ cls := "FairRunsModel", name := "behind", desc := "(I)I" } : Jvm.MethodName)) ∈ lw_all := lw_g (lw_at lw_m2 63 rfl) rfl
theorem q330 : (Jvm.Cond.code ({ cls := "FairRunsModel", name := "behind", desc := "(I)I" } : Jvm.MethodName) prog_3_method_24_code (4 : Nat) (Option.some Jvm.ClassFile.FieldType.int)) ∈ lw_all := lw_g (lw_at lw_m2 64 rfl) rfl
theorem q332 : (Jvm.Cond.instanceMethod ({ cls := "FairRunsModel", name := "steps", desc := "(I)I" } : Jvm.MethodName)) ∈ lw_all := lw_g (lw_at lw_m2 66 rfl) rfl
theorem q333 : (Jvm.Cond.selects "FairRunsModel" ({ cls := "FairRunsModel", name := "steps", desc := "(I)I" } : Jvm.MethodName) ({ cls := "FairRunsModel", name := "steps", desc := "(I)I" } : Jvm.MethodName)) ∈ lw_all := lw_g (lw_at lw_m2 67 rfl) rfl
theorem q334 : (Jvm.Cond.code ({ cls := "FairRunsModel", name := "steps", desc := "(I)I" } : Jvm.MethodName) prog_3_method_26_code (5 : Nat) (Option.some Jvm.ClassFile.FieldType.int)) ∈ lw_all := lw_g (lw_at lw_m2 68 rfl) rfl
theorem q335 : (Jvm.Cond.methodLink "FairRunsModel" (81 : Nat) ({ cls := "FairRunsModel", name := "holds", desc := "()I" } : Jvm.MethodName)) ∈ lw_all := lw_g (lw_at lw_m2 69 rfl) rfl
theorem q337 : (Jvm.Cond.instanceMethod ({ cls := "FairRunsModel", name := "knots", desc := "()I" } : Jvm.MethodName)) ∈ lw_all := lw_g (lw_at lw_m2 71 rfl) rfl
theorem q338 : (Jvm.Cond.selects "FairRunsModel" ({ cls := "FairRunsModel", name := "knots", desc := "()I" } : Jvm.MethodName) ({ cls := "FairRunsModel", name := "knots", desc := "()I" } : Jvm.MethodName)) ∈ lw_all := lw_g (lw_at lw_m2 72 rfl) rfl
theorem q339 : (Jvm.Cond.code ({ cls := "FairRunsModel", name := "knots", desc := "()I" } : Jvm.MethodName) prog_3_method_27_code (7 : Nat) (Option.some Jvm.ClassFile.FieldType.int)) ∈ lw_all := lw_g (lw_at lw_m2 73 rfl) rfl
theorem in_X1 : ∀ w ∈ wsX10, w ∈ lw_all := lw_in wsX10 [212, 214, 216, 218, 220, 222, 224, 226, 228, 230, 232] (by decide +kernel) (by decide +kernel)
end
section
set_option maxRecDepth 100000
/-! java/lang/Object -/
set_option maxRecDepth 100000
def RJ0 : String := "java/lang/Object"
abbrev cJ0_init : ByteArray := object_method_1_code
def yJ0_init : MethodName := ⟨RJ0, "<init>", "()V"⟩
theorem dJ0_init_0 : decode cJ0_init 0 = .ok (.return_, 1) := by decide +kernel
theorem q35 : (Jvm.Cond.instanceMethod ({ cls := "java/lang/Object", name := "<init>", desc := "()V" } : Jvm.MethodName)) ∈ lw_all := lw_g (lw_at lw_m1 9 rfl) rfl
theorem q36 : (Jvm.Cond.code ({ cls := "java/lang/Object", name := "<init>", desc := "()V" } : Jvm.MethodName) object_method_1_code (1 : Nat) (Option.none : Option Jvm.ClassFile.FieldType)) ∈ lw_all := lw_g (lw_at lw_m1 10 rfl) rfl

theorem q74 : (Jvm.Cond.arrayClass Jvm.ClassFile.FieldType.int) ∈ lw_all := lw_g (lw_at lw_m1 48 rfl) rfl
set_option maxRecDepth 100000

theorem q26 : (Jvm.Cond.initialized "FairRunsLaw") ∈ lw_all := lw_g (lw_at lw_m1 0 rfl) rfl
set_option maxRecDepth 100000
theorem q29 : (Jvm.Cond.classLink "FairRunsLaw" (7 : Nat) "FairRuns") ∈ lw_all := lw_g (lw_at lw_m1 3 rfl) rfl
theorem q31 : (Jvm.Cond.methodLink "FairRunsLaw" (9 : Nat) ({ cls := "FairRuns", name := "<init>", desc := "()V" } : Jvm.MethodName)) ∈ lw_all := lw_g (lw_at lw_m1 5 rfl) rfl
theorem q75 : (Jvm.Cond.methodLink "FairRunsLaw" (13 : Nat) ({ cls := "FairRuns", name := "arcs", desc := "(II)I" } : Jvm.MethodName)) ∈ lw_all := lw_g (lw_at lw_m1 49 rfl) rfl
theorem q87 : (Jvm.Cond.methodLink "FairRunsLaw" (18 : Nat) ({ cls := "FairRuns", name := "mark", desc := "(II)I" } : Jvm.MethodName)) ∈ lw_all := lw_g (lw_at lw_m1 61 rfl) rfl
theorem q91 : (Jvm.Cond.methodLink "FairRunsLaw" (22 : Nat) ({ cls := "FairRuns", name := "demand", desc := "(I)I" } : Jvm.MethodName)) ∈ lw_all := lw_g (lw_at lw_m1 65 rfl) rfl
theorem q95 : (Jvm.Cond.methodLink "FairRunsLaw" (27 : Nat) ({ cls := "FairRuns", name := "undemand", desc := "()I" } : Jvm.MethodName)) ∈ lw_all := lw_g (lw_at lw_m1 69 rfl) rfl
theorem q99 : (Jvm.Cond.methodLink "FairRunsLaw" (32 : Nat) ({ cls := "FairRuns", name := "push", desc := "(I)I" } : Jvm.MethodName)) ∈ lw_all := lw_g (lw_at lw_m1 73 rfl) rfl
theorem q107 : (Jvm.Cond.methodLink "FairRunsLaw" (36 : Nat) ({ cls := "FairRuns", name := "one", desc := "(I)I" } : Jvm.MethodName)) ∈ lw_all := lw_g (lw_at lw_m1 81 rfl) rfl
theorem q111 : (Jvm.Cond.methodLink "FairRunsLaw" (40 : Nat) ({ cls := "FairRuns", name := "two", desc := "(I)I" } : Jvm.MethodName)) ∈ lw_all := lw_g (lw_at lw_m1 85 rfl) rfl
theorem q115 : (Jvm.Cond.methodLink "FairRunsLaw" (44 : Nat) ({ cls := "FairRuns", name := "discard", desc := "()V" } : Jvm.MethodName)) ∈ lw_all := lw_g (lw_at lw_m1 89 rfl) rfl
theorem q119 : (Jvm.Cond.methodLink "FairRunsLaw" (48 : Nat) ({ cls := "FairRuns", name := "depth", desc := "()I" } : Jvm.MethodName)) ∈ lw_all := lw_g (lw_at lw_m1 93 rfl) rfl
theorem q123 : (Jvm.Cond.methodLink "FairRunsLaw" (52 : Nat) ({ cls := "FairRuns", name := "holds", desc := "()I" } : Jvm.MethodName)) ∈ lw_all := lw_g (lw_at lw_m1 97 rfl) rfl
theorem q175 : (Jvm.Cond.methodLink "FairRunsLaw" (56 : Nat) ({ cls := "FairRuns", name := "alike", desc := "()Z" } : Jvm.MethodName)) ∈ lw_all := lw_g (lw_at lw_m1 149 rfl) rfl
theorem q179 : (Jvm.Cond.methodLink "FairRunsLaw" (61 : Nat) ({ cls := "FairRuns", name := "fair", desc := "()I" } : Jvm.MethodName)) ∈ lw_all := lw_g (lw_at lw_m1 153 rfl) rfl
theorem q183 : (Jvm.Cond.methodLink "FairRunsLaw" (65 : Nat) ({ cls := "FairRuns", name := "reach", desc := "(I)I" } : Jvm.MethodName)) ∈ lw_all := lw_g (lw_at lw_m1 157 rfl) rfl
theorem q187 : (Jvm.Cond.methodLink "FairRunsLaw" (69 : Nat) ({ cls := "FairRuns", name := "steps", desc := "(I)I" } : Jvm.MethodName)) ∈ lw_all := lw_g (lw_at lw_m1 161 rfl) rfl
theorem q191 : (Jvm.Cond.methodLink "FairRunsLaw" (73 : Nat) ({ cls := "FairRuns", name := "knots", desc := "()I" } : Jvm.MethodName)) ∈ lw_all := lw_g (lw_at lw_m1 165 rfl) rfl
theorem q195 : (Jvm.Cond.classLink "FairRunsLaw" (10 : Nat) "FairRunsModel") ∈ lw_all := lw_g (lw_at lw_m1 169 rfl) rfl
theorem q197 : (Jvm.Cond.methodLink "FairRunsLaw" (12 : Nat) ({ cls := "FairRunsModel", name := "<init>", desc := "()V" } : Jvm.MethodName)) ∈ lw_all := lw_g (lw_at lw_m1 171 rfl) rfl
theorem q235 : (Jvm.Cond.methodLink "FairRunsLaw" (17 : Nat) ({ cls := "FairRunsModel", name := "arcs", desc := "(II)I" } : Jvm.MethodName)) ∈ lw_all := lw_g (lw_at lw_m1 209 rfl) rfl
theorem q247 : (Jvm.Cond.methodLink "FairRunsLaw" (21 : Nat) ({ cls := "FairRunsModel", name := "mark", desc := "(II)I" } : Jvm.MethodName)) ∈ lw_all := lw_g (lw_at lw_m1 221 rfl) rfl
theorem q251 : (Jvm.Cond.methodLink "FairRunsLaw" (26 : Nat) ({ cls := "FairRunsModel", name := "demand", desc := "(I)I" } : Jvm.MethodName)) ∈ lw_all := lw_g (lw_at lw_m1 225 rfl) rfl
theorem q255 : (Jvm.Cond.methodLink "FairRunsLaw" (31 : Nat) ({ cls := "FairRunsModel", name := "undemand", desc := "()I" } : Jvm.MethodName)) ∈ lw_all := lw_g (lw_at lw_m1 229 rfl) rfl
theorem q259 : (Jvm.Cond.methodLink "FairRunsLaw" (35 : Nat) ({ cls := "FairRunsModel", name := "push", desc := "(I)I" } : Jvm.MethodName)) ∈ lw_all := lw_g (lw_at lw_m1 233 rfl) rfl
theorem q267 : (Jvm.Cond.methodLink "FairRunsLaw" (39 : Nat) ({ cls := "FairRunsModel", name := "one", desc := "(I)I" } : Jvm.MethodName)) ∈ lw_all := lw_g (lw_at lw_m2 1 rfl) rfl
theorem q271 : (Jvm.Cond.methodLink "FairRunsLaw" (43 : Nat) ({ cls := "FairRunsModel", name := "two", desc := "(I)I" } : Jvm.MethodName)) ∈ lw_all := lw_g (lw_at lw_m2 5 rfl) rfl
theorem q275 : (Jvm.Cond.methodLink "FairRunsLaw" (47 : Nat) ({ cls := "FairRunsModel", name := "discard", desc := "()V" } : Jvm.MethodName)) ∈ lw_all := lw_g (lw_at lw_m2 9 rfl) rfl
theorem q279 : (Jvm.Cond.methodLink "FairRunsLaw" (51 : Nat) ({ cls := "FairRunsModel", name := "depth", desc := "()I" } : Jvm.MethodName)) ∈ lw_all := lw_g (lw_at lw_m2 13 rfl) rfl
theorem q283 : (Jvm.Cond.methodLink "FairRunsLaw" (55 : Nat) ({ cls := "FairRunsModel", name := "holds", desc := "()I" } : Jvm.MethodName)) ∈ lw_all := lw_g (lw_at lw_m2 17 rfl) rfl
theorem q315 : (Jvm.Cond.methodLink "FairRunsLaw" (60 : Nat) ({ cls := "FairRunsModel", name := "alike", desc := "()Z" } : Jvm.MethodName)) ∈ lw_all := lw_g (lw_at lw_m2 49 rfl) rfl
theorem q319 : (Jvm.Cond.methodLink "FairRunsLaw" (64 : Nat) ({ cls := "FairRunsModel", name := "fair", desc := "()I" } : Jvm.MethodName)) ∈ lw_all := lw_g (lw_at lw_m2 53 rfl) rfl
theorem q323 : (Jvm.Cond.methodLink "FairRunsLaw" (68 : Nat) ({ cls := "FairRunsModel", name := "reach", desc := "(I)I" } : Jvm.MethodName)) ∈ lw_all := lw_g (lw_at lw_m2 57 rfl) rfl
theorem q331 : (Jvm.Cond.methodLink "FairRunsLaw" (72 : Nat) ({ cls := "FairRunsModel", name := "steps", desc := "(I)I" } : Jvm.MethodName)) ∈ lw_all := lw_g (lw_at lw_m2 65 rfl) rfl
theorem q336 : (Jvm.Cond.methodLink "FairRunsLaw" (76 : Nat) ({ cls := "FairRunsModel", name := "knots", desc := "()I" } : Jvm.MethodName)) ∈ lw_all := lw_g (lw_at lw_m2 70 rfl) rfl

/-! the law's own entry -/
set_option maxRecDepth 100000
abbrev cL_law : ByteArray := code
end
section
set_option maxRecDepth 100000
theorem dX0_init_0 : decode cX0_init 0 = .ok (.aload_n 0, 1) := by decide +kernel
theorem dX0_init_1 : decode cX0_init 1 = .ok (.invokespecial 1, 3) := by decide +kernel
theorem dX0_init_4 : decode cX0_init 4 = .ok (.aload_n 0, 1) := by decide +kernel
theorem dX0_init_5 : decode cX0_init 5 = .ok (.bipush 8, 2) := by decide +kernel
theorem dX0_init_7 : decode cX0_init 7 = .ok (.newarray .int, 2) := by decide +kernel
theorem dX0_init_9 : decode cX0_init 9 = .ok (.putfield 7, 3) := by decide +kernel
theorem dX0_init_12 : decode cX0_init 12 = .ok (.aload_n 0, 1) := by decide +kernel
theorem dX0_init_13 : decode cX0_init 13 = .ok (.iconst 4, 1) := by decide +kernel
theorem dX0_init_14 : decode cX0_init 14 = .ok (.newarray .int, 2) := by decide +kernel
theorem dX0_init_16 : decode cX0_init 16 = .ok (.putfield 13, 3) := by decide +kernel
theorem dX0_init_19 : decode cX0_init 19 = .ok (.aload_n 0, 1) := by decide +kernel
theorem dX0_init_20 : decode cX0_init 20 = .ok (.iconst 3, 1) := by decide +kernel
theorem dX0_init_21 : decode cX0_init 21 = .ok (.newarray .int, 2) := by decide +kernel
theorem dX0_init_23 : decode cX0_init 23 = .ok (.putfield 16, 3) := by decide +kernel
theorem dX0_init_26 : decode cX0_init 26 = .ok (.aload_n 0, 1) := by decide +kernel
theorem dX0_init_27 : decode cX0_init 27 = .ok (.bipush 20, 2) := by decide +kernel
theorem dX0_init_29 : decode cX0_init 29 = .ok (.newarray .int, 2) := by decide +kernel
theorem dX0_init_31 : decode cX0_init 31 = .ok (.putfield 19, 3) := by decide +kernel
theorem dX0_init_34 : decode cX0_init 34 = .ok (.aload_n 0, 1) := by decide +kernel
theorem dX0_init_35 : decode cX0_init 35 = .ok (.bipush 20, 2) := by decide +kernel
theorem dX0_init_37 : decode cX0_init 37 = .ok (.newarray .int, 2) := by decide +kernel
theorem dX0_init_39 : decode cX0_init 39 = .ok (.putfield 22, 3) := by decide +kernel
theorem dX0_init_42 : decode cX0_init 42 = .ok (.aload_n 0, 1) := by decide +kernel
theorem dX0_init_43 : decode cX0_init 43 = .ok (.bipush 20, 2) := by decide +kernel
theorem dX0_init_45 : decode cX0_init 45 = .ok (.newarray .int, 2) := by decide +kernel
theorem dX0_init_47 : decode cX0_init 47 = .ok (.putfield 25, 3) := by decide +kernel
theorem dX0_init_50 : decode cX0_init 50 = .ok (.aload_n 0, 1) := by decide +kernel
theorem dX0_init_51 : decode cX0_init 51 = .ok (.bipush 20, 2) := by decide +kernel
theorem dX0_init_53 : decode cX0_init 53 = .ok (.newarray .int, 2) := by decide +kernel
theorem dX0_init_55 : decode cX0_init 55 = .ok (.putfield 28, 3) := by decide +kernel
theorem dX0_init_58 : decode cX0_init 58 = .ok (.aload_n 0, 1) := by decide +kernel
theorem dX0_init_59 : decode cX0_init 59 = .ok (.bipush 6, 2) := by decide +kernel
theorem dX0_init_61 : decode cX0_init 61 = .ok (.newarray .int, 2) := by decide +kernel
theorem dX0_init_63 : decode cX0_init 63 = .ok (.putfield 31, 3) := by decide +kernel
theorem dX0_init_66 : decode cX0_init 66 = .ok (.aload_n 0, 1) := by decide +kernel
theorem dX0_init_67 : decode cX0_init 67 = .ok (.bipush 8, 2) := by decide +kernel
theorem dX0_init_69 : decode cX0_init 69 = .ok (.newarray .int, 2) := by decide +kernel
theorem dX0_init_71 : decode cX0_init 71 = .ok (.putfield 34, 3) := by decide +kernel
theorem dX0_init_74 : decode cX0_init 74 = .ok (.return_, 1) := by decide +kernel
theorem dX0_arcs_0 : decode cX0_arcs 0 = .ok (.aload_n 0, 1) := by decide +kernel
theorem dX0_arcs_1 : decode cX0_arcs 1 = .ok (.iload_n 1, 1) := by decide +kernel
theorem dX0_arcs_2 : decode cX0_arcs 2 = .ok (.invokevirtual 37, 3) := by decide +kernel
theorem dX0_arcs_5 : decode cX0_arcs 5 = .ok (.ifCond .ne 11, 3) := by decide +kernel
theorem dX0_arcs_8 : decode cX0_arcs 8 = .ok (.aload_n 0, 1) := by decide +kernel
theorem dX0_arcs_9 : decode cX0_arcs 9 = .ok (.iload_n 2, 1) := by decide +kernel
theorem dX0_arcs_10 : decode cX0_arcs 10 = .ok (.invokevirtual 41, 3) := by decide +kernel
theorem dX0_arcs_13 : decode cX0_arcs 13 = .ok (.ifCond .eq 5, 3) := by decide +kernel
theorem dX0_arcs_16 : decode cX0_arcs 16 = .ok (.iconst (-1), 1) := by decide +kernel
theorem dX0_arcs_17 : decode cX0_arcs 17 = .ok (.ireturn, 1) := by decide +kernel
theorem dX0_arcs_18 : decode cX0_arcs 18 = .ok (.aload_n 0, 1) := by decide +kernel
theorem dX0_arcs_19 : decode cX0_arcs 19 = .ok (.getfield 7, 3) := by decide +kernel
theorem dX0_arcs_22 : decode cX0_arcs 22 = .ok (.iload_n 1, 1) := by decide +kernel
theorem dX0_arcs_23 : decode cX0_arcs 23 = .ok (.iaload, 1) := by decide +kernel
theorem dX0_arcs_24 : decode cX0_arcs 24 = .ok (.istore_n 3, 1) := by decide +kernel
theorem dX0_arcs_25 : decode cX0_arcs 25 = .ok (.aload_n 0, 1) := by decide +kernel
theorem dX0_arcs_26 : decode cX0_arcs 26 = .ok (.getfield 7, 3) := by decide +kernel
theorem dX0_arcs_29 : decode cX0_arcs 29 = .ok (.iload_n 1, 1) := by decide +kernel
theorem dX0_arcs_30 : decode cX0_arcs 30 = .ok (.iload_n 2, 1) := by decide +kernel
theorem dX0_arcs_31 : decode cX0_arcs 31 = .ok (.iastore, 1) := by decide +kernel
theorem dX0_arcs_32 : decode cX0_arcs 32 = .ok (.iload_n 3, 1) := by decide +kernel
theorem dX0_arcs_33 : decode cX0_arcs 33 = .ok (.ireturn, 1) := by decide +kernel
theorem dX0_badState_0 : decode cX0_badState 0 = .ok (.iload_n 1, 1) := by decide +kernel
theorem dX0_badState_1 : decode cX0_badState 1 = .ok (.ifCond .lt 9, 3) := by decide +kernel
theorem dX0_badState_4 : decode cX0_badState 4 = .ok (.iload_n 1, 1) := by decide +kernel
theorem dX0_badState_5 : decode cX0_badState 5 = .ok (.bipush 8, 2) := by decide +kernel
theorem dX0_badState_7 : decode cX0_badState 7 = .ok (.if_icmp .lt 7, 3) := by decide +kernel
theorem dX0_badState_10 : decode cX0_badState 10 = .ok (.iconst 1, 1) := by decide +kernel
theorem dX0_badState_11 : decode cX0_badState 11 = .ok (.goto 4, 3) := by decide +kernel
theorem dX0_badState_14 : decode cX0_badState 14 = .ok (.iconst 0, 1) := by decide +kernel
theorem dX0_badState_15 : decode cX0_badState 15 = .ok (.ireturn, 1) := by decide +kernel
theorem dX0_badSet_0 : decode cX0_badSet 0 = .ok (.iload_n 1, 1) := by decide +kernel
theorem dX0_badSet_1 : decode cX0_badSet 1 = .ok (.ifCond .lt 10, 3) := by decide +kernel
theorem dX0_badSet_4 : decode cX0_badSet 4 = .ok (.iload_n 1, 1) := by decide +kernel
theorem dX0_badSet_5 : decode cX0_badSet 5 = .ok (.sipush 255, 3) := by decide +kernel
theorem dX0_badSet_8 : decode cX0_badSet 8 = .ok (.if_icmp .le 7, 3) := by decide +kernel
theorem dX0_badSet_11 : decode cX0_badSet 11 = .ok (.iconst 1, 1) := by decide +kernel
theorem dX0_badSet_12 : decode cX0_badSet 12 = .ok (.goto 4, 3) := by decide +kernel
theorem dX0_badSet_15 : decode cX0_badSet 15 = .ok (.iconst 0, 1) := by decide +kernel
theorem dX0_badSet_16 : decode cX0_badSet 16 = .ok (.ireturn, 1) := by decide +kernel
theorem dX0_mark_0 : decode cX0_mark 0 = .ok (.iload_n 1, 1) := by decide +kernel
theorem dX0_mark_1 : decode cX0_mark 1 = .ok (.ifCond .lt 16, 3) := by decide +kernel
theorem dX0_mark_4 : decode cX0_mark 4 = .ok (.iload_n 1, 1) := by decide +kernel
theorem dX0_mark_5 : decode cX0_mark 5 = .ok (.iconst 3, 1) := by decide +kernel
theorem dX0_mark_6 : decode cX0_mark 6 = .ok (.if_icmp .gt 11, 3) := by decide +kernel
theorem dX0_mark_9 : decode cX0_mark 9 = .ok (.aload_n 0, 1) := by decide +kernel
theorem dX0_mark_10 : decode cX0_mark 10 = .ok (.iload_n 2, 1) := by decide +kernel
theorem dX0_mark_11 : decode cX0_mark 11 = .ok (.invokevirtual 41, 3) := by decide +kernel
theorem dX0_mark_14 : decode cX0_mark 14 = .ok (.ifCond .eq 5, 3) := by decide +kernel
theorem dX0_mark_17 : decode cX0_mark 17 = .ok (.iconst (-1), 1) := by decide +kernel
theorem dX0_mark_18 : decode cX0_mark 18 = .ok (.ireturn, 1) := by decide +kernel
theorem dX0_mark_19 : decode cX0_mark 19 = .ok (.aload_n 0, 1) := by decide +kernel
theorem dX0_mark_20 : decode cX0_mark 20 = .ok (.getfield 13, 3) := by decide +kernel
theorem dX0_mark_23 : decode cX0_mark 23 = .ok (.iload_n 1, 1) := by decide +kernel
theorem dX0_mark_24 : decode cX0_mark 24 = .ok (.iaload, 1) := by decide +kernel
theorem dX0_mark_25 : decode cX0_mark 25 = .ok (.istore_n 3, 1) := by decide +kernel
theorem dX0_mark_26 : decode cX0_mark 26 = .ok (.aload_n 0, 1) := by decide +kernel
theorem dX0_mark_27 : decode cX0_mark 27 = .ok (.getfield 13, 3) := by decide +kernel
theorem dX0_mark_30 : decode cX0_mark 30 = .ok (.iload_n 1, 1) := by decide +kernel
theorem dX0_mark_31 : decode cX0_mark 31 = .ok (.iload_n 2, 1) := by decide +kernel
theorem dX0_mark_32 : decode cX0_mark 32 = .ok (.iastore, 1) := by decide +kernel
theorem dX0_mark_33 : decode cX0_mark 33 = .ok (.iload_n 3, 1) := by decide +kernel
theorem dX0_mark_34 : decode cX0_mark 34 = .ok (.ireturn, 1) := by decide +kernel
theorem dX0_demand_0 : decode cX0_demand 0 = .ok (.aload_n 0, 1) := by decide +kernel
theorem dX0_demand_1 : decode cX0_demand 1 = .ok (.iload_n 1, 1) := by decide +kernel
theorem dX0_demand_2 : decode cX0_demand 2 = .ok (.invokevirtual 41, 3) := by decide +kernel
theorem dX0_demand_5 : decode cX0_demand 5 = .ok (.ifCond .eq 5, 3) := by decide +kernel
theorem dX0_demand_8 : decode cX0_demand 8 = .ok (.iconst (-1), 1) := by decide +kernel
theorem dX0_demand_9 : decode cX0_demand 9 = .ok (.ireturn, 1) := by decide +kernel
theorem dX0_demand_10 : decode cX0_demand 10 = .ok (.aload_n 0, 1) := by decide +kernel
theorem dX0_demand_11 : decode cX0_demand 11 = .ok (.getfield 44, 3) := by decide +kernel
theorem dX0_demand_14 : decode cX0_demand 14 = .ok (.iconst 3, 1) := by decide +kernel
theorem dX0_demand_15 : decode cX0_demand 15 = .ok (.if_icmp .ne 6, 3) := by decide +kernel
theorem dX0_demand_18 : decode cX0_demand 18 = .ok (.bipush (-2), 2) := by decide +kernel
theorem dX0_demand_20 : decode cX0_demand 20 = .ok (.ireturn, 1) := by decide +kernel
theorem dX0_demand_21 : decode cX0_demand 21 = .ok (.aload_n 0, 1) := by decide +kernel
theorem dX0_demand_22 : decode cX0_demand 22 = .ok (.getfield 16, 3) := by decide +kernel
theorem dX0_demand_25 : decode cX0_demand 25 = .ok (.aload_n 0, 1) := by decide +kernel
theorem dX0_demand_26 : decode cX0_demand 26 = .ok (.getfield 44, 3) := by decide +kernel
theorem dX0_demand_29 : decode cX0_demand 29 = .ok (.iload_n 1, 1) := by decide +kernel
theorem dX0_demand_30 : decode cX0_demand 30 = .ok (.iastore, 1) := by decide +kernel
theorem dX0_demand_31 : decode cX0_demand 31 = .ok (.aload_n 0, 1) := by decide +kernel
theorem dX0_demand_32 : decode cX0_demand 32 = .ok (.dup, 1) := by decide +kernel
theorem dX0_demand_33 : decode cX0_demand 33 = .ok (.getfield 44, 3) := by decide +kernel
theorem dX0_demand_36 : decode cX0_demand 36 = .ok (.iconst 1, 1) := by decide +kernel
theorem dX0_demand_37 : decode cX0_demand 37 = .ok (.iadd, 1) := by decide +kernel
theorem dX0_demand_38 : decode cX0_demand 38 = .ok (.putfield 44, 3) := by decide +kernel
theorem dX0_demand_41 : decode cX0_demand 41 = .ok (.aload_n 0, 1) := by decide +kernel
theorem dX0_demand_42 : decode cX0_demand 42 = .ok (.getfield 44, 3) := by decide +kernel
theorem dX0_demand_45 : decode cX0_demand 45 = .ok (.ireturn, 1) := by decide +kernel
theorem dX0_undemand_0 : decode cX0_undemand 0 = .ok (.aload_n 0, 1) := by decide +kernel
theorem dX0_undemand_1 : decode cX0_undemand 1 = .ok (.getfield 44, 3) := by decide +kernel
theorem dX0_undemand_4 : decode cX0_undemand 4 = .ok (.ifCond .ne 6, 3) := by decide +kernel
theorem dX0_undemand_7 : decode cX0_undemand 7 = .ok (.bipush (-4), 2) := by decide +kernel
theorem dX0_undemand_9 : decode cX0_undemand 9 = .ok (.ireturn, 1) := by decide +kernel
theorem dX0_undemand_10 : decode cX0_undemand 10 = .ok (.aload_n 0, 1) := by decide +kernel
theorem dX0_undemand_11 : decode cX0_undemand 11 = .ok (.dup, 1) := by decide +kernel
theorem dX0_undemand_12 : decode cX0_undemand 12 = .ok (.getfield 44, 3) := by decide +kernel
theorem dX0_undemand_15 : decode cX0_undemand 15 = .ok (.iconst 1, 1) := by decide +kernel
theorem dX0_undemand_16 : decode cX0_undemand 16 = .ok (.isub, 1) := by decide +kernel
theorem dX0_undemand_17 : decode cX0_undemand 17 = .ok (.putfield 44, 3) := by decide +kernel
theorem dX0_undemand_20 : decode cX0_undemand 20 = .ok (.aload_n 0, 1) := by decide +kernel
theorem dX0_undemand_21 : decode cX0_undemand 21 = .ok (.getfield 16, 3) := by decide +kernel
theorem dX0_undemand_24 : decode cX0_undemand 24 = .ok (.aload_n 0, 1) := by decide +kernel
theorem dX0_undemand_25 : decode cX0_undemand 25 = .ok (.getfield 44, 3) := by decide +kernel
theorem dX0_undemand_28 : decode cX0_undemand 28 = .ok (.iaload, 1) := by decide +kernel
theorem dX0_undemand_29 : decode cX0_undemand 29 = .ok (.ireturn, 1) := by decide +kernel
theorem dX0_push_0 : decode cX0_push 0 = .ok (.iload_n 1, 1) := by decide +kernel
theorem dX0_push_1 : decode cX0_push 1 = .ok (.ifCond .lt 8, 3) := by decide +kernel
theorem dX0_push_4 : decode cX0_push 4 = .ok (.iload_n 1, 1) := by decide +kernel
theorem dX0_push_5 : decode cX0_push 5 = .ok (.iconst 3, 1) := by decide +kernel
theorem dX0_push_6 : decode cX0_push 6 = .ok (.if_icmp .le 5, 3) := by decide +kernel
theorem dX0_push_9 : decode cX0_push 9 = .ok (.iconst (-1), 1) := by decide +kernel
theorem dX0_push_10 : decode cX0_push 10 = .ok (.ireturn, 1) := by decide +kernel
theorem dX0_push_11 : decode cX0_push 11 = .ok (.aload_n 0, 1) := by decide +kernel
theorem dX0_push_12 : decode cX0_push 12 = .ok (.getfield 51, 3) := by decide +kernel
theorem dX0_push_15 : decode cX0_push 15 = .ok (.bipush 6, 2) := by decide +kernel
theorem dX0_push_17 : decode cX0_push 17 = .ok (.if_icmp .eq 12, 3) := by decide +kernel
theorem dX0_push_20 : decode cX0_push 20 = .ok (.aload_n 0, 1) := by decide +kernel
theorem dX0_push_21 : decode cX0_push 21 = .ok (.getfield 48, 3) := by decide +kernel
theorem dX0_push_24 : decode cX0_push 24 = .ok (.bipush 20, 2) := by decide +kernel
theorem dX0_push_26 : decode cX0_push 26 = .ok (.if_icmp .ne 6, 3) := by decide +kernel
theorem dX0_push_29 : decode cX0_push 29 = .ok (.bipush (-2), 2) := by decide +kernel
theorem dX0_push_31 : decode cX0_push 31 = .ok (.ireturn, 1) := by decide +kernel
theorem dX0_push_32 : decode cX0_push 32 = .ok (.aload_n 0, 1) := by decide +kernel
theorem dX0_push_33 : decode cX0_push 33 = .ok (.getfield 31, 3) := by decide +kernel
theorem dX0_push_36 : decode cX0_push 36 = .ok (.aload_n 0, 1) := by decide +kernel
theorem dX0_push_37 : decode cX0_push 37 = .ok (.getfield 51, 3) := by decide +kernel
theorem dX0_push_40 : decode cX0_push 40 = .ok (.aload_n 0, 1) := by decide +kernel
theorem dX0_push_41 : decode cX0_push 41 = .ok (.iconst 0, 1) := by decide +kernel
theorem dX0_push_42 : decode cX0_push 42 = .ok (.iload_n 1, 1) := by decide +kernel
theorem dX0_push_43 : decode cX0_push 43 = .ok (.iconst 0, 1) := by decide +kernel
theorem dX0_push_44 : decode cX0_push 44 = .ok (.invokevirtual 54, 3) := by decide +kernel
theorem dX0_push_47 : decode cX0_push 47 = .ok (.iastore, 1) := by decide +kernel
theorem dX0_push_48 : decode cX0_push 48 = .ok (.aload_n 0, 1) := by decide +kernel
theorem dX0_push_49 : decode cX0_push 49 = .ok (.dup, 1) := by decide +kernel
theorem dX0_push_50 : decode cX0_push 50 = .ok (.getfield 51, 3) := by decide +kernel
theorem dX0_push_53 : decode cX0_push 53 = .ok (.iconst 1, 1) := by decide +kernel
theorem dX0_push_54 : decode cX0_push 54 = .ok (.iadd, 1) := by decide +kernel
theorem dX0_push_55 : decode cX0_push 55 = .ok (.putfield 51, 3) := by decide +kernel
theorem dX0_push_58 : decode cX0_push 58 = .ok (.aload_n 0, 1) := by decide +kernel
theorem dX0_push_59 : decode cX0_push 59 = .ok (.getfield 51, 3) := by decide +kernel
theorem dX0_push_62 : decode cX0_push 62 = .ok (.ireturn, 1) := by decide +kernel
theorem dX0_make_0 : decode cX0_make 0 = .ok (.aload_n 0, 1) := by decide +kernel
theorem dX0_make_1 : decode cX0_make 1 = .ok (.getfield 19, 3) := by decide +kernel
theorem dX0_make_4 : decode cX0_make 4 = .ok (.aload_n 0, 1) := by decide +kernel
theorem dX0_make_5 : decode cX0_make 5 = .ok (.getfield 48, 3) := by decide +kernel
theorem dX0_make_8 : decode cX0_make 8 = .ok (.iload_n 1, 1) := by decide +kernel
theorem dX0_make_9 : decode cX0_make 9 = .ok (.iastore, 1) := by decide +kernel
theorem dX0_make_10 : decode cX0_make 10 = .ok (.aload_n 0, 1) := by decide +kernel
theorem dX0_make_11 : decode cX0_make 11 = .ok (.getfield 22, 3) := by decide +kernel
theorem dX0_make_14 : decode cX0_make 14 = .ok (.aload_n 0, 1) := by decide +kernel
theorem dX0_make_15 : decode cX0_make 15 = .ok (.getfield 48, 3) := by decide +kernel
theorem dX0_make_18 : decode cX0_make 18 = .ok (.iload_n 2, 1) := by decide +kernel
theorem dX0_make_19 : decode cX0_make 19 = .ok (.iastore, 1) := by decide +kernel
theorem dX0_make_20 : decode cX0_make 20 = .ok (.aload_n 0, 1) := by decide +kernel
theorem dX0_make_21 : decode cX0_make 21 = .ok (.getfield 25, 3) := by decide +kernel
theorem dX0_make_24 : decode cX0_make 24 = .ok (.aload_n 0, 1) := by decide +kernel
theorem dX0_make_25 : decode cX0_make 25 = .ok (.getfield 48, 3) := by decide +kernel
theorem dX0_make_28 : decode cX0_make 28 = .ok (.iload_n 3, 1) := by decide +kernel
theorem dX0_make_29 : decode cX0_make 29 = .ok (.iastore, 1) := by decide +kernel
theorem dX0_make_30 : decode cX0_make 30 = .ok (.aload_n 0, 1) := by decide +kernel
theorem dX0_make_31 : decode cX0_make 31 = .ok (.dup, 1) := by decide +kernel
theorem dX0_make_32 : decode cX0_make 32 = .ok (.getfield 48, 3) := by decide +kernel
theorem dX0_make_35 : decode cX0_make 35 = .ok (.iconst 1, 1) := by decide +kernel
theorem dX0_make_36 : decode cX0_make 36 = .ok (.iadd, 1) := by decide +kernel
theorem dX0_make_37 : decode cX0_make 37 = .ok (.putfield 48, 3) := by decide +kernel
theorem dX0_make_40 : decode cX0_make 40 = .ok (.aload_n 0, 1) := by decide +kernel
theorem dX0_make_41 : decode cX0_make 41 = .ok (.getfield 48, 3) := by decide +kernel
theorem dX0_make_44 : decode cX0_make 44 = .ok (.iconst 1, 1) := by decide +kernel
theorem dX0_make_45 : decode cX0_make 45 = .ok (.isub, 1) := by decide +kernel
theorem dX0_make_46 : decode cX0_make 46 = .ok (.ireturn, 1) := by decide +kernel
theorem dX0_one_0 : decode cX0_one 0 = .ok (.iload_n 1, 1) := by decide +kernel
theorem dX0_one_1 : decode cX0_one 1 = .ok (.ifCond .lt 9, 3) := by decide +kernel
theorem dX0_one_4 : decode cX0_one 4 = .ok (.iload_n 1, 1) := by decide +kernel
theorem dX0_one_5 : decode cX0_one 5 = .ok (.bipush 6, 2) := by decide +kernel
theorem dX0_one_7 : decode cX0_one 7 = .ok (.if_icmp .le 5, 3) := by decide +kernel
theorem dX0_one_10 : decode cX0_one 10 = .ok (.iconst (-1), 1) := by decide +kernel
theorem dX0_one_11 : decode cX0_one 11 = .ok (.ireturn, 1) := by decide +kernel
theorem dX0_one_12 : decode cX0_one 12 = .ok (.aload_n 0, 1) := by decide +kernel
theorem dX0_one_13 : decode cX0_one 13 = .ok (.getfield 51, 3) := by decide +kernel
theorem dX0_one_16 : decode cX0_one 16 = .ok (.ifCond .ne 6, 3) := by decide +kernel
theorem dX0_one_19 : decode cX0_one 19 = .ok (.bipush (-3), 2) := by decide +kernel
theorem dX0_one_21 : decode cX0_one 21 = .ok (.ireturn, 1) := by decide +kernel
theorem dX0_one_22 : decode cX0_one 22 = .ok (.aload_n 0, 1) := by decide +kernel
theorem dX0_one_23 : decode cX0_one 23 = .ok (.getfield 48, 3) := by decide +kernel
theorem dX0_one_26 : decode cX0_one 26 = .ok (.bipush 20, 2) := by decide +kernel
theorem dX0_one_28 : decode cX0_one 28 = .ok (.if_icmp .ne 6, 3) := by decide +kernel
theorem dX0_one_31 : decode cX0_one 31 = .ok (.bipush (-2), 2) := by decide +kernel
theorem dX0_one_33 : decode cX0_one 33 = .ok (.ireturn, 1) := by decide +kernel
theorem dX0_one_34 : decode cX0_one 34 = .ok (.aload_n 0, 1) := by decide +kernel
theorem dX0_one_35 : decode cX0_one 35 = .ok (.getfield 31, 3) := by decide +kernel
theorem dX0_one_38 : decode cX0_one 38 = .ok (.aload_n 0, 1) := by decide +kernel
theorem dX0_one_39 : decode cX0_one 39 = .ok (.getfield 51, 3) := by decide +kernel
theorem dX0_one_42 : decode cX0_one 42 = .ok (.iconst 1, 1) := by decide +kernel
theorem dX0_one_43 : decode cX0_one 43 = .ok (.isub, 1) := by decide +kernel
theorem dX0_one_44 : decode cX0_one 44 = .ok (.aload_n 0, 1) := by decide +kernel
theorem dX0_one_45 : decode cX0_one 45 = .ok (.iconst 1, 1) := by decide +kernel
theorem dX0_one_46 : decode cX0_one 46 = .ok (.iload_n 1, 1) := by decide +kernel
theorem dX0_one_47 : decode cX0_one 47 = .ok (.iadd, 1) := by decide +kernel
theorem dX0_one_48 : decode cX0_one 48 = .ok (.aload_n 0, 1) := by decide +kernel
theorem dX0_one_49 : decode cX0_one 49 = .ok (.getfield 31, 3) := by decide +kernel
theorem dX0_one_52 : decode cX0_one 52 = .ok (.aload_n 0, 1) := by decide +kernel
theorem dX0_one_53 : decode cX0_one 53 = .ok (.getfield 51, 3) := by decide +kernel
theorem dX0_one_56 : decode cX0_one 56 = .ok (.iconst 1, 1) := by decide +kernel
theorem dX0_one_57 : decode cX0_one 57 = .ok (.isub, 1) := by decide +kernel
theorem dX0_one_58 : decode cX0_one 58 = .ok (.iaload, 1) := by decide +kernel
theorem dX0_one_59 : decode cX0_one 59 = .ok (.iconst 0, 1) := by decide +kernel
theorem dX0_one_60 : decode cX0_one 60 = .ok (.invokevirtual 54, 3) := by decide +kernel
theorem dX0_one_63 : decode cX0_one 63 = .ok (.iastore, 1) := by decide +kernel
theorem dX0_one_64 : decode cX0_one 64 = .ok (.aload_n 0, 1) := by decide +kernel
theorem dX0_one_65 : decode cX0_one 65 = .ok (.getfield 51, 3) := by decide +kernel
theorem dX0_one_68 : decode cX0_one 68 = .ok (.ireturn, 1) := by decide +kernel
theorem dX0_two_0 : decode cX0_two 0 = .ok (.iload_n 1, 1) := by decide +kernel
theorem dX0_two_1 : decode cX0_two 1 = .ok (.ifCond .lt 8, 3) := by decide +kernel
theorem dX0_two_4 : decode cX0_two 4 = .ok (.iload_n 1, 1) := by decide +kernel
theorem dX0_two_5 : decode cX0_two 5 = .ok (.iconst 3, 1) := by decide +kernel
theorem dX0_two_6 : decode cX0_two 6 = .ok (.if_icmp .le 5, 3) := by decide +kernel
theorem dX0_two_9 : decode cX0_two 9 = .ok (.iconst (-1), 1) := by decide +kernel
theorem dX0_two_10 : decode cX0_two 10 = .ok (.ireturn, 1) := by decide +kernel
theorem dX0_two_11 : decode cX0_two 11 = .ok (.aload_n 0, 1) := by decide +kernel
theorem dX0_two_12 : decode cX0_two 12 = .ok (.getfield 51, 3) := by decide +kernel
theorem dX0_two_15 : decode cX0_two 15 = .ok (.iconst 2, 1) := by decide +kernel
theorem dX0_two_16 : decode cX0_two 16 = .ok (.if_icmp .ge 6, 3) := by decide +kernel
theorem dX0_two_19 : decode cX0_two 19 = .ok (.bipush (-3), 2) := by decide +kernel
theorem dX0_two_21 : decode cX0_two 21 = .ok (.ireturn, 1) := by decide +kernel
theorem dX0_two_22 : decode cX0_two 22 = .ok (.aload_n 0, 1) := by decide +kernel
theorem dX0_two_23 : decode cX0_two 23 = .ok (.getfield 48, 3) := by decide +kernel
theorem dX0_two_26 : decode cX0_two 26 = .ok (.bipush 20, 2) := by decide +kernel
theorem dX0_two_28 : decode cX0_two 28 = .ok (.if_icmp .ne 6, 3) := by decide +kernel
theorem dX0_two_31 : decode cX0_two 31 = .ok (.bipush (-2), 2) := by decide +kernel
theorem dX0_two_33 : decode cX0_two 33 = .ok (.ireturn, 1) := by decide +kernel
theorem dX0_two_34 : decode cX0_two 34 = .ok (.aload_n 0, 1) := by decide +kernel
theorem dX0_two_35 : decode cX0_two 35 = .ok (.dup, 1) := by decide +kernel
theorem dX0_two_36 : decode cX0_two 36 = .ok (.getfield 51, 3) := by decide +kernel
theorem dX0_two_39 : decode cX0_two 39 = .ok (.iconst 1, 1) := by decide +kernel
theorem dX0_two_40 : decode cX0_two 40 = .ok (.isub, 1) := by decide +kernel
theorem dX0_two_41 : decode cX0_two 41 = .ok (.putfield 51, 3) := by decide +kernel
theorem dX0_two_44 : decode cX0_two 44 = .ok (.aload_n 0, 1) := by decide +kernel
theorem dX0_two_45 : decode cX0_two 45 = .ok (.getfield 31, 3) := by decide +kernel
theorem dX0_two_48 : decode cX0_two 48 = .ok (.aload_n 0, 1) := by decide +kernel
theorem dX0_two_49 : decode cX0_two 49 = .ok (.getfield 51, 3) := by decide +kernel
theorem dX0_two_52 : decode cX0_two 52 = .ok (.iconst 1, 1) := by decide +kernel
theorem dX0_two_53 : decode cX0_two 53 = .ok (.isub, 1) := by decide +kernel
theorem dX0_two_54 : decode cX0_two 54 = .ok (.aload_n 0, 1) := by decide +kernel
theorem dX0_two_55 : decode cX0_two 55 = .ok (.bipush 8, 2) := by decide +kernel
theorem dX0_two_57 : decode cX0_two 57 = .ok (.iload_n 1, 1) := by decide +kernel
theorem dX0_two_58 : decode cX0_two 58 = .ok (.iadd, 1) := by decide +kernel
theorem dX0_two_59 : decode cX0_two 59 = .ok (.aload_n 0, 1) := by decide +kernel
theorem dX0_two_60 : decode cX0_two 60 = .ok (.getfield 31, 3) := by decide +kernel
theorem dX0_two_63 : decode cX0_two 63 = .ok (.aload_n 0, 1) := by decide +kernel
theorem dX0_two_64 : decode cX0_two 64 = .ok (.getfield 51, 3) := by decide +kernel
theorem dX0_two_67 : decode cX0_two 67 = .ok (.iconst 1, 1) := by decide +kernel
theorem dX0_two_68 : decode cX0_two 68 = .ok (.isub, 1) := by decide +kernel
theorem dX0_two_69 : decode cX0_two 69 = .ok (.iaload, 1) := by decide +kernel
theorem dX0_two_70 : decode cX0_two 70 = .ok (.aload_n 0, 1) := by decide +kernel
theorem dX0_two_71 : decode cX0_two 71 = .ok (.getfield 31, 3) := by decide +kernel
theorem dX0_two_74 : decode cX0_two 74 = .ok (.aload_n 0, 1) := by decide +kernel
theorem dX0_two_75 : decode cX0_two 75 = .ok (.getfield 51, 3) := by decide +kernel
theorem dX0_two_78 : decode cX0_two 78 = .ok (.iaload, 1) := by decide +kernel
theorem dX0_two_79 : decode cX0_two 79 = .ok (.invokevirtual 54, 3) := by decide +kernel
end
section
set_option maxRecDepth 100000
theorem dX0_two_82 : decode cX0_two 82 = .ok (.iastore, 1) := by decide +kernel
theorem dX0_two_83 : decode cX0_two 83 = .ok (.aload_n 0, 1) := by decide +kernel
theorem dX0_two_84 : decode cX0_two 84 = .ok (.getfield 51, 3) := by decide +kernel
theorem dX0_two_87 : decode cX0_two 87 = .ok (.ireturn, 1) := by decide +kernel
theorem dX0_discard_0 : decode cX0_discard 0 = .ok (.aload_n 0, 1) := by decide +kernel
theorem dX0_discard_1 : decode cX0_discard 1 = .ok (.iconst 0, 1) := by decide +kernel
theorem dX0_discard_2 : decode cX0_discard 2 = .ok (.putfield 51, 3) := by decide +kernel
theorem dX0_discard_5 : decode cX0_discard 5 = .ok (.aload_n 0, 1) := by decide +kernel
theorem dX0_discard_6 : decode cX0_discard 6 = .ok (.iconst 0, 1) := by decide +kernel
theorem dX0_discard_7 : decode cX0_discard 7 = .ok (.putfield 48, 3) := by decide +kernel
theorem dX0_discard_10 : decode cX0_discard 10 = .ok (.return_, 1) := by decide +kernel
theorem dX0_depth_0 : decode cX0_depth 0 = .ok (.aload_n 0, 1) := by decide +kernel
theorem dX0_depth_1 : decode cX0_depth 1 = .ok (.getfield 51, 3) := by decide +kernel
theorem dX0_depth_4 : decode cX0_depth 4 = .ok (.ireturn, 1) := by decide +kernel
theorem dX0_holds_0 : decode cX0_holds 0 = .ok (.aload_n 0, 1) := by decide +kernel
theorem dX0_holds_1 : decode cX0_holds 1 = .ok (.getfield 51, 3) := by decide +kernel
theorem dX0_holds_4 : decode cX0_holds 4 = .ok (.ifCond .ne 8, 3) := by decide +kernel
theorem dX0_holds_7 : decode cX0_holds 7 = .ok (.bipush (-4), 2) := by decide +kernel
theorem dX0_holds_9 : decode cX0_holds 9 = .ok (.goto 18, 3) := by decide +kernel
theorem dX0_holds_12 : decode cX0_holds 12 = .ok (.aload_n 0, 1) := by decide +kernel
theorem dX0_holds_13 : decode cX0_holds 13 = .ok (.aload_n 0, 1) := by decide +kernel
theorem dX0_holds_14 : decode cX0_holds 14 = .ok (.getfield 31, 3) := by decide +kernel
theorem dX0_holds_17 : decode cX0_holds 17 = .ok (.aload_n 0, 1) := by decide +kernel
theorem dX0_holds_18 : decode cX0_holds 18 = .ok (.getfield 51, 3) := by decide +kernel
theorem dX0_holds_21 : decode cX0_holds 21 = .ok (.iconst 1, 1) := by decide +kernel
theorem dX0_holds_22 : decode cX0_holds 22 = .ok (.isub, 1) := by decide +kernel
theorem dX0_holds_23 : decode cX0_holds 23 = .ok (.iaload, 1) := by decide +kernel
theorem dX0_holds_24 : decode cX0_holds 24 = .ok (.invokevirtual 94, 3) := by decide +kernel
theorem dX0_holds_27 : decode cX0_holds 27 = .ok (.ireturn, 1) := by decide +kernel
theorem dX0_valueOf_0 : decode cX0_valueOf 0 = .ok (.iconst 0, 1) := by decide +kernel
theorem dX0_valueOf_1 : decode cX0_valueOf 1 = .ok (.istore_n 2, 1) := by decide +kernel
theorem dX0_valueOf_2 : decode cX0_valueOf 2 = .ok (.iload_n 2, 1) := by decide +kernel
theorem dX0_valueOf_3 : decode cX0_valueOf 3 = .ok (.iload_n 1, 1) := by decide +kernel
theorem dX0_valueOf_4 : decode cX0_valueOf 4 = .ok (.if_icmp .gt 104, 3) := by decide +kernel
theorem dX0_valueOf_7 : decode cX0_valueOf 7 = .ok (.aload_n 0, 1) := by decide +kernel
theorem dX0_valueOf_8 : decode cX0_valueOf 8 = .ok (.getfield 19, 3) := by decide +kernel
theorem dX0_valueOf_11 : decode cX0_valueOf 11 = .ok (.iload_n 2, 1) := by decide +kernel
theorem dX0_valueOf_12 : decode cX0_valueOf 12 = .ok (.iaload, 1) := by decide +kernel
theorem dX0_valueOf_13 : decode cX0_valueOf 13 = .ok (.istore_n 3, 1) := by decide +kernel
theorem dX0_valueOf_14 : decode cX0_valueOf 14 = .ok (.iload_n 3, 1) := by decide +kernel
theorem dX0_valueOf_15 : decode cX0_valueOf 15 = .ok (.ifCond .ne 23, 3) := by decide +kernel
theorem dX0_valueOf_18 : decode cX0_valueOf 18 = .ok (.aload_n 0, 1) := by decide +kernel
theorem dX0_valueOf_19 : decode cX0_valueOf 19 = .ok (.getfield 28, 3) := by decide +kernel
theorem dX0_valueOf_22 : decode cX0_valueOf 22 = .ok (.iload_n 2, 1) := by decide +kernel
theorem dX0_valueOf_23 : decode cX0_valueOf 23 = .ok (.aload_n 0, 1) := by decide +kernel
theorem dX0_valueOf_24 : decode cX0_valueOf 24 = .ok (.getfield 13, 3) := by decide +kernel
theorem dX0_valueOf_27 : decode cX0_valueOf 27 = .ok (.aload_n 0, 1) := by decide +kernel
theorem dX0_valueOf_28 : decode cX0_valueOf 28 = .ok (.getfield 22, 3) := by decide +kernel
theorem dX0_valueOf_31 : decode cX0_valueOf 31 = .ok (.iload_n 2, 1) := by decide +kernel
theorem dX0_valueOf_32 : decode cX0_valueOf 32 = .ok (.iaload, 1) := by decide +kernel
theorem dX0_valueOf_33 : decode cX0_valueOf 33 = .ok (.iaload, 1) := by decide +kernel
theorem dX0_valueOf_34 : decode cX0_valueOf 34 = .ok (.iastore, 1) := by decide +kernel
theorem dX0_valueOf_35 : decode cX0_valueOf 35 = .ok (.goto 67, 3) := by decide +kernel
theorem dX0_valueOf_38 : decode cX0_valueOf 38 = .ok (.iload_n 3, 1) := by decide +kernel
theorem dX0_valueOf_39 : decode cX0_valueOf 39 = .ok (.bipush 8, 2) := by decide +kernel
theorem dX0_valueOf_41 : decode cX0_valueOf 41 = .ok (.if_icmp .ge 28, 3) := by decide +kernel
theorem dX0_valueOf_44 : decode cX0_valueOf 44 = .ok (.aload_n 0, 1) := by decide +kernel
theorem dX0_valueOf_45 : decode cX0_valueOf 45 = .ok (.getfield 28, 3) := by decide +kernel
theorem dX0_valueOf_48 : decode cX0_valueOf 48 = .ok (.iload_n 2, 1) := by decide +kernel
theorem dX0_valueOf_49 : decode cX0_valueOf 49 = .ok (.aload_n 0, 1) := by decide +kernel
theorem dX0_valueOf_50 : decode cX0_valueOf 50 = .ok (.iload_n 3, 1) := by decide +kernel
theorem dX0_valueOf_51 : decode cX0_valueOf 51 = .ok (.aload_n 0, 1) := by decide +kernel
theorem dX0_valueOf_52 : decode cX0_valueOf 52 = .ok (.getfield 28, 3) := by decide +kernel
theorem dX0_valueOf_55 : decode cX0_valueOf 55 = .ok (.aload_n 0, 1) := by decide +kernel
theorem dX0_valueOf_56 : decode cX0_valueOf 56 = .ok (.getfield 22, 3) := by decide +kernel
theorem dX0_valueOf_59 : decode cX0_valueOf 59 = .ok (.iload_n 2, 1) := by decide +kernel
theorem dX0_valueOf_60 : decode cX0_valueOf 60 = .ok (.iaload, 1) := by decide +kernel
theorem dX0_valueOf_61 : decode cX0_valueOf 61 = .ok (.iaload, 1) := by decide +kernel
theorem dX0_valueOf_62 : decode cX0_valueOf 62 = .ok (.invokevirtual 88, 3) := by decide +kernel
theorem dX0_valueOf_65 : decode cX0_valueOf 65 = .ok (.iastore, 1) := by decide +kernel
theorem dX0_valueOf_66 : decode cX0_valueOf 66 = .ok (.goto 36, 3) := by decide +kernel
theorem dX0_valueOf_69 : decode cX0_valueOf 69 = .ok (.aload_n 0, 1) := by decide +kernel
theorem dX0_valueOf_70 : decode cX0_valueOf 70 = .ok (.getfield 28, 3) := by decide +kernel
theorem dX0_valueOf_73 : decode cX0_valueOf 73 = .ok (.iload_n 2, 1) := by decide +kernel
theorem dX0_valueOf_74 : decode cX0_valueOf 74 = .ok (.aload_n 0, 1) := by decide +kernel
theorem dX0_valueOf_75 : decode cX0_valueOf 75 = .ok (.iload_n 3, 1) := by decide +kernel
theorem dX0_valueOf_76 : decode cX0_valueOf 76 = .ok (.aload_n 0, 1) := by decide +kernel
theorem dX0_valueOf_77 : decode cX0_valueOf 77 = .ok (.getfield 28, 3) := by decide +kernel
theorem dX0_valueOf_80 : decode cX0_valueOf 80 = .ok (.aload_n 0, 1) := by decide +kernel
theorem dX0_valueOf_81 : decode cX0_valueOf 81 = .ok (.getfield 22, 3) := by decide +kernel
theorem dX0_valueOf_84 : decode cX0_valueOf 84 = .ok (.iload_n 2, 1) := by decide +kernel
theorem dX0_valueOf_85 : decode cX0_valueOf 85 = .ok (.iaload, 1) := by decide +kernel
theorem dX0_valueOf_86 : decode cX0_valueOf 86 = .ok (.iaload, 1) := by decide +kernel
theorem dX0_valueOf_87 : decode cX0_valueOf 87 = .ok (.aload_n 0, 1) := by decide +kernel
theorem dX0_valueOf_88 : decode cX0_valueOf 88 = .ok (.getfield 28, 3) := by decide +kernel
theorem dX0_valueOf_91 : decode cX0_valueOf 91 = .ok (.aload_n 0, 1) := by decide +kernel
theorem dX0_valueOf_92 : decode cX0_valueOf 92 = .ok (.getfield 25, 3) := by decide +kernel
theorem dX0_valueOf_95 : decode cX0_valueOf 95 = .ok (.iload_n 2, 1) := by decide +kernel
theorem dX0_valueOf_96 : decode cX0_valueOf 96 = .ok (.iaload, 1) := by decide +kernel
theorem dX0_valueOf_97 : decode cX0_valueOf 97 = .ok (.iaload, 1) := by decide +kernel
theorem dX0_valueOf_98 : decode cX0_valueOf 98 = .ok (.invokevirtual 91, 3) := by decide +kernel
theorem dX0_valueOf_101 : decode cX0_valueOf 101 = .ok (.iastore, 1) := by decide +kernel
theorem dX0_valueOf_102 : decode cX0_valueOf 102 = .ok (.iinc 2 1, 3) := by decide +kernel
theorem dX0_valueOf_105 : decode cX0_valueOf 105 = .ok (.goto (-103), 3) := by decide +kernel
theorem dX0_valueOf_108 : decode cX0_valueOf 108 = .ok (.aload_n 0, 1) := by decide +kernel
theorem dX0_valueOf_109 : decode cX0_valueOf 109 = .ok (.getfield 28, 3) := by decide +kernel
theorem dX0_valueOf_112 : decode cX0_valueOf 112 = .ok (.iload_n 1, 1) := by decide +kernel
theorem dX0_valueOf_113 : decode cX0_valueOf 113 = .ok (.iaload, 1) := by decide +kernel
theorem dX0_valueOf_114 : decode cX0_valueOf 114 = .ok (.ireturn, 1) := by decide +kernel
theorem dX0_oneValue_0 : decode cX0_oneValue 0 = .ok (.sipush 255, 3) := by decide +kernel
theorem dX0_oneValue_3 : decode cX0_oneValue 3 = .ok (.iload_n 2, 1) := by decide +kernel
theorem dX0_oneValue_4 : decode cX0_oneValue 4 = .ok (.iconst (-1), 1) := by decide +kernel
theorem dX0_oneValue_5 : decode cX0_oneValue 5 = .ok (.ixor, 1) := by decide +kernel
theorem dX0_oneValue_6 : decode cX0_oneValue 6 = .ok (.iand, 1) := by decide +kernel
theorem dX0_oneValue_7 : decode cX0_oneValue 7 = .ok (.istore_n 3, 1) := by decide +kernel
theorem dX0_oneValue_8 : decode cX0_oneValue 8 = .ok (.iload_n 1, 1) := by decide +kernel
theorem dX0_oneValue_9 : decode cX0_oneValue 9 = .ok (.iconst 1, 1) := by decide +kernel
theorem dX0_oneValue_10 : decode cX0_oneValue 10 = .ok (.if_icmp .ne 5, 3) := by decide +kernel
theorem dX0_oneValue_13 : decode cX0_oneValue 13 = .ok (.iload_n 3, 1) := by decide +kernel
theorem dX0_oneValue_14 : decode cX0_oneValue 14 = .ok (.ireturn, 1) := by decide +kernel
theorem dX0_oneValue_15 : decode cX0_oneValue 15 = .ok (.iload_n 1, 1) := by decide +kernel
theorem dX0_oneValue_16 : decode cX0_oneValue 16 = .ok (.iconst 2, 1) := by decide +kernel
theorem dX0_oneValue_17 : decode cX0_oneValue 17 = .ok (.if_icmp .ne 9, 3) := by decide +kernel
theorem dX0_oneValue_20 : decode cX0_oneValue 20 = .ok (.aload_n 0, 1) := by decide +kernel
theorem dX0_oneValue_21 : decode cX0_oneValue 21 = .ok (.iload_n 2, 1) := by decide +kernel
theorem dX0_oneValue_22 : decode cX0_oneValue 22 = .ok (.invokevirtual 82, 3) := by decide +kernel
theorem dX0_oneValue_25 : decode cX0_oneValue 25 = .ok (.ireturn, 1) := by decide +kernel
theorem dX0_oneValue_26 : decode cX0_oneValue 26 = .ok (.iload_n 1, 1) := by decide +kernel
theorem dX0_oneValue_27 : decode cX0_oneValue 27 = .ok (.iconst 3, 1) := by decide +kernel
theorem dX0_oneValue_28 : decode cX0_oneValue 28 = .ok (.if_icmp .ne 12, 3) := by decide +kernel
theorem dX0_oneValue_31 : decode cX0_oneValue 31 = .ok (.aload_n 0, 1) := by decide +kernel
theorem dX0_oneValue_32 : decode cX0_oneValue 32 = .ok (.sipush 255, 3) := by decide +kernel
theorem dX0_oneValue_35 : decode cX0_oneValue 35 = .ok (.iload_n 2, 1) := by decide +kernel
theorem dX0_oneValue_36 : decode cX0_oneValue 36 = .ok (.invokevirtual 79, 3) := by decide +kernel
theorem dX0_oneValue_39 : decode cX0_oneValue 39 = .ok (.ireturn, 1) := by decide +kernel
theorem dX0_oneValue_40 : decode cX0_oneValue 40 = .ok (.iload_n 1, 1) := by decide +kernel
theorem dX0_oneValue_41 : decode cX0_oneValue 41 = .ok (.iconst 4, 1) := by decide +kernel
theorem dX0_oneValue_42 : decode cX0_oneValue 42 = .ok (.if_icmp .ne 9, 3) := by decide +kernel
theorem dX0_oneValue_45 : decode cX0_oneValue 45 = .ok (.aload_n 0, 1) := by decide +kernel
theorem dX0_oneValue_46 : decode cX0_oneValue 46 = .ok (.iload_n 2, 1) := by decide +kernel
theorem dX0_oneValue_47 : decode cX0_oneValue 47 = .ok (.invokevirtual 76, 3) := by decide +kernel
theorem dX0_oneValue_50 : decode cX0_oneValue 50 = .ok (.ireturn, 1) := by decide +kernel
theorem dX0_oneValue_51 : decode cX0_oneValue 51 = .ok (.iload_n 1, 1) := by decide +kernel
theorem dX0_oneValue_52 : decode cX0_oneValue 52 = .ok (.iconst 5, 1) := by decide +kernel
theorem dX0_oneValue_53 : decode cX0_oneValue 53 = .ok (.if_icmp .ne 15, 3) := by decide +kernel
theorem dX0_oneValue_56 : decode cX0_oneValue 56 = .ok (.sipush 255, 3) := by decide +kernel
theorem dX0_oneValue_59 : decode cX0_oneValue 59 = .ok (.aload_n 0, 1) := by decide +kernel
theorem dX0_oneValue_60 : decode cX0_oneValue 60 = .ok (.iload_n 3, 1) := by decide +kernel
theorem dX0_oneValue_61 : decode cX0_oneValue 61 = .ok (.invokevirtual 82, 3) := by decide +kernel
theorem dX0_oneValue_64 : decode cX0_oneValue 64 = .ok (.iconst (-1), 1) := by decide +kernel
theorem dX0_oneValue_65 : decode cX0_oneValue 65 = .ok (.ixor, 1) := by decide +kernel
theorem dX0_oneValue_66 : decode cX0_oneValue 66 = .ok (.iand, 1) := by decide +kernel
theorem dX0_oneValue_67 : decode cX0_oneValue 67 = .ok (.ireturn, 1) := by decide +kernel
theorem dX0_oneValue_68 : decode cX0_oneValue 68 = .ok (.iload_n 1, 1) := by decide +kernel
theorem dX0_oneValue_69 : decode cX0_oneValue 69 = .ok (.bipush 6, 2) := by decide +kernel
theorem dX0_oneValue_71 : decode cX0_oneValue 71 = .ok (.if_icmp .ne 17, 3) := by decide +kernel
theorem dX0_oneValue_74 : decode cX0_oneValue 74 = .ok (.sipush 255, 3) := by decide +kernel
theorem dX0_oneValue_77 : decode cX0_oneValue 77 = .ok (.aload_n 0, 1) := by decide +kernel
theorem dX0_oneValue_78 : decode cX0_oneValue 78 = .ok (.iload_n 3, 1) := by decide +kernel
theorem dX0_oneValue_79 : decode cX0_oneValue 79 = .ok (.invokevirtual 76, 3) := by decide +kernel
theorem dX0_oneValue_82 : decode cX0_oneValue 82 = .ok (.iconst (-1), 1) := by decide +kernel
theorem dX0_oneValue_83 : decode cX0_oneValue 83 = .ok (.ixor, 1) := by decide +kernel
theorem dX0_oneValue_84 : decode cX0_oneValue 84 = .ok (.iand, 1) := by decide +kernel
theorem dX0_oneValue_85 : decode cX0_oneValue 85 = .ok (.goto 17, 3) := by decide +kernel
theorem dX0_oneValue_88 : decode cX0_oneValue 88 = .ok (.sipush 255, 3) := by decide +kernel
theorem dX0_oneValue_91 : decode cX0_oneValue 91 = .ok (.aload_n 0, 1) := by decide +kernel
theorem dX0_oneValue_92 : decode cX0_oneValue 92 = .ok (.sipush 255, 3) := by decide +kernel
theorem dX0_oneValue_95 : decode cX0_oneValue 95 = .ok (.iload_n 3, 1) := by decide +kernel
theorem dX0_oneValue_96 : decode cX0_oneValue 96 = .ok (.invokevirtual 79, 3) := by decide +kernel
theorem dX0_oneValue_99 : decode cX0_oneValue 99 = .ok (.iconst (-1), 1) := by decide +kernel
theorem dX0_oneValue_100 : decode cX0_oneValue 100 = .ok (.ixor, 1) := by decide +kernel
theorem dX0_oneValue_101 : decode cX0_oneValue 101 = .ok (.iand, 1) := by decide +kernel
theorem dX0_oneValue_102 : decode cX0_oneValue 102 = .ok (.ireturn, 1) := by decide +kernel
theorem dX0_someNext_0 : decode cX0_someNext 0 = .ok (.aload_n 0, 1) := by decide +kernel
theorem dX0_someNext_1 : decode cX0_someNext 1 = .ok (.sipush 255, 3) := by decide +kernel
theorem dX0_someNext_4 : decode cX0_someNext 4 = .ok (.invokevirtual 76, 3) := by decide +kernel
theorem dX0_someNext_7 : decode cX0_someNext 7 = .ok (.istore_n 2, 1) := by decide +kernel
theorem dX0_someNext_8 : decode cX0_someNext 8 = .ok (.aload_n 0, 1) := by decide +kernel
theorem dX0_someNext_9 : decode cX0_someNext 9 = .ok (.iload_n 1, 1) := by decide +kernel
theorem dX0_someNext_10 : decode cX0_someNext 10 = .ok (.iload_n 2, 1) := by decide +kernel
theorem dX0_someNext_11 : decode cX0_someNext 11 = .ok (.iand, 1) := by decide +kernel
theorem dX0_someNext_12 : decode cX0_someNext 12 = .ok (.invokevirtual 58, 3) := by decide +kernel
theorem dX0_someNext_15 : decode cX0_someNext 15 = .ok (.ireturn, 1) := by decide +kernel
theorem dX0_staying_0 : decode cX0_staying 0 = .ok (.aload_n 0, 1) := by decide +kernel
theorem dX0_staying_1 : decode cX0_staying 1 = .ok (.iload_n 1, 1) := by decide +kernel
theorem dX0_staying_2 : decode cX0_staying 2 = .ok (.invokevirtual 62, 3) := by decide +kernel
theorem dX0_staying_5 : decode cX0_staying 5 = .ok (.iconst 0, 1) := by decide +kernel
theorem dX0_staying_6 : decode cX0_staying 6 = .ok (.istore_n 2, 1) := by decide +kernel
theorem dX0_staying_7 : decode cX0_staying 7 = .ok (.iconst 0, 1) := by decide +kernel
theorem dX0_staying_8 : decode cX0_staying 8 = .ok (.istore_n 3, 1) := by decide +kernel
theorem dX0_staying_9 : decode cX0_staying 9 = .ok (.iload_n 3, 1) := by decide +kernel
theorem dX0_staying_10 : decode cX0_staying 10 = .ok (.bipush 8, 2) := by decide +kernel
theorem dX0_staying_12 : decode cX0_staying 12 = .ok (.if_icmp .ge 34, 3) := by decide +kernel
theorem dX0_staying_15 : decode cX0_staying 15 = .ok (.aload_n 0, 1) := by decide +kernel
theorem dX0_staying_16 : decode cX0_staying 16 = .ok (.iload_n 3, 1) := by decide +kernel
theorem dX0_staying_17 : decode cX0_staying 17 = .ok (.invokevirtual 66, 3) := by decide +kernel
theorem dX0_staying_20 : decode cX0_staying 20 = .ok (.istore 4, 2) := by decide +kernel
theorem dX0_staying_22 : decode cX0_staying 22 = .ok (.aload_n 0, 1) := by decide +kernel
theorem dX0_staying_23 : decode cX0_staying 23 = .ok (.iload 4, 2) := by decide +kernel
theorem dX0_staying_25 : decode cX0_staying 25 = .ok (.invokevirtual 69, 3) := by decide +kernel
theorem dX0_staying_28 : decode cX0_staying 28 = .ok (.istore 5, 2) := by decide +kernel
theorem dX0_staying_30 : decode cX0_staying 30 = .ok (.iload 5, 2) := by decide +kernel
theorem dX0_staying_32 : decode cX0_staying 32 = .ok (.ifCond .eq 8, 3) := by decide +kernel
theorem dX0_staying_35 : decode cX0_staying 35 = .ok (.iload_n 2, 1) := by decide +kernel
theorem dX0_staying_36 : decode cX0_staying 36 = .ok (.iload 4, 2) := by decide +kernel
theorem dX0_staying_38 : decode cX0_staying 38 = .ok (.ior, 1) := by decide +kernel
theorem dX0_staying_39 : decode cX0_staying 39 = .ok (.istore_n 2, 1) := by decide +kernel
theorem dX0_staying_40 : decode cX0_staying 40 = .ok (.iinc 3 1, 3) := by decide +kernel
theorem dX0_staying_43 : decode cX0_staying 43 = .ok (.goto (-34), 3) := by decide +kernel
theorem dX0_staying_46 : decode cX0_staying 46 = .ok (.aload_n 0, 1) := by decide +kernel
theorem dX0_staying_47 : decode cX0_staying 47 = .ok (.iload_n 2, 1) := by decide +kernel
theorem dX0_staying_48 : decode cX0_staying 48 = .ok (.iload_n 1, 1) := by decide +kernel
theorem dX0_staying_49 : decode cX0_staying 49 = .ok (.invokevirtual 72, 3) := by decide +kernel
theorem dX0_staying_52 : decode cX0_staying 52 = .ok (.ireturn, 1) := by decide +kernel
theorem dX0_findWays_0 : decode cX0_findWays 0 = .ok (.iconst 0, 1) := by decide +kernel
theorem dX0_findWays_1 : decode cX0_findWays 1 = .ok (.istore_n 2, 1) := by decide +kernel
theorem dX0_findWays_2 : decode cX0_findWays 2 = .ok (.iload_n 2, 1) := by decide +kernel
theorem dX0_findWays_3 : decode cX0_findWays 3 = .ok (.bipush 8, 2) := by decide +kernel
theorem dX0_findWays_5 : decode cX0_findWays 5 = .ok (.if_icmp .ge 36, 3) := by decide +kernel
theorem dX0_findWays_8 : decode cX0_findWays 8 = .ok (.aload_n 0, 1) := by decide +kernel
theorem dX0_findWays_9 : decode cX0_findWays 9 = .ok (.getfield 34, 3) := by decide +kernel
theorem dX0_findWays_12 : decode cX0_findWays 12 = .ok (.iload_n 2, 1) := by decide +kernel
theorem dX0_findWays_13 : decode cX0_findWays 13 = .ok (.iload_n 1, 1) := by decide +kernel
theorem dX0_findWays_14 : decode cX0_findWays 14 = .ok (.iload_n 2, 1) := by decide +kernel
theorem dX0_findWays_15 : decode cX0_findWays 15 = .ok (.ishr, 1) := by decide +kernel
theorem dX0_findWays_16 : decode cX0_findWays 16 = .ok (.iconst 1, 1) := by decide +kernel
theorem dX0_findWays_17 : decode cX0_findWays 17 = .ok (.iand, 1) := by decide +kernel
theorem dX0_findWays_18 : decode cX0_findWays 18 = .ok (.iconst 1, 1) := by decide +kernel
theorem dX0_findWays_19 : decode cX0_findWays 19 = .ok (.if_icmp .ne 14, 3) := by decide +kernel
theorem dX0_findWays_22 : decode cX0_findWays 22 = .ok (.aload_n 0, 1) := by decide +kernel
theorem dX0_findWays_23 : decode cX0_findWays 23 = .ok (.getfield 7, 3) := by decide +kernel
theorem dX0_findWays_26 : decode cX0_findWays 26 = .ok (.iload_n 2, 1) := by decide +kernel
theorem dX0_findWays_27 : decode cX0_findWays 27 = .ok (.iaload, 1) := by decide +kernel
theorem dX0_findWays_28 : decode cX0_findWays 28 = .ok (.iload_n 1, 1) := by decide +kernel
theorem dX0_findWays_29 : decode cX0_findWays 29 = .ok (.iand, 1) := by decide +kernel
theorem dX0_findWays_30 : decode cX0_findWays 30 = .ok (.goto 4, 3) := by decide +kernel
theorem dX0_findWays_33 : decode cX0_findWays 33 = .ok (.iconst 0, 1) := by decide +kernel
theorem dX0_findWays_34 : decode cX0_findWays 34 = .ok (.iastore, 1) := by decide +kernel
theorem dX0_findWays_35 : decode cX0_findWays 35 = .ok (.iinc 2 1, 3) := by decide +kernel
theorem dX0_findWays_38 : decode cX0_findWays 38 = .ok (.goto (-36), 3) := by decide +kernel
theorem dX0_findWays_41 : decode cX0_findWays 41 = .ok (.iconst 0, 1) := by decide +kernel
theorem dX0_findWays_42 : decode cX0_findWays 42 = .ok (.istore_n 2, 1) := by decide +kernel
theorem dX0_findWays_43 : decode cX0_findWays 43 = .ok (.iload_n 2, 1) := by decide +kernel
theorem dX0_findWays_44 : decode cX0_findWays 44 = .ok (.bipush 8, 2) := by decide +kernel
theorem dX0_findWays_46 : decode cX0_findWays 46 = .ok (.if_icmp .ge 56, 3) := by decide +kernel
theorem dX0_findWays_49 : decode cX0_findWays 49 = .ok (.iconst 0, 1) := by decide +kernel
theorem dX0_findWays_50 : decode cX0_findWays 50 = .ok (.istore_n 3, 1) := by decide +kernel
theorem dX0_findWays_51 : decode cX0_findWays 51 = .ok (.iload_n 3, 1) := by decide +kernel
theorem dX0_findWays_52 : decode cX0_findWays 52 = .ok (.bipush 8, 2) := by decide +kernel
theorem dX0_findWays_54 : decode cX0_findWays 54 = .ok (.if_icmp .ge 42, 3) := by decide +kernel
theorem dX0_findWays_57 : decode cX0_findWays 57 = .ok (.aload_n 0, 1) := by decide +kernel
theorem dX0_findWays_58 : decode cX0_findWays 58 = .ok (.getfield 34, 3) := by decide +kernel
theorem dX0_findWays_61 : decode cX0_findWays 61 = .ok (.iload_n 3, 1) := by decide +kernel
theorem dX0_findWays_62 : decode cX0_findWays 62 = .ok (.iaload, 1) := by decide +kernel
theorem dX0_findWays_63 : decode cX0_findWays 63 = .ok (.iload_n 2, 1) := by decide +kernel
theorem dX0_findWays_64 : decode cX0_findWays 64 = .ok (.ishr, 1) := by decide +kernel
theorem dX0_findWays_65 : decode cX0_findWays 65 = .ok (.iconst 1, 1) := by decide +kernel
theorem dX0_findWays_66 : decode cX0_findWays 66 = .ok (.iand, 1) := by decide +kernel
theorem dX0_findWays_67 : decode cX0_findWays 67 = .ok (.iconst 1, 1) := by decide +kernel
theorem dX0_findWays_68 : decode cX0_findWays 68 = .ok (.if_icmp .ne 22, 3) := by decide +kernel
theorem dX0_findWays_71 : decode cX0_findWays 71 = .ok (.aload_n 0, 1) := by decide +kernel
theorem dX0_findWays_72 : decode cX0_findWays 72 = .ok (.getfield 34, 3) := by decide +kernel
theorem dX0_findWays_75 : decode cX0_findWays 75 = .ok (.iload_n 3, 1) := by decide +kernel
theorem dX0_findWays_76 : decode cX0_findWays 76 = .ok (.aload_n 0, 1) := by decide +kernel
theorem dX0_findWays_77 : decode cX0_findWays 77 = .ok (.getfield 34, 3) := by decide +kernel
theorem dX0_findWays_80 : decode cX0_findWays 80 = .ok (.iload_n 3, 1) := by decide +kernel
theorem dX0_findWays_81 : decode cX0_findWays 81 = .ok (.iaload, 1) := by decide +kernel
theorem dX0_findWays_82 : decode cX0_findWays 82 = .ok (.aload_n 0, 1) := by decide +kernel
theorem dX0_findWays_83 : decode cX0_findWays 83 = .ok (.getfield 34, 3) := by decide +kernel
theorem dX0_findWays_86 : decode cX0_findWays 86 = .ok (.iload_n 2, 1) := by decide +kernel
theorem dX0_findWays_87 : decode cX0_findWays 87 = .ok (.iaload, 1) := by decide +kernel
theorem dX0_findWays_88 : decode cX0_findWays 88 = .ok (.ior, 1) := by decide +kernel
theorem dX0_findWays_89 : decode cX0_findWays 89 = .ok (.iastore, 1) := by decide +kernel
theorem dX0_findWays_90 : decode cX0_findWays 90 = .ok (.iinc 3 1, 3) := by decide +kernel
theorem dX0_findWays_93 : decode cX0_findWays 93 = .ok (.goto (-42), 3) := by decide +kernel
theorem dX0_findWays_96 : decode cX0_findWays 96 = .ok (.iinc 2 1, 3) := by decide +kernel
theorem dX0_findWays_99 : decode cX0_findWays 99 = .ok (.goto (-56), 3) := by decide +kernel
theorem dX0_findWays_102 : decode cX0_findWays 102 = .ok (.return_, 1) := by decide +kernel
theorem dX0_knotOf_0 : decode cX0_knotOf 0 = .ok (.iconst 0, 1) := by decide +kernel
theorem dX0_knotOf_1 : decode cX0_knotOf 1 = .ok (.istore_n 2, 1) := by decide +kernel
theorem dX0_knotOf_2 : decode cX0_knotOf 2 = .ok (.iconst 0, 1) := by decide +kernel
theorem dX0_knotOf_3 : decode cX0_knotOf 3 = .ok (.istore_n 3, 1) := by decide +kernel
theorem dX0_knotOf_4 : decode cX0_knotOf 4 = .ok (.iload_n 3, 1) := by decide +kernel
theorem dX0_knotOf_5 : decode cX0_knotOf 5 = .ok (.bipush 8, 2) := by decide +kernel
theorem dX0_knotOf_7 : decode cX0_knotOf 7 = .ok (.if_icmp .ge 43, 3) := by decide +kernel
theorem dX0_knotOf_10 : decode cX0_knotOf 10 = .ok (.aload_n 0, 1) := by decide +kernel
theorem dX0_knotOf_11 : decode cX0_knotOf 11 = .ok (.getfield 34, 3) := by decide +kernel
theorem dX0_knotOf_14 : decode cX0_knotOf 14 = .ok (.iload_n 1, 1) := by decide +kernel
theorem dX0_knotOf_15 : decode cX0_knotOf 15 = .ok (.iaload, 1) := by decide +kernel
theorem dX0_knotOf_16 : decode cX0_knotOf 16 = .ok (.iload_n 3, 1) := by decide +kernel
theorem dX0_knotOf_17 : decode cX0_knotOf 17 = .ok (.ishr, 1) := by decide +kernel
theorem dX0_knotOf_18 : decode cX0_knotOf 18 = .ok (.iconst 1, 1) := by decide +kernel
theorem dX0_knotOf_19 : decode cX0_knotOf 19 = .ok (.iand, 1) := by decide +kernel
theorem dX0_knotOf_20 : decode cX0_knotOf 20 = .ok (.iconst 1, 1) := by decide +kernel
theorem dX0_knotOf_21 : decode cX0_knotOf 21 = .ok (.if_icmp .ne 23, 3) := by decide +kernel
theorem dX0_knotOf_24 : decode cX0_knotOf 24 = .ok (.aload_n 0, 1) := by decide +kernel
theorem dX0_knotOf_25 : decode cX0_knotOf 25 = .ok (.getfield 34, 3) := by decide +kernel
theorem dX0_knotOf_28 : decode cX0_knotOf 28 = .ok (.iload_n 3, 1) := by decide +kernel
theorem dX0_knotOf_29 : decode cX0_knotOf 29 = .ok (.iaload, 1) := by decide +kernel
theorem dX0_knotOf_30 : decode cX0_knotOf 30 = .ok (.iload_n 1, 1) := by decide +kernel
theorem dX0_knotOf_31 : decode cX0_knotOf 31 = .ok (.ishr, 1) := by decide +kernel
theorem dX0_knotOf_32 : decode cX0_knotOf 32 = .ok (.iconst 1, 1) := by decide +kernel
theorem dX0_knotOf_33 : decode cX0_knotOf 33 = .ok (.iand, 1) := by decide +kernel
theorem dX0_knotOf_34 : decode cX0_knotOf 34 = .ok (.iconst 1, 1) := by decide +kernel
theorem dX0_knotOf_35 : decode cX0_knotOf 35 = .ok (.if_icmp .ne 9, 3) := by decide +kernel
theorem dX0_knotOf_38 : decode cX0_knotOf 38 = .ok (.iload_n 2, 1) := by decide +kernel
theorem dX0_knotOf_39 : decode cX0_knotOf 39 = .ok (.iconst 1, 1) := by decide +kernel
theorem dX0_knotOf_40 : decode cX0_knotOf 40 = .ok (.iload_n 3, 1) := by decide +kernel
theorem dX0_knotOf_41 : decode cX0_knotOf 41 = .ok (.ishl, 1) := by decide +kernel
theorem dX0_knotOf_42 : decode cX0_knotOf 42 = .ok (.ior, 1) := by decide +kernel
end
section
set_option maxRecDepth 100000
theorem dX0_knotOf_43 : decode cX0_knotOf 43 = .ok (.istore_n 2, 1) := by decide +kernel
theorem dX0_knotOf_44 : decode cX0_knotOf 44 = .ok (.iinc 3 1, 3) := by decide +kernel
theorem dX0_knotOf_47 : decode cX0_knotOf 47 = .ok (.goto (-43), 3) := by decide +kernel
theorem dX0_knotOf_50 : decode cX0_knotOf 50 = .ok (.iload_n 2, 1) := by decide +kernel
theorem dX0_knotOf_51 : decode cX0_knotOf 51 = .ok (.ireturn, 1) := by decide +kernel
theorem dX0_meetsDemands_0 : decode cX0_meetsDemands 0 = .ok (.iload_n 1, 1) := by decide +kernel
theorem dX0_meetsDemands_1 : decode cX0_meetsDemands 1 = .ok (.ifCond .eq 7, 3) := by decide +kernel
theorem dX0_meetsDemands_4 : decode cX0_meetsDemands 4 = .ok (.iconst 1, 1) := by decide +kernel
theorem dX0_meetsDemands_5 : decode cX0_meetsDemands 5 = .ok (.goto 4, 3) := by decide +kernel
theorem dX0_meetsDemands_8 : decode cX0_meetsDemands 8 = .ok (.iconst 0, 1) := by decide +kernel
theorem dX0_meetsDemands_9 : decode cX0_meetsDemands 9 = .ok (.istore_n 2, 1) := by decide +kernel
theorem dX0_meetsDemands_10 : decode cX0_meetsDemands 10 = .ok (.iconst 0, 1) := by decide +kernel
theorem dX0_meetsDemands_11 : decode cX0_meetsDemands 11 = .ok (.istore_n 3, 1) := by decide +kernel
theorem dX0_meetsDemands_12 : decode cX0_meetsDemands 12 = .ok (.iload_n 3, 1) := by decide +kernel
theorem dX0_meetsDemands_13 : decode cX0_meetsDemands 13 = .ok (.aload_n 0, 1) := by decide +kernel
theorem dX0_meetsDemands_14 : decode cX0_meetsDemands 14 = .ok (.getfield 44, 3) := by decide +kernel
theorem dX0_meetsDemands_17 : decode cX0_meetsDemands 17 = .ok (.if_icmp .ge 30, 3) := by decide +kernel
theorem dX0_meetsDemands_20 : decode cX0_meetsDemands 20 = .ok (.iload_n 2, 1) := by decide +kernel
theorem dX0_meetsDemands_21 : decode cX0_meetsDemands 21 = .ok (.ifCond .eq 18, 3) := by decide +kernel
theorem dX0_meetsDemands_24 : decode cX0_meetsDemands 24 = .ok (.iload_n 1, 1) := by decide +kernel
theorem dX0_meetsDemands_25 : decode cX0_meetsDemands 25 = .ok (.aload_n 0, 1) := by decide +kernel
theorem dX0_meetsDemands_26 : decode cX0_meetsDemands 26 = .ok (.getfield 16, 3) := by decide +kernel
theorem dX0_meetsDemands_29 : decode cX0_meetsDemands 29 = .ok (.iload_n 3, 1) := by decide +kernel
theorem dX0_meetsDemands_30 : decode cX0_meetsDemands 30 = .ok (.iaload, 1) := by decide +kernel
theorem dX0_meetsDemands_31 : decode cX0_meetsDemands 31 = .ok (.iand, 1) := by decide +kernel
theorem dX0_meetsDemands_32 : decode cX0_meetsDemands 32 = .ok (.ifCond .eq 7, 3) := by decide +kernel
theorem dX0_meetsDemands_35 : decode cX0_meetsDemands 35 = .ok (.iconst 1, 1) := by decide +kernel
theorem dX0_meetsDemands_36 : decode cX0_meetsDemands 36 = .ok (.goto 4, 3) := by decide +kernel
theorem dX0_meetsDemands_39 : decode cX0_meetsDemands 39 = .ok (.iconst 0, 1) := by decide +kernel
theorem dX0_meetsDemands_40 : decode cX0_meetsDemands 40 = .ok (.istore_n 2, 1) := by decide +kernel
theorem dX0_meetsDemands_41 : decode cX0_meetsDemands 41 = .ok (.iinc 3 1, 3) := by decide +kernel
theorem dX0_meetsDemands_44 : decode cX0_meetsDemands 44 = .ok (.goto (-32), 3) := by decide +kernel
theorem dX0_meetsDemands_47 : decode cX0_meetsDemands 47 = .ok (.iload_n 2, 1) := by decide +kernel
theorem dX0_meetsDemands_48 : decode cX0_meetsDemands 48 = .ok (.ireturn, 1) := by decide +kernel
theorem dX0_backFrom_0 : decode cX0_backFrom 0 = .ok (.iload_n 1, 1) := by decide +kernel
theorem dX0_backFrom_1 : decode cX0_backFrom 1 = .ok (.istore_n 3, 1) := by decide +kernel
theorem dX0_backFrom_2 : decode cX0_backFrom 2 = .ok (.iconst 0, 1) := by decide +kernel
theorem dX0_backFrom_3 : decode cX0_backFrom 3 = .ok (.istore 4, 2) := by decide +kernel
theorem dX0_backFrom_5 : decode cX0_backFrom 5 = .ok (.iload 4, 2) := by decide +kernel
theorem dX0_backFrom_7 : decode cX0_backFrom 7 = .ok (.bipush 8, 2) := by decide +kernel
theorem dX0_backFrom_9 : decode cX0_backFrom 9 = .ok (.if_icmp .ge 23, 3) := by decide +kernel
theorem dX0_backFrom_12 : decode cX0_backFrom 12 = .ok (.aload_n 0, 1) := by decide +kernel
theorem dX0_backFrom_13 : decode cX0_backFrom 13 = .ok (.iload_n 3, 1) := by decide +kernel
theorem dX0_backFrom_14 : decode cX0_backFrom 14 = .ok (.invokevirtual 58, 3) := by decide +kernel
theorem dX0_backFrom_17 : decode cX0_backFrom 17 = .ok (.istore 5, 2) := by decide +kernel
theorem dX0_backFrom_19 : decode cX0_backFrom 19 = .ok (.iload_n 3, 1) := by decide +kernel
theorem dX0_backFrom_20 : decode cX0_backFrom 20 = .ok (.iload 5, 2) := by decide +kernel
theorem dX0_backFrom_22 : decode cX0_backFrom 22 = .ok (.iload_n 2, 1) := by decide +kernel
theorem dX0_backFrom_23 : decode cX0_backFrom 23 = .ok (.iand, 1) := by decide +kernel
theorem dX0_backFrom_24 : decode cX0_backFrom 24 = .ok (.ior, 1) := by decide +kernel
theorem dX0_backFrom_25 : decode cX0_backFrom 25 = .ok (.istore_n 3, 1) := by decide +kernel
theorem dX0_backFrom_26 : decode cX0_backFrom 26 = .ok (.iinc 4 1, 3) := by decide +kernel
theorem dX0_backFrom_29 : decode cX0_backFrom 29 = .ok (.goto (-24), 3) := by decide +kernel
theorem dX0_backFrom_32 : decode cX0_backFrom 32 = .ok (.iload_n 3, 1) := by decide +kernel
theorem dX0_backFrom_33 : decode cX0_backFrom 33 = .ok (.ireturn, 1) := by decide +kernel
theorem dX0_before_0 : decode cX0_before 0 = .ok (.iconst 0, 1) := by decide +kernel
theorem dX0_before_1 : decode cX0_before 1 = .ok (.istore_n 2, 1) := by decide +kernel
theorem dX0_before_2 : decode cX0_before 2 = .ok (.iconst 0, 1) := by decide +kernel
theorem dX0_before_3 : decode cX0_before 3 = .ok (.istore_n 3, 1) := by decide +kernel
theorem dX0_before_4 : decode cX0_before 4 = .ok (.iload_n 3, 1) := by decide +kernel
theorem dX0_before_5 : decode cX0_before 5 = .ok (.bipush 8, 2) := by decide +kernel
theorem dX0_before_7 : decode cX0_before 7 = .ok (.if_icmp .ge 26, 3) := by decide +kernel
theorem dX0_before_10 : decode cX0_before 10 = .ok (.aload_n 0, 1) := by decide +kernel
theorem dX0_before_11 : decode cX0_before 11 = .ok (.getfield 7, 3) := by decide +kernel
theorem dX0_before_14 : decode cX0_before 14 = .ok (.iload_n 3, 1) := by decide +kernel
theorem dX0_before_15 : decode cX0_before 15 = .ok (.iaload, 1) := by decide +kernel
theorem dX0_before_16 : decode cX0_before 16 = .ok (.iload_n 1, 1) := by decide +kernel
theorem dX0_before_17 : decode cX0_before 17 = .ok (.iand, 1) := by decide +kernel
theorem dX0_before_18 : decode cX0_before 18 = .ok (.ifCond .eq 9, 3) := by decide +kernel
theorem dX0_before_21 : decode cX0_before 21 = .ok (.iload_n 2, 1) := by decide +kernel
theorem dX0_before_22 : decode cX0_before 22 = .ok (.iconst 1, 1) := by decide +kernel
theorem dX0_before_23 : decode cX0_before 23 = .ok (.iload_n 3, 1) := by decide +kernel
theorem dX0_before_24 : decode cX0_before 24 = .ok (.ishl, 1) := by decide +kernel
theorem dX0_before_25 : decode cX0_before 25 = .ok (.ior, 1) := by decide +kernel
theorem dX0_before_26 : decode cX0_before 26 = .ok (.istore_n 2, 1) := by decide +kernel
theorem dX0_before_27 : decode cX0_before 27 = .ok (.iinc 3 1, 3) := by decide +kernel
theorem dX0_before_30 : decode cX0_before 30 = .ok (.goto (-26), 3) := by decide +kernel
theorem dX0_before_33 : decode cX0_before 33 = .ok (.iload_n 2, 1) := by decide +kernel
theorem dX0_before_34 : decode cX0_before 34 = .ok (.ireturn, 1) := by decide +kernel
theorem dX0_until_0 : decode cX0_until 0 = .ok (.aload_n 0, 1) := by decide +kernel
theorem dX0_until_1 : decode cX0_until 1 = .ok (.sipush 255, 3) := by decide +kernel
theorem dX0_until_4 : decode cX0_until 4 = .ok (.invokevirtual 76, 3) := by decide +kernel
theorem dX0_until_7 : decode cX0_until 7 = .ok (.istore_n 3, 1) := by decide +kernel
theorem dX0_until_8 : decode cX0_until 8 = .ok (.aload_n 0, 1) := by decide +kernel
theorem dX0_until_9 : decode cX0_until 9 = .ok (.iload_n 2, 1) := by decide +kernel
theorem dX0_until_10 : decode cX0_until 10 = .ok (.iload_n 3, 1) := by decide +kernel
theorem dX0_until_11 : decode cX0_until 11 = .ok (.iand, 1) := by decide +kernel
theorem dX0_until_12 : decode cX0_until 12 = .ok (.iload_n 1, 1) := by decide +kernel
theorem dX0_until_13 : decode cX0_until 13 = .ok (.invokevirtual 72, 3) := by decide +kernel
theorem dX0_until_16 : decode cX0_until 16 = .ok (.ireturn, 1) := by decide +kernel
theorem dX0_twoValue_0 : decode cX0_twoValue 0 = .ok (.iload_n 1, 1) := by decide +kernel
theorem dX0_twoValue_1 : decode cX0_twoValue 1 = .ok (.bipush 8, 2) := by decide +kernel
theorem dX0_twoValue_3 : decode cX0_twoValue 3 = .ok (.if_icmp .ne 7, 3) := by decide +kernel
theorem dX0_twoValue_6 : decode cX0_twoValue 6 = .ok (.iload_n 2, 1) := by decide +kernel
theorem dX0_twoValue_7 : decode cX0_twoValue 7 = .ok (.iload_n 3, 1) := by decide +kernel
theorem dX0_twoValue_8 : decode cX0_twoValue 8 = .ok (.iand, 1) := by decide +kernel
theorem dX0_twoValue_9 : decode cX0_twoValue 9 = .ok (.ireturn, 1) := by decide +kernel
theorem dX0_twoValue_10 : decode cX0_twoValue 10 = .ok (.iload_n 1, 1) := by decide +kernel
theorem dX0_twoValue_11 : decode cX0_twoValue 11 = .ok (.bipush 9, 2) := by decide +kernel
theorem dX0_twoValue_13 : decode cX0_twoValue 13 = .ok (.if_icmp .ne 7, 3) := by decide +kernel
theorem dX0_twoValue_16 : decode cX0_twoValue 16 = .ok (.iload_n 2, 1) := by decide +kernel
theorem dX0_twoValue_17 : decode cX0_twoValue 17 = .ok (.iload_n 3, 1) := by decide +kernel
theorem dX0_twoValue_18 : decode cX0_twoValue 18 = .ok (.ior, 1) := by decide +kernel
theorem dX0_twoValue_19 : decode cX0_twoValue 19 = .ok (.ireturn, 1) := by decide +kernel
theorem dX0_twoValue_20 : decode cX0_twoValue 20 = .ok (.iload_n 1, 1) := by decide +kernel
theorem dX0_twoValue_21 : decode cX0_twoValue 21 = .ok (.bipush 10, 2) := by decide +kernel
theorem dX0_twoValue_23 : decode cX0_twoValue 23 = .ok (.if_icmp .ne 12, 3) := by decide +kernel
theorem dX0_twoValue_26 : decode cX0_twoValue 26 = .ok (.aload_n 0, 1) := by decide +kernel
theorem dX0_twoValue_27 : decode cX0_twoValue 27 = .ok (.iload_n 2, 1) := by decide +kernel
theorem dX0_twoValue_28 : decode cX0_twoValue 28 = .ok (.iload_n 3, 1) := by decide +kernel
theorem dX0_twoValue_29 : decode cX0_twoValue 29 = .ok (.invokevirtual 79, 3) := by decide +kernel
theorem dX0_twoValue_32 : decode cX0_twoValue 32 = .ok (.goto 9, 3) := by decide +kernel
theorem dX0_twoValue_35 : decode cX0_twoValue 35 = .ok (.aload_n 0, 1) := by decide +kernel
theorem dX0_twoValue_36 : decode cX0_twoValue 36 = .ok (.iload_n 2, 1) := by decide +kernel
theorem dX0_twoValue_37 : decode cX0_twoValue 37 = .ok (.iload_n 3, 1) := by decide +kernel
theorem dX0_twoValue_38 : decode cX0_twoValue 38 = .ok (.invokevirtual 85, 3) := by decide +kernel
theorem dX0_twoValue_41 : decode cX0_twoValue 41 = .ok (.ireturn, 1) := by decide +kernel
theorem dX0_allUntil_0 : decode cX0_allUntil 0 = .ok (.sipush 255, 3) := by decide +kernel
theorem dX0_allUntil_3 : decode cX0_allUntil 3 = .ok (.iload_n 2, 1) := by decide +kernel
theorem dX0_allUntil_4 : decode cX0_allUntil 4 = .ok (.iconst (-1), 1) := by decide +kernel
theorem dX0_allUntil_5 : decode cX0_allUntil 5 = .ok (.ixor, 1) := by decide +kernel
theorem dX0_allUntil_6 : decode cX0_allUntil 6 = .ok (.iand, 1) := by decide +kernel
theorem dX0_allUntil_7 : decode cX0_allUntil 7 = .ok (.istore_n 3, 1) := by decide +kernel
theorem dX0_allUntil_8 : decode cX0_allUntil 8 = .ok (.iload_n 3, 1) := by decide +kernel
theorem dX0_allUntil_9 : decode cX0_allUntil 9 = .ok (.iload_n 1, 1) := by decide +kernel
theorem dX0_allUntil_10 : decode cX0_allUntil 10 = .ok (.iconst (-1), 1) := by decide +kernel
theorem dX0_allUntil_11 : decode cX0_allUntil 11 = .ok (.ixor, 1) := by decide +kernel
theorem dX0_allUntil_12 : decode cX0_allUntil 12 = .ok (.iand, 1) := by decide +kernel
theorem dX0_allUntil_13 : decode cX0_allUntil 13 = .ok (.istore 4, 2) := by decide +kernel
theorem dX0_allUntil_15 : decode cX0_allUntil 15 = .ok (.aload_n 0, 1) := by decide +kernel
theorem dX0_allUntil_16 : decode cX0_allUntil 16 = .ok (.iload_n 3, 1) := by decide +kernel
theorem dX0_allUntil_17 : decode cX0_allUntil 17 = .ok (.invokevirtual 76, 3) := by decide +kernel
theorem dX0_allUntil_20 : decode cX0_allUntil 20 = .ok (.istore 5, 2) := by decide +kernel
theorem dX0_allUntil_22 : decode cX0_allUntil 22 = .ok (.aload_n 0, 1) := by decide +kernel
theorem dX0_allUntil_23 : decode cX0_allUntil 23 = .ok (.iload_n 3, 1) := by decide +kernel
theorem dX0_allUntil_24 : decode cX0_allUntil 24 = .ok (.iload 4, 2) := by decide +kernel
theorem dX0_allUntil_26 : decode cX0_allUntil 26 = .ok (.invokevirtual 79, 3) := by decide +kernel
theorem dX0_allUntil_29 : decode cX0_allUntil 29 = .ok (.istore 6, 2) := by decide +kernel
theorem dX0_allUntil_31 : decode cX0_allUntil 31 = .ok (.sipush 255, 3) := by decide +kernel
theorem dX0_allUntil_34 : decode cX0_allUntil 34 = .ok (.iload 5, 2) := by decide +kernel
theorem dX0_allUntil_36 : decode cX0_allUntil 36 = .ok (.iload 6, 2) := by decide +kernel
theorem dX0_allUntil_38 : decode cX0_allUntil 38 = .ok (.ior, 1) := by decide +kernel
theorem dX0_allUntil_39 : decode cX0_allUntil 39 = .ok (.iconst (-1), 1) := by decide +kernel
theorem dX0_allUntil_40 : decode cX0_allUntil 40 = .ok (.ixor, 1) := by decide +kernel
theorem dX0_allUntil_41 : decode cX0_allUntil 41 = .ok (.iand, 1) := by decide +kernel
theorem dX0_allUntil_42 : decode cX0_allUntil 42 = .ok (.ireturn, 1) := by decide +kernel
theorem dX0_alike_0 : decode cX0_alike 0 = .ok (.aload_n 0, 1) := by decide +kernel
theorem dX0_alike_1 : decode cX0_alike 1 = .ok (.getfield 51, 3) := by decide +kernel
theorem dX0_alike_4 : decode cX0_alike 4 = .ok (.iconst 2, 1) := by decide +kernel
theorem dX0_alike_5 : decode cX0_alike 5 = .ok (.if_icmp .ge 5, 3) := by decide +kernel
theorem dX0_alike_8 : decode cX0_alike 8 = .ok (.iconst 0, 1) := by decide +kernel
theorem dX0_alike_9 : decode cX0_alike 9 = .ok (.ireturn, 1) := by decide +kernel
theorem dX0_alike_10 : decode cX0_alike 10 = .ok (.aload_n 0, 1) := by decide +kernel
theorem dX0_alike_11 : decode cX0_alike 11 = .ok (.getfield 31, 3) := by decide +kernel
theorem dX0_alike_14 : decode cX0_alike 14 = .ok (.aload_n 0, 1) := by decide +kernel
theorem dX0_alike_15 : decode cX0_alike 15 = .ok (.getfield 51, 3) := by decide +kernel
theorem dX0_alike_18 : decode cX0_alike 18 = .ok (.iconst 1, 1) := by decide +kernel
theorem dX0_alike_19 : decode cX0_alike 19 = .ok (.isub, 1) := by decide +kernel
theorem dX0_alike_20 : decode cX0_alike 20 = .ok (.iaload, 1) := by decide +kernel
theorem dX0_alike_21 : decode cX0_alike 21 = .ok (.istore_n 1, 1) := by decide +kernel
theorem dX0_alike_22 : decode cX0_alike 22 = .ok (.aload_n 0, 1) := by decide +kernel
theorem dX0_alike_23 : decode cX0_alike 23 = .ok (.getfield 31, 3) := by decide +kernel
theorem dX0_alike_26 : decode cX0_alike 26 = .ok (.aload_n 0, 1) := by decide +kernel
theorem dX0_alike_27 : decode cX0_alike 27 = .ok (.getfield 51, 3) := by decide +kernel
theorem dX0_alike_30 : decode cX0_alike 30 = .ok (.iconst 2, 1) := by decide +kernel
theorem dX0_alike_31 : decode cX0_alike 31 = .ok (.isub, 1) := by decide +kernel
theorem dX0_alike_32 : decode cX0_alike 32 = .ok (.iaload, 1) := by decide +kernel
theorem dX0_alike_33 : decode cX0_alike 33 = .ok (.istore_n 2, 1) := by decide +kernel
theorem dX0_alike_34 : decode cX0_alike 34 = .ok (.aload_n 0, 1) := by decide +kernel
theorem dX0_alike_35 : decode cX0_alike 35 = .ok (.aload_n 0, 1) := by decide +kernel
theorem dX0_alike_36 : decode cX0_alike 36 = .ok (.getfield 48, 3) := by decide +kernel
theorem dX0_alike_39 : decode cX0_alike 39 = .ok (.iconst 1, 1) := by decide +kernel
theorem dX0_alike_40 : decode cX0_alike 40 = .ok (.isub, 1) := by decide +kernel
theorem dX0_alike_41 : decode cX0_alike 41 = .ok (.invokevirtual 94, 3) := by decide +kernel
theorem dX0_alike_44 : decode cX0_alike 44 = .ok (.pop, 1) := by decide +kernel
theorem dX0_alike_45 : decode cX0_alike 45 = .ok (.aload_n 0, 1) := by decide +kernel
theorem dX0_alike_46 : decode cX0_alike 46 = .ok (.getfield 28, 3) := by decide +kernel
theorem dX0_alike_49 : decode cX0_alike 49 = .ok (.iload_n 1, 1) := by decide +kernel
theorem dX0_alike_50 : decode cX0_alike 50 = .ok (.iaload, 1) := by decide +kernel
theorem dX0_alike_51 : decode cX0_alike 51 = .ok (.aload_n 0, 1) := by decide +kernel
theorem dX0_alike_52 : decode cX0_alike 52 = .ok (.getfield 28, 3) := by decide +kernel
theorem dX0_alike_55 : decode cX0_alike 55 = .ok (.iload_n 2, 1) := by decide +kernel
theorem dX0_alike_56 : decode cX0_alike 56 = .ok (.iaload, 1) := by decide +kernel
theorem dX0_alike_57 : decode cX0_alike 57 = .ok (.if_icmp .ne 7, 3) := by decide +kernel
theorem dX0_alike_60 : decode cX0_alike 60 = .ok (.iconst 1, 1) := by decide +kernel
theorem dX0_alike_61 : decode cX0_alike 61 = .ok (.goto 4, 3) := by decide +kernel
theorem dX0_alike_64 : decode cX0_alike 64 = .ok (.iconst 0, 1) := by decide +kernel
theorem dX0_alike_65 : decode cX0_alike 65 = .ok (.ireturn, 1) := by decide +kernel
theorem dX0_fair_0 : decode cX0_fair 0 = .ok (.aload_n 0, 1) := by decide +kernel
theorem dX0_fair_1 : decode cX0_fair 1 = .ok (.sipush 255, 3) := by decide +kernel
theorem dX0_fair_4 : decode cX0_fair 4 = .ok (.invokevirtual 76, 3) := by decide +kernel
theorem dX0_fair_7 : decode cX0_fair 7 = .ok (.ireturn, 1) := by decide +kernel
theorem dX0_reach_0 : decode cX0_reach 0 = .ok (.aload_n 0, 1) := by decide +kernel
theorem dX0_reach_1 : decode cX0_reach 1 = .ok (.iload_n 1, 1) := by decide +kernel
theorem dX0_reach_2 : decode cX0_reach 2 = .ok (.invokevirtual 37, 3) := by decide +kernel
theorem dX0_reach_5 : decode cX0_reach 5 = .ok (.ifCond .eq 5, 3) := by decide +kernel
theorem dX0_reach_8 : decode cX0_reach 8 = .ok (.iconst (-1), 1) := by decide +kernel
theorem dX0_reach_9 : decode cX0_reach 9 = .ok (.ireturn, 1) := by decide +kernel
theorem dX0_reach_10 : decode cX0_reach 10 = .ok (.aload_n 0, 1) := by decide +kernel
theorem dX0_reach_11 : decode cX0_reach 11 = .ok (.sipush 255, 3) := by decide +kernel
theorem dX0_reach_14 : decode cX0_reach 14 = .ok (.invokevirtual 62, 3) := by decide +kernel
theorem dX0_reach_17 : decode cX0_reach 17 = .ok (.aload_n 0, 1) := by decide +kernel
theorem dX0_reach_18 : decode cX0_reach 18 = .ok (.getfield 34, 3) := by decide +kernel
theorem dX0_reach_21 : decode cX0_reach 21 = .ok (.iload_n 1, 1) := by decide +kernel
theorem dX0_reach_22 : decode cX0_reach 22 = .ok (.iaload, 1) := by decide +kernel
theorem dX0_reach_23 : decode cX0_reach 23 = .ok (.iconst 1, 1) := by decide +kernel
theorem dX0_reach_24 : decode cX0_reach 24 = .ok (.iload_n 1, 1) := by decide +kernel
theorem dX0_reach_25 : decode cX0_reach 25 = .ok (.ishl, 1) := by decide +kernel
theorem dX0_reach_26 : decode cX0_reach 26 = .ok (.ior, 1) := by decide +kernel
theorem dX0_reach_27 : decode cX0_reach 27 = .ok (.ireturn, 1) := by decide +kernel
theorem dX0_steps_0 : decode cX0_steps 0 = .ok (.aload_n 0, 1) := by decide +kernel
theorem dX0_steps_1 : decode cX0_steps 1 = .ok (.iload_n 1, 1) := by decide +kernel
theorem dX0_steps_2 : decode cX0_steps 2 = .ok (.invokevirtual 37, 3) := by decide +kernel
theorem dX0_steps_5 : decode cX0_steps 5 = .ok (.ifCond .eq 5, 3) := by decide +kernel
theorem dX0_steps_8 : decode cX0_steps 8 = .ok (.iconst (-1), 1) := by decide +kernel
theorem dX0_steps_9 : decode cX0_steps 9 = .ok (.ireturn, 1) := by decide +kernel
theorem dX0_steps_10 : decode cX0_steps 10 = .ok (.aload_n 0, 1) := by decide +kernel
theorem dX0_steps_11 : decode cX0_steps 11 = .ok (.getfield 51, 3) := by decide +kernel
theorem dX0_steps_14 : decode cX0_steps 14 = .ok (.ifCond .ne 6, 3) := by decide +kernel
theorem dX0_steps_17 : decode cX0_steps 17 = .ok (.bipush (-4), 2) := by decide +kernel
theorem dX0_steps_19 : decode cX0_steps 19 = .ok (.ireturn, 1) := by decide +kernel
theorem dX0_steps_20 : decode cX0_steps 20 = .ok (.aload_n 0, 1) := by decide +kernel
theorem dX0_steps_21 : decode cX0_steps 21 = .ok (.aload_n 0, 1) := by decide +kernel
theorem dX0_steps_22 : decode cX0_steps 22 = .ok (.getfield 31, 3) := by decide +kernel
theorem dX0_steps_25 : decode cX0_steps 25 = .ok (.aload_n 0, 1) := by decide +kernel
theorem dX0_steps_26 : decode cX0_steps 26 = .ok (.getfield 51, 3) := by decide +kernel
theorem dX0_steps_29 : decode cX0_steps 29 = .ok (.iconst 1, 1) := by decide +kernel
theorem dX0_steps_30 : decode cX0_steps 30 = .ok (.isub, 1) := by decide +kernel
theorem dX0_steps_31 : decode cX0_steps 31 = .ok (.iaload, 1) := by decide +kernel
theorem dX0_steps_32 : decode cX0_steps 32 = .ok (.invokevirtual 94, 3) := by decide +kernel
theorem dX0_steps_35 : decode cX0_steps 35 = .ok (.istore_n 2, 1) := by decide +kernel
theorem dX0_steps_36 : decode cX0_steps 36 = .ok (.iconst 0, 1) := by decide +kernel
theorem dX0_steps_37 : decode cX0_steps 37 = .ok (.istore_n 3, 1) := by decide +kernel
theorem dX0_steps_38 : decode cX0_steps 38 = .ok (.iload_n 3, 1) := by decide +kernel
theorem dX0_steps_39 : decode cX0_steps 39 = .ok (.bipush 8, 2) := by decide +kernel
theorem dX0_steps_41 : decode cX0_steps 41 = .ok (.if_icmp .gt 32, 3) := by decide +kernel
theorem dX0_steps_44 : decode cX0_steps 44 = .ok (.iload_n 2, 1) := by decide +kernel
theorem dX0_steps_45 : decode cX0_steps 45 = .ok (.iload_n 1, 1) := by decide +kernel
theorem dX0_steps_46 : decode cX0_steps 46 = .ok (.ishr, 1) := by decide +kernel
theorem dX0_steps_47 : decode cX0_steps 47 = .ok (.iconst 1, 1) := by decide +kernel
theorem dX0_steps_48 : decode cX0_steps 48 = .ok (.iand, 1) := by decide +kernel
theorem dX0_steps_49 : decode cX0_steps 49 = .ok (.iconst 1, 1) := by decide +kernel
theorem dX0_steps_50 : decode cX0_steps 50 = .ok (.if_icmp .ne 5, 3) := by decide +kernel
theorem dX0_steps_53 : decode cX0_steps 53 = .ok (.iload_n 3, 1) := by decide +kernel
theorem dX0_steps_54 : decode cX0_steps 54 = .ok (.ireturn, 1) := by decide +kernel
theorem dX0_steps_55 : decode cX0_steps 55 = .ok (.aload_n 0, 1) := by decide +kernel
theorem dX0_steps_56 : decode cX0_steps 56 = .ok (.iload_n 2, 1) := by decide +kernel
theorem dX0_steps_57 : decode cX0_steps 57 = .ok (.invokevirtual 58, 3) := by decide +kernel
theorem dX0_steps_60 : decode cX0_steps 60 = .ok (.istore 4, 2) := by decide +kernel
theorem dX0_steps_62 : decode cX0_steps 62 = .ok (.iload_n 2, 1) := by decide +kernel
theorem dX0_steps_63 : decode cX0_steps 63 = .ok (.iload 4, 2) := by decide +kernel
theorem dX0_steps_65 : decode cX0_steps 65 = .ok (.ior, 1) := by decide +kernel
theorem dX0_steps_66 : decode cX0_steps 66 = .ok (.istore_n 2, 1) := by decide +kernel
theorem dX0_steps_67 : decode cX0_steps 67 = .ok (.iinc 3 1, 3) := by decide +kernel
theorem dX0_steps_70 : decode cX0_steps 70 = .ok (.goto (-32), 3) := by decide +kernel
theorem dX0_steps_73 : decode cX0_steps 73 = .ok (.bipush (-4), 2) := by decide +kernel
theorem dX0_steps_75 : decode cX0_steps 75 = .ok (.ireturn, 1) := by decide +kernel
theorem dX0_knots_0 : decode cX0_knots 0 = .ok (.aload_n 0, 1) := by decide +kernel
theorem dX0_knots_1 : decode cX0_knots 1 = .ok (.sipush 255, 3) := by decide +kernel
theorem dX0_knots_4 : decode cX0_knots 4 = .ok (.invokevirtual 62, 3) := by decide +kernel
theorem dX0_knots_7 : decode cX0_knots 7 = .ok (.iconst 0, 1) := by decide +kernel
theorem dX0_knots_8 : decode cX0_knots 8 = .ok (.istore_n 1, 1) := by decide +kernel
theorem dX0_knots_9 : decode cX0_knots 9 = .ok (.iconst 0, 1) := by decide +kernel
theorem dX0_knots_10 : decode cX0_knots 10 = .ok (.istore_n 2, 1) := by decide +kernel
theorem dX0_knots_11 : decode cX0_knots 11 = .ok (.iconst 0, 1) := by decide +kernel
theorem dX0_knots_12 : decode cX0_knots 12 = .ok (.istore_n 3, 1) := by decide +kernel
theorem dX0_knots_13 : decode cX0_knots 13 = .ok (.iload_n 3, 1) := by decide +kernel
theorem dX0_knots_14 : decode cX0_knots 14 = .ok (.bipush 8, 2) := by decide +kernel
theorem dX0_knots_16 : decode cX0_knots 16 = .ok (.if_icmp .ge 37, 3) := by decide +kernel
theorem dX0_knots_19 : decode cX0_knots 19 = .ok (.aload_n 0, 1) := by decide +kernel
theorem dX0_knots_20 : decode cX0_knots 20 = .ok (.iload_n 3, 1) := by decide +kernel
theorem dX0_knots_21 : decode cX0_knots 21 = .ok (.invokevirtual 66, 3) := by decide +kernel
theorem dX0_knots_24 : decode cX0_knots 24 = .ok (.istore 4, 2) := by decide +kernel
theorem dX0_knots_26 : decode cX0_knots 26 = .ok (.iload 4, 2) := by decide +kernel
theorem dX0_knots_28 : decode cX0_knots 28 = .ok (.ifCond .eq 14, 3) := by decide +kernel
theorem dX0_knots_31 : decode cX0_knots 31 = .ok (.iload_n 2, 1) := by decide +kernel
theorem dX0_knots_32 : decode cX0_knots 32 = .ok (.iload_n 3, 1) := by decide +kernel
theorem dX0_knots_33 : decode cX0_knots 33 = .ok (.ishr, 1) := by decide +kernel
theorem dX0_knots_34 : decode cX0_knots 34 = .ok (.iconst 1, 1) := by decide +kernel
theorem dX0_knots_35 : decode cX0_knots 35 = .ok (.iand, 1) := by decide +kernel
theorem dX0_knots_36 : decode cX0_knots 36 = .ok (.ifCond .ne 6, 3) := by decide +kernel
theorem dX0_knots_39 : decode cX0_knots 39 = .ok (.iinc 1 1, 3) := by decide +kernel
theorem dX0_knots_42 : decode cX0_knots 42 = .ok (.iload_n 2, 1) := by decide +kernel
theorem dX0_knots_43 : decode cX0_knots 43 = .ok (.iload 4, 2) := by decide +kernel
theorem dX0_knots_45 : decode cX0_knots 45 = .ok (.ior, 1) := by decide +kernel
theorem dX0_knots_46 : decode cX0_knots 46 = .ok (.istore_n 2, 1) := by decide +kernel
theorem dX0_knots_47 : decode cX0_knots 47 = .ok (.iinc 3 1, 3) := by decide +kernel
theorem dX0_knots_50 : decode cX0_knots 50 = .ok (.goto (-37), 3) := by decide +kernel
theorem dX0_knots_53 : decode cX0_knots 53 = .ok (.iload_n 1, 1) := by decide +kernel
theorem dX0_knots_54 : decode cX0_knots 54 = .ok (.ireturn, 1) := by decide +kernel
end
section
set_option maxRecDepth 100000
theorem dX1_init_0 : decode cX1_init 0 = .ok (.aload_n 0, 1) := by decide +kernel
theorem dX1_init_1 : decode cX1_init 1 = .ok (.invokespecial 1, 3) := by decide +kernel
theorem dX1_init_4 : decode cX1_init 4 = .ok (.aload_n 0, 1) := by decide +kernel
theorem dX1_init_5 : decode cX1_init 5 = .ok (.bipush 8, 2) := by decide +kernel
theorem dX1_init_7 : decode cX1_init 7 = .ok (.newarray .int, 2) := by decide +kernel
theorem dX1_init_9 : decode cX1_init 9 = .ok (.putfield 7, 3) := by decide +kernel
theorem dX1_init_12 : decode cX1_init 12 = .ok (.aload_n 0, 1) := by decide +kernel
theorem dX1_init_13 : decode cX1_init 13 = .ok (.iconst 4, 1) := by decide +kernel
theorem dX1_init_14 : decode cX1_init 14 = .ok (.newarray .int, 2) := by decide +kernel
theorem dX1_init_16 : decode cX1_init 16 = .ok (.putfield 13, 3) := by decide +kernel
theorem dX1_init_19 : decode cX1_init 19 = .ok (.aload_n 0, 1) := by decide +kernel
theorem dX1_init_20 : decode cX1_init 20 = .ok (.iconst 3, 1) := by decide +kernel
theorem dX1_init_21 : decode cX1_init 21 = .ok (.newarray .int, 2) := by decide +kernel
theorem dX1_init_23 : decode cX1_init 23 = .ok (.putfield 16, 3) := by decide +kernel
theorem dX1_init_26 : decode cX1_init 26 = .ok (.aload_n 0, 1) := by decide +kernel
theorem dX1_init_27 : decode cX1_init 27 = .ok (.bipush 20, 2) := by decide +kernel
theorem dX1_init_29 : decode cX1_init 29 = .ok (.newarray .int, 2) := by decide +kernel
theorem dX1_init_31 : decode cX1_init 31 = .ok (.putfield 19, 3) := by decide +kernel
theorem dX1_init_34 : decode cX1_init 34 = .ok (.aload_n 0, 1) := by decide +kernel
theorem dX1_init_35 : decode cX1_init 35 = .ok (.bipush 20, 2) := by decide +kernel
theorem dX1_init_37 : decode cX1_init 37 = .ok (.newarray .int, 2) := by decide +kernel
theorem dX1_init_39 : decode cX1_init 39 = .ok (.putfield 22, 3) := by decide +kernel
theorem dX1_init_42 : decode cX1_init 42 = .ok (.aload_n 0, 1) := by decide +kernel
theorem dX1_init_43 : decode cX1_init 43 = .ok (.bipush 20, 2) := by decide +kernel
theorem dX1_init_45 : decode cX1_init 45 = .ok (.newarray .int, 2) := by decide +kernel
theorem dX1_init_47 : decode cX1_init 47 = .ok (.putfield 25, 3) := by decide +kernel
theorem dX1_init_50 : decode cX1_init 50 = .ok (.aload_n 0, 1) := by decide +kernel
theorem dX1_init_51 : decode cX1_init 51 = .ok (.bipush 20, 2) := by decide +kernel
theorem dX1_init_53 : decode cX1_init 53 = .ok (.newarray .int, 2) := by decide +kernel
theorem dX1_init_55 : decode cX1_init 55 = .ok (.putfield 28, 3) := by decide +kernel
theorem dX1_init_58 : decode cX1_init 58 = .ok (.aload_n 0, 1) := by decide +kernel
theorem dX1_init_59 : decode cX1_init 59 = .ok (.bipush 6, 2) := by decide +kernel
theorem dX1_init_61 : decode cX1_init 61 = .ok (.newarray .int, 2) := by decide +kernel
theorem dX1_init_63 : decode cX1_init 63 = .ok (.putfield 31, 3) := by decide +kernel
theorem dX1_init_66 : decode cX1_init 66 = .ok (.return_, 1) := by decide +kernel
theorem dX1_arcs_0 : decode cX1_arcs 0 = .ok (.aload_n 0, 1) := by decide +kernel
theorem dX1_arcs_1 : decode cX1_arcs 1 = .ok (.iload_n 1, 1) := by decide +kernel
theorem dX1_arcs_2 : decode cX1_arcs 2 = .ok (.invokevirtual 34, 3) := by decide +kernel
theorem dX1_arcs_5 : decode cX1_arcs 5 = .ok (.ifCond .eq 11, 3) := by decide +kernel
theorem dX1_arcs_8 : decode cX1_arcs 8 = .ok (.aload_n 0, 1) := by decide +kernel
theorem dX1_arcs_9 : decode cX1_arcs 9 = .ok (.iload_n 2, 1) := by decide +kernel
theorem dX1_arcs_10 : decode cX1_arcs 10 = .ok (.invokevirtual 38, 3) := by decide +kernel
theorem dX1_arcs_13 : decode cX1_arcs 13 = .ok (.ifCond .ne 5, 3) := by decide +kernel
theorem dX1_arcs_16 : decode cX1_arcs 16 = .ok (.iconst (-1), 1) := by decide +kernel
theorem dX1_arcs_17 : decode cX1_arcs 17 = .ok (.ireturn, 1) := by decide +kernel
theorem dX1_arcs_18 : decode cX1_arcs 18 = .ok (.aload_n 0, 1) := by decide +kernel
theorem dX1_arcs_19 : decode cX1_arcs 19 = .ok (.getfield 7, 3) := by decide +kernel
theorem dX1_arcs_22 : decode cX1_arcs 22 = .ok (.iload_n 1, 1) := by decide +kernel
theorem dX1_arcs_23 : decode cX1_arcs 23 = .ok (.iaload, 1) := by decide +kernel
theorem dX1_arcs_24 : decode cX1_arcs 24 = .ok (.istore_n 3, 1) := by decide +kernel
theorem dX1_arcs_25 : decode cX1_arcs 25 = .ok (.aload_n 0, 1) := by decide +kernel
theorem dX1_arcs_26 : decode cX1_arcs 26 = .ok (.getfield 7, 3) := by decide +kernel
theorem dX1_arcs_29 : decode cX1_arcs 29 = .ok (.iload_n 1, 1) := by decide +kernel
theorem dX1_arcs_30 : decode cX1_arcs 30 = .ok (.iload_n 2, 1) := by decide +kernel
theorem dX1_arcs_31 : decode cX1_arcs 31 = .ok (.iastore, 1) := by decide +kernel
theorem dX1_arcs_32 : decode cX1_arcs 32 = .ok (.iload_n 3, 1) := by decide +kernel
theorem dX1_arcs_33 : decode cX1_arcs 33 = .ok (.ireturn, 1) := by decide +kernel
theorem dX1_isState_0 : decode cX1_isState 0 = .ok (.iload_n 1, 1) := by decide +kernel
theorem dX1_isState_1 : decode cX1_isState 1 = .ok (.ifCond .lt 13, 3) := by decide +kernel
theorem dX1_isState_4 : decode cX1_isState 4 = .ok (.iload_n 1, 1) := by decide +kernel
theorem dX1_isState_5 : decode cX1_isState 5 = .ok (.bipush 7, 2) := by decide +kernel
theorem dX1_isState_7 : decode cX1_isState 7 = .ok (.if_icmp .gt 7, 3) := by decide +kernel
theorem dX1_isState_10 : decode cX1_isState 10 = .ok (.iconst 1, 1) := by decide +kernel
theorem dX1_isState_11 : decode cX1_isState 11 = .ok (.goto 4, 3) := by decide +kernel
theorem dX1_isState_14 : decode cX1_isState 14 = .ok (.iconst 0, 1) := by decide +kernel
theorem dX1_isState_15 : decode cX1_isState 15 = .ok (.ireturn, 1) := by decide +kernel
theorem dX1_isSet_0 : decode cX1_isSet 0 = .ok (.iload_n 1, 1) := by decide +kernel
theorem dX1_isSet_1 : decode cX1_isSet 1 = .ok (.ifCond .lt 14, 3) := by decide +kernel
theorem dX1_isSet_4 : decode cX1_isSet 4 = .ok (.iload_n 1, 1) := by decide +kernel
theorem dX1_isSet_5 : decode cX1_isSet 5 = .ok (.sipush 255, 3) := by decide +kernel
theorem dX1_isSet_8 : decode cX1_isSet 8 = .ok (.if_icmp .gt 7, 3) := by decide +kernel
theorem dX1_isSet_11 : decode cX1_isSet 11 = .ok (.iconst 1, 1) := by decide +kernel
theorem dX1_isSet_12 : decode cX1_isSet 12 = .ok (.goto 4, 3) := by decide +kernel
theorem dX1_isSet_15 : decode cX1_isSet 15 = .ok (.iconst 0, 1) := by decide +kernel
theorem dX1_isSet_16 : decode cX1_isSet 16 = .ok (.ireturn, 1) := by decide +kernel
theorem dX1_mark_0 : decode cX1_mark 0 = .ok (.iload_n 1, 1) := by decide +kernel
theorem dX1_mark_1 : decode cX1_mark 1 = .ok (.ifCond .lt 16, 3) := by decide +kernel
theorem dX1_mark_4 : decode cX1_mark 4 = .ok (.iload_n 1, 1) := by decide +kernel
theorem dX1_mark_5 : decode cX1_mark 5 = .ok (.iconst 3, 1) := by decide +kernel
theorem dX1_mark_6 : decode cX1_mark 6 = .ok (.if_icmp .gt 11, 3) := by decide +kernel
theorem dX1_mark_9 : decode cX1_mark 9 = .ok (.aload_n 0, 1) := by decide +kernel
theorem dX1_mark_10 : decode cX1_mark 10 = .ok (.iload_n 2, 1) := by decide +kernel
theorem dX1_mark_11 : decode cX1_mark 11 = .ok (.invokevirtual 38, 3) := by decide +kernel
theorem dX1_mark_14 : decode cX1_mark 14 = .ok (.ifCond .ne 5, 3) := by decide +kernel
theorem dX1_mark_17 : decode cX1_mark 17 = .ok (.iconst (-1), 1) := by decide +kernel
theorem dX1_mark_18 : decode cX1_mark 18 = .ok (.ireturn, 1) := by decide +kernel
theorem dX1_mark_19 : decode cX1_mark 19 = .ok (.aload_n 0, 1) := by decide +kernel
theorem dX1_mark_20 : decode cX1_mark 20 = .ok (.getfield 13, 3) := by decide +kernel
theorem dX1_mark_23 : decode cX1_mark 23 = .ok (.iload_n 1, 1) := by decide +kernel
theorem dX1_mark_24 : decode cX1_mark 24 = .ok (.iaload, 1) := by decide +kernel
theorem dX1_mark_25 : decode cX1_mark 25 = .ok (.istore_n 3, 1) := by decide +kernel
theorem dX1_mark_26 : decode cX1_mark 26 = .ok (.aload_n 0, 1) := by decide +kernel
theorem dX1_mark_27 : decode cX1_mark 27 = .ok (.getfield 13, 3) := by decide +kernel
theorem dX1_mark_30 : decode cX1_mark 30 = .ok (.iload_n 1, 1) := by decide +kernel
theorem dX1_mark_31 : decode cX1_mark 31 = .ok (.iload_n 2, 1) := by decide +kernel
theorem dX1_mark_32 : decode cX1_mark 32 = .ok (.iastore, 1) := by decide +kernel
theorem dX1_mark_33 : decode cX1_mark 33 = .ok (.iload_n 3, 1) := by decide +kernel
theorem dX1_mark_34 : decode cX1_mark 34 = .ok (.ireturn, 1) := by decide +kernel
theorem dX1_demand_0 : decode cX1_demand 0 = .ok (.aload_n 0, 1) := by decide +kernel
theorem dX1_demand_1 : decode cX1_demand 1 = .ok (.iload_n 1, 1) := by decide +kernel
theorem dX1_demand_2 : decode cX1_demand 2 = .ok (.invokevirtual 38, 3) := by decide +kernel
theorem dX1_demand_5 : decode cX1_demand 5 = .ok (.ifCond .ne 5, 3) := by decide +kernel
theorem dX1_demand_8 : decode cX1_demand 8 = .ok (.iconst (-1), 1) := by decide +kernel
theorem dX1_demand_9 : decode cX1_demand 9 = .ok (.ireturn, 1) := by decide +kernel
theorem dX1_demand_10 : decode cX1_demand 10 = .ok (.aload_n 0, 1) := by decide +kernel
theorem dX1_demand_11 : decode cX1_demand 11 = .ok (.getfield 41, 3) := by decide +kernel
theorem dX1_demand_14 : decode cX1_demand 14 = .ok (.iconst 3, 1) := by decide +kernel
theorem dX1_demand_15 : decode cX1_demand 15 = .ok (.if_icmp .ne 6, 3) := by decide +kernel
theorem dX1_demand_18 : decode cX1_demand 18 = .ok (.bipush (-2), 2) := by decide +kernel
theorem dX1_demand_20 : decode cX1_demand 20 = .ok (.ireturn, 1) := by decide +kernel
theorem dX1_demand_21 : decode cX1_demand 21 = .ok (.aload_n 0, 1) := by decide +kernel
theorem dX1_demand_22 : decode cX1_demand 22 = .ok (.getfield 16, 3) := by decide +kernel
theorem dX1_demand_25 : decode cX1_demand 25 = .ok (.aload_n 0, 1) := by decide +kernel
theorem dX1_demand_26 : decode cX1_demand 26 = .ok (.getfield 41, 3) := by decide +kernel
theorem dX1_demand_29 : decode cX1_demand 29 = .ok (.iload_n 1, 1) := by decide +kernel
theorem dX1_demand_30 : decode cX1_demand 30 = .ok (.iastore, 1) := by decide +kernel
theorem dX1_demand_31 : decode cX1_demand 31 = .ok (.aload_n 0, 1) := by decide +kernel
theorem dX1_demand_32 : decode cX1_demand 32 = .ok (.dup, 1) := by decide +kernel
theorem dX1_demand_33 : decode cX1_demand 33 = .ok (.getfield 41, 3) := by decide +kernel
theorem dX1_demand_36 : decode cX1_demand 36 = .ok (.iconst 1, 1) := by decide +kernel
theorem dX1_demand_37 : decode cX1_demand 37 = .ok (.iadd, 1) := by decide +kernel
theorem dX1_demand_38 : decode cX1_demand 38 = .ok (.putfield 41, 3) := by decide +kernel
theorem dX1_demand_41 : decode cX1_demand 41 = .ok (.aload_n 0, 1) := by decide +kernel
theorem dX1_demand_42 : decode cX1_demand 42 = .ok (.getfield 41, 3) := by decide +kernel
theorem dX1_demand_45 : decode cX1_demand 45 = .ok (.ireturn, 1) := by decide +kernel
theorem dX1_undemand_0 : decode cX1_undemand 0 = .ok (.aload_n 0, 1) := by decide +kernel
theorem dX1_undemand_1 : decode cX1_undemand 1 = .ok (.getfield 41, 3) := by decide +kernel
theorem dX1_undemand_4 : decode cX1_undemand 4 = .ok (.ifCond .ne 6, 3) := by decide +kernel
theorem dX1_undemand_7 : decode cX1_undemand 7 = .ok (.bipush (-4), 2) := by decide +kernel
theorem dX1_undemand_9 : decode cX1_undemand 9 = .ok (.ireturn, 1) := by decide +kernel
theorem dX1_undemand_10 : decode cX1_undemand 10 = .ok (.aload_n 0, 1) := by decide +kernel
theorem dX1_undemand_11 : decode cX1_undemand 11 = .ok (.dup, 1) := by decide +kernel
theorem dX1_undemand_12 : decode cX1_undemand 12 = .ok (.getfield 41, 3) := by decide +kernel
theorem dX1_undemand_15 : decode cX1_undemand 15 = .ok (.iconst 1, 1) := by decide +kernel
theorem dX1_undemand_16 : decode cX1_undemand 16 = .ok (.isub, 1) := by decide +kernel
theorem dX1_undemand_17 : decode cX1_undemand 17 = .ok (.putfield 41, 3) := by decide +kernel
theorem dX1_undemand_20 : decode cX1_undemand 20 = .ok (.aload_n 0, 1) := by decide +kernel
theorem dX1_undemand_21 : decode cX1_undemand 21 = .ok (.getfield 16, 3) := by decide +kernel
theorem dX1_undemand_24 : decode cX1_undemand 24 = .ok (.aload_n 0, 1) := by decide +kernel
theorem dX1_undemand_25 : decode cX1_undemand 25 = .ok (.getfield 41, 3) := by decide +kernel
theorem dX1_undemand_28 : decode cX1_undemand 28 = .ok (.iaload, 1) := by decide +kernel
theorem dX1_undemand_29 : decode cX1_undemand 29 = .ok (.ireturn, 1) := by decide +kernel
theorem dX1_push_0 : decode cX1_push 0 = .ok (.iload_n 1, 1) := by decide +kernel
theorem dX1_push_1 : decode cX1_push 1 = .ok (.ifCond .lt 8, 3) := by decide +kernel
theorem dX1_push_4 : decode cX1_push 4 = .ok (.iload_n 1, 1) := by decide +kernel
theorem dX1_push_5 : decode cX1_push 5 = .ok (.iconst 3, 1) := by decide +kernel
theorem dX1_push_6 : decode cX1_push 6 = .ok (.if_icmp .le 5, 3) := by decide +kernel
theorem dX1_push_9 : decode cX1_push 9 = .ok (.iconst (-1), 1) := by decide +kernel
theorem dX1_push_10 : decode cX1_push 10 = .ok (.ireturn, 1) := by decide +kernel
theorem dX1_push_11 : decode cX1_push 11 = .ok (.aload_n 0, 1) := by decide +kernel
theorem dX1_push_12 : decode cX1_push 12 = .ok (.getfield 48, 3) := by decide +kernel
theorem dX1_push_15 : decode cX1_push 15 = .ok (.bipush 6, 2) := by decide +kernel
theorem dX1_push_17 : decode cX1_push 17 = .ok (.if_icmp .eq 12, 3) := by decide +kernel
theorem dX1_push_20 : decode cX1_push 20 = .ok (.aload_n 0, 1) := by decide +kernel
theorem dX1_push_21 : decode cX1_push 21 = .ok (.getfield 45, 3) := by decide +kernel
theorem dX1_push_24 : decode cX1_push 24 = .ok (.bipush 20, 2) := by decide +kernel
theorem dX1_push_26 : decode cX1_push 26 = .ok (.if_icmp .ne 8, 3) := by decide +kernel
theorem dX1_push_29 : decode cX1_push 29 = .ok (.bipush (-2), 2) := by decide +kernel
theorem dX1_push_31 : decode cX1_push 31 = .ok (.goto 13, 3) := by decide +kernel
theorem dX1_push_34 : decode cX1_push 34 = .ok (.aload_n 0, 1) := by decide +kernel
theorem dX1_push_35 : decode cX1_push 35 = .ok (.bipush 20, 2) := by decide +kernel
theorem dX1_push_37 : decode cX1_push 37 = .ok (.iload_n 1, 1) := by decide +kernel
theorem dX1_push_38 : decode cX1_push 38 = .ok (.iadd, 1) := by decide +kernel
theorem dX1_push_39 : decode cX1_push 39 = .ok (.iconst 0, 1) := by decide +kernel
theorem dX1_push_40 : decode cX1_push 40 = .ok (.iconst 0, 1) := by decide +kernel
theorem dX1_push_41 : decode cX1_push 41 = .ok (.invokevirtual 51, 3) := by decide +kernel
theorem dX1_push_44 : decode cX1_push 44 = .ok (.ireturn, 1) := by decide +kernel
theorem dX1_note_0 : decode cX1_note 0 = .ok (.aload_n 0, 1) := by decide +kernel
theorem dX1_note_1 : decode cX1_note 1 = .ok (.getfield 19, 3) := by decide +kernel
theorem dX1_note_4 : decode cX1_note 4 = .ok (.aload_n 0, 1) := by decide +kernel
theorem dX1_note_5 : decode cX1_note 5 = .ok (.getfield 45, 3) := by decide +kernel
theorem dX1_note_8 : decode cX1_note 8 = .ok (.iload_n 1, 1) := by decide +kernel
theorem dX1_note_9 : decode cX1_note 9 = .ok (.iastore, 1) := by decide +kernel
theorem dX1_note_10 : decode cX1_note 10 = .ok (.aload_n 0, 1) := by decide +kernel
theorem dX1_note_11 : decode cX1_note 11 = .ok (.getfield 22, 3) := by decide +kernel
theorem dX1_note_14 : decode cX1_note 14 = .ok (.aload_n 0, 1) := by decide +kernel
theorem dX1_note_15 : decode cX1_note 15 = .ok (.getfield 45, 3) := by decide +kernel
theorem dX1_note_18 : decode cX1_note 18 = .ok (.iload_n 2, 1) := by decide +kernel
theorem dX1_note_19 : decode cX1_note 19 = .ok (.iastore, 1) := by decide +kernel
theorem dX1_note_20 : decode cX1_note 20 = .ok (.aload_n 0, 1) := by decide +kernel
theorem dX1_note_21 : decode cX1_note 21 = .ok (.getfield 25, 3) := by decide +kernel
theorem dX1_note_24 : decode cX1_note 24 = .ok (.aload_n 0, 1) := by decide +kernel
theorem dX1_note_25 : decode cX1_note 25 = .ok (.getfield 45, 3) := by decide +kernel
theorem dX1_note_28 : decode cX1_note 28 = .ok (.iload_n 3, 1) := by decide +kernel
theorem dX1_note_29 : decode cX1_note 29 = .ok (.iastore, 1) := by decide +kernel
theorem dX1_note_30 : decode cX1_note 30 = .ok (.aload_n 0, 1) := by decide +kernel
theorem dX1_note_31 : decode cX1_note 31 = .ok (.getfield 31, 3) := by decide +kernel
theorem dX1_note_34 : decode cX1_note 34 = .ok (.aload_n 0, 1) := by decide +kernel
theorem dX1_note_35 : decode cX1_note 35 = .ok (.getfield 48, 3) := by decide +kernel
theorem dX1_note_38 : decode cX1_note 38 = .ok (.aload_n 0, 1) := by decide +kernel
theorem dX1_note_39 : decode cX1_note 39 = .ok (.getfield 45, 3) := by decide +kernel
theorem dX1_note_42 : decode cX1_note 42 = .ok (.iastore, 1) := by decide +kernel
theorem dX1_note_43 : decode cX1_note 43 = .ok (.aload_n 0, 1) := by decide +kernel
theorem dX1_note_44 : decode cX1_note 44 = .ok (.dup, 1) := by decide +kernel
theorem dX1_note_45 : decode cX1_note 45 = .ok (.getfield 45, 3) := by decide +kernel
theorem dX1_note_48 : decode cX1_note 48 = .ok (.iconst 1, 1) := by decide +kernel
theorem dX1_note_49 : decode cX1_note 49 = .ok (.iadd, 1) := by decide +kernel
theorem dX1_note_50 : decode cX1_note 50 = .ok (.putfield 45, 3) := by decide +kernel
theorem dX1_note_53 : decode cX1_note 53 = .ok (.aload_n 0, 1) := by decide +kernel
theorem dX1_note_54 : decode cX1_note 54 = .ok (.dup, 1) := by decide +kernel
theorem dX1_note_55 : decode cX1_note 55 = .ok (.getfield 48, 3) := by decide +kernel
theorem dX1_note_58 : decode cX1_note 58 = .ok (.iconst 1, 1) := by decide +kernel
theorem dX1_note_59 : decode cX1_note 59 = .ok (.iadd, 1) := by decide +kernel
theorem dX1_note_60 : decode cX1_note 60 = .ok (.putfield 48, 3) := by decide +kernel
theorem dX1_note_63 : decode cX1_note 63 = .ok (.aload_n 0, 1) := by decide +kernel
theorem dX1_note_64 : decode cX1_note 64 = .ok (.getfield 48, 3) := by decide +kernel
theorem dX1_note_67 : decode cX1_note 67 = .ok (.ireturn, 1) := by decide +kernel
theorem dX1_one_0 : decode cX1_one 0 = .ok (.iload_n 1, 1) := by decide +kernel
theorem dX1_one_1 : decode cX1_one 1 = .ok (.ifCond .lt 9, 3) := by decide +kernel
theorem dX1_one_4 : decode cX1_one 4 = .ok (.iload_n 1, 1) := by decide +kernel
theorem dX1_one_5 : decode cX1_one 5 = .ok (.bipush 6, 2) := by decide +kernel
theorem dX1_one_7 : decode cX1_one 7 = .ok (.if_icmp .le 5, 3) := by decide +kernel
theorem dX1_one_10 : decode cX1_one 10 = .ok (.iconst (-1), 1) := by decide +kernel
theorem dX1_one_11 : decode cX1_one 11 = .ok (.ireturn, 1) := by decide +kernel
theorem dX1_one_12 : decode cX1_one 12 = .ok (.aload_n 0, 1) := by decide +kernel
theorem dX1_one_13 : decode cX1_one 13 = .ok (.getfield 48, 3) := by decide +kernel
theorem dX1_one_16 : decode cX1_one 16 = .ok (.ifCond .ne 6, 3) := by decide +kernel
theorem dX1_one_19 : decode cX1_one 19 = .ok (.bipush (-3), 2) := by decide +kernel
theorem dX1_one_21 : decode cX1_one 21 = .ok (.ireturn, 1) := by decide +kernel
theorem dX1_one_22 : decode cX1_one 22 = .ok (.aload_n 0, 1) := by decide +kernel
theorem dX1_one_23 : decode cX1_one 23 = .ok (.getfield 45, 3) := by decide +kernel
theorem dX1_one_26 : decode cX1_one 26 = .ok (.bipush 20, 2) := by decide +kernel
theorem dX1_one_28 : decode cX1_one 28 = .ok (.if_icmp .ne 6, 3) := by decide +kernel
theorem dX1_one_31 : decode cX1_one 31 = .ok (.bipush (-2), 2) := by decide +kernel
theorem dX1_one_33 : decode cX1_one 33 = .ok (.ireturn, 1) := by decide +kernel
theorem dX1_one_34 : decode cX1_one 34 = .ok (.aload_n 0, 1) := by decide +kernel
theorem dX1_one_35 : decode cX1_one 35 = .ok (.dup, 1) := by decide +kernel
theorem dX1_one_36 : decode cX1_one 36 = .ok (.getfield 48, 3) := by decide +kernel
theorem dX1_one_39 : decode cX1_one 39 = .ok (.iconst 1, 1) := by decide +kernel
theorem dX1_one_40 : decode cX1_one 40 = .ok (.isub, 1) := by decide +kernel
theorem dX1_one_41 : decode cX1_one 41 = .ok (.putfield 48, 3) := by decide +kernel
theorem dX1_one_44 : decode cX1_one 44 = .ok (.aload_n 0, 1) := by decide +kernel
theorem dX1_one_45 : decode cX1_one 45 = .ok (.iload_n 1, 1) := by decide +kernel
theorem dX1_one_46 : decode cX1_one 46 = .ok (.aload_n 0, 1) := by decide +kernel
theorem dX1_one_47 : decode cX1_one 47 = .ok (.getfield 31, 3) := by decide +kernel
theorem dX1_one_50 : decode cX1_one 50 = .ok (.aload_n 0, 1) := by decide +kernel
theorem dX1_one_51 : decode cX1_one 51 = .ok (.getfield 48, 3) := by decide +kernel
theorem dX1_one_54 : decode cX1_one 54 = .ok (.iaload, 1) := by decide +kernel
theorem dX1_one_55 : decode cX1_one 55 = .ok (.iconst 0, 1) := by decide +kernel
theorem dX1_one_56 : decode cX1_one 56 = .ok (.invokevirtual 51, 3) := by decide +kernel
theorem dX1_one_59 : decode cX1_one 59 = .ok (.ireturn, 1) := by decide +kernel
theorem dX1_two_0 : decode cX1_two 0 = .ok (.iload_n 1, 1) := by decide +kernel
theorem dX1_two_1 : decode cX1_two 1 = .ok (.ifCond .lt 8, 3) := by decide +kernel
theorem dX1_two_4 : decode cX1_two 4 = .ok (.iload_n 1, 1) := by decide +kernel
theorem dX1_two_5 : decode cX1_two 5 = .ok (.iconst 3, 1) := by decide +kernel
theorem dX1_two_6 : decode cX1_two 6 = .ok (.if_icmp .le 5, 3) := by decide +kernel
theorem dX1_two_9 : decode cX1_two 9 = .ok (.iconst (-1), 1) := by decide +kernel
theorem dX1_two_10 : decode cX1_two 10 = .ok (.ireturn, 1) := by decide +kernel
theorem dX1_two_11 : decode cX1_two 11 = .ok (.aload_n 0, 1) := by decide +kernel
theorem dX1_two_12 : decode cX1_two 12 = .ok (.getfield 48, 3) := by decide +kernel
theorem dX1_two_15 : decode cX1_two 15 = .ok (.iconst 2, 1) := by decide +kernel
theorem dX1_two_16 : decode cX1_two 16 = .ok (.if_icmp .ge 6, 3) := by decide +kernel
theorem dX1_two_19 : decode cX1_two 19 = .ok (.bipush (-3), 2) := by decide +kernel
theorem dX1_two_21 : decode cX1_two 21 = .ok (.ireturn, 1) := by decide +kernel
theorem dX1_two_22 : decode cX1_two 22 = .ok (.aload_n 0, 1) := by decide +kernel
theorem dX1_two_23 : decode cX1_two 23 = .ok (.getfield 45, 3) := by decide +kernel
theorem dX1_two_26 : decode cX1_two 26 = .ok (.bipush 20, 2) := by decide +kernel
theorem dX1_two_28 : decode cX1_two 28 = .ok (.if_icmp .ne 6, 3) := by decide +kernel
theorem dX1_two_31 : decode cX1_two 31 = .ok (.bipush (-2), 2) := by decide +kernel
theorem dX1_two_33 : decode cX1_two 33 = .ok (.ireturn, 1) := by decide +kernel
theorem dX1_two_34 : decode cX1_two 34 = .ok (.aload_n 0, 1) := by decide +kernel
theorem dX1_two_35 : decode cX1_two 35 = .ok (.aload_n 0, 1) := by decide +kernel
theorem dX1_two_36 : decode cX1_two 36 = .ok (.getfield 48, 3) := by decide +kernel
theorem dX1_two_39 : decode cX1_two 39 = .ok (.iconst 2, 1) := by decide +kernel
theorem dX1_two_40 : decode cX1_two 40 = .ok (.isub, 1) := by decide +kernel
theorem dX1_two_41 : decode cX1_two 41 = .ok (.putfield 48, 3) := by decide +kernel
theorem dX1_two_44 : decode cX1_two 44 = .ok (.aload_n 0, 1) := by decide +kernel
theorem dX1_two_45 : decode cX1_two 45 = .ok (.bipush 10, 2) := by decide +kernel
theorem dX1_two_47 : decode cX1_two 47 = .ok (.iload_n 1, 1) := by decide +kernel
theorem dX1_two_48 : decode cX1_two 48 = .ok (.iadd, 1) := by decide +kernel
end
section
set_option maxRecDepth 100000
theorem dX1_two_49 : decode cX1_two 49 = .ok (.aload_n 0, 1) := by decide +kernel
theorem dX1_two_50 : decode cX1_two 50 = .ok (.getfield 31, 3) := by decide +kernel
theorem dX1_two_53 : decode cX1_two 53 = .ok (.aload_n 0, 1) := by decide +kernel
theorem dX1_two_54 : decode cX1_two 54 = .ok (.getfield 48, 3) := by decide +kernel
theorem dX1_two_57 : decode cX1_two 57 = .ok (.iaload, 1) := by decide +kernel
theorem dX1_two_58 : decode cX1_two 58 = .ok (.aload_n 0, 1) := by decide +kernel
theorem dX1_two_59 : decode cX1_two 59 = .ok (.getfield 31, 3) := by decide +kernel
theorem dX1_two_62 : decode cX1_two 62 = .ok (.aload_n 0, 1) := by decide +kernel
theorem dX1_two_63 : decode cX1_two 63 = .ok (.getfield 48, 3) := by decide +kernel
theorem dX1_two_66 : decode cX1_two 66 = .ok (.iconst 1, 1) := by decide +kernel
theorem dX1_two_67 : decode cX1_two 67 = .ok (.iadd, 1) := by decide +kernel
theorem dX1_two_68 : decode cX1_two 68 = .ok (.iaload, 1) := by decide +kernel
theorem dX1_two_69 : decode cX1_two 69 = .ok (.invokevirtual 51, 3) := by decide +kernel
theorem dX1_two_72 : decode cX1_two 72 = .ok (.ireturn, 1) := by decide +kernel
theorem dX1_discard_0 : decode cX1_discard 0 = .ok (.aload_n 0, 1) := by decide +kernel
theorem dX1_discard_1 : decode cX1_discard 1 = .ok (.iconst 0, 1) := by decide +kernel
theorem dX1_discard_2 : decode cX1_discard 2 = .ok (.putfield 48, 3) := by decide +kernel
theorem dX1_discard_5 : decode cX1_discard 5 = .ok (.aload_n 0, 1) := by decide +kernel
theorem dX1_discard_6 : decode cX1_discard 6 = .ok (.iconst 0, 1) := by decide +kernel
theorem dX1_discard_7 : decode cX1_discard 7 = .ok (.putfield 45, 3) := by decide +kernel
theorem dX1_discard_10 : decode cX1_discard 10 = .ok (.return_, 1) := by decide +kernel
theorem dX1_depth_0 : decode cX1_depth 0 = .ok (.aload_n 0, 1) := by decide +kernel
theorem dX1_depth_1 : decode cX1_depth 1 = .ok (.getfield 48, 3) := by decide +kernel
theorem dX1_depth_4 : decode cX1_depth 4 = .ok (.ireturn, 1) := by decide +kernel
theorem dX1_holds_0 : decode cX1_holds 0 = .ok (.aload_n 0, 1) := by decide +kernel
theorem dX1_holds_1 : decode cX1_holds 1 = .ok (.invokevirtual 75, 3) := by decide +kernel
theorem dX1_holds_4 : decode cX1_holds 4 = .ok (.aload_n 0, 1) := by decide +kernel
theorem dX1_holds_5 : decode cX1_holds 5 = .ok (.getfield 48, 3) := by decide +kernel
theorem dX1_holds_8 : decode cX1_holds 8 = .ok (.ifCond .ne 8, 3) := by decide +kernel
theorem dX1_holds_11 : decode cX1_holds 11 = .ok (.bipush (-4), 2) := by decide +kernel
theorem dX1_holds_13 : decode cX1_holds 13 = .ok (.goto 19, 3) := by decide +kernel
theorem dX1_holds_16 : decode cX1_holds 16 = .ok (.aload_n 0, 1) := by decide +kernel
theorem dX1_holds_17 : decode cX1_holds 17 = .ok (.getfield 28, 3) := by decide +kernel
theorem dX1_holds_20 : decode cX1_holds 20 = .ok (.aload_n 0, 1) := by decide +kernel
theorem dX1_holds_21 : decode cX1_holds 21 = .ok (.getfield 31, 3) := by decide +kernel
theorem dX1_holds_24 : decode cX1_holds 24 = .ok (.aload_n 0, 1) := by decide +kernel
theorem dX1_holds_25 : decode cX1_holds 25 = .ok (.getfield 48, 3) := by decide +kernel
theorem dX1_holds_28 : decode cX1_holds 28 = .ok (.iconst 1, 1) := by decide +kernel
theorem dX1_holds_29 : decode cX1_holds 29 = .ok (.isub, 1) := by decide +kernel
theorem dX1_holds_30 : decode cX1_holds 30 = .ok (.iaload, 1) := by decide +kernel
theorem dX1_holds_31 : decode cX1_holds 31 = .ok (.iaload, 1) := by decide +kernel
theorem dX1_holds_32 : decode cX1_holds 32 = .ok (.ireturn, 1) := by decide +kernel
theorem dX1_findSets_0 : decode cX1_findSets 0 = .ok (.iconst 0, 1) := by decide +kernel
theorem dX1_findSets_1 : decode cX1_findSets 1 = .ok (.istore_n 1, 1) := by decide +kernel
theorem dX1_findSets_2 : decode cX1_findSets 2 = .ok (.iload_n 1, 1) := by decide +kernel
theorem dX1_findSets_3 : decode cX1_findSets 3 = .ok (.aload_n 0, 1) := by decide +kernel
theorem dX1_findSets_4 : decode cX1_findSets 4 = .ok (.getfield 45, 3) := by decide +kernel
theorem dX1_findSets_7 : decode cX1_findSets 7 = .ok (.if_icmp .ge 107, 3) := by decide +kernel
theorem dX1_findSets_10 : decode cX1_findSets 10 = .ok (.aload_n 0, 1) := by decide +kernel
theorem dX1_findSets_11 : decode cX1_findSets 11 = .ok (.getfield 19, 3) := by decide +kernel
theorem dX1_findSets_14 : decode cX1_findSets 14 = .ok (.iload_n 1, 1) := by decide +kernel
theorem dX1_findSets_15 : decode cX1_findSets 15 = .ok (.iaload, 1) := by decide +kernel
theorem dX1_findSets_16 : decode cX1_findSets 16 = .ok (.istore_n 2, 1) := by decide +kernel
theorem dX1_findSets_17 : decode cX1_findSets 17 = .ok (.iload_n 2, 1) := by decide +kernel
theorem dX1_findSets_18 : decode cX1_findSets 18 = .ok (.bipush 19, 2) := by decide +kernel
theorem dX1_findSets_20 : decode cX1_findSets 20 = .ok (.if_icmp .le 21, 3) := by decide +kernel
theorem dX1_findSets_23 : decode cX1_findSets 23 = .ok (.aload_n 0, 1) := by decide +kernel
theorem dX1_findSets_24 : decode cX1_findSets 24 = .ok (.getfield 28, 3) := by decide +kernel
theorem dX1_findSets_27 : decode cX1_findSets 27 = .ok (.iload_n 1, 1) := by decide +kernel
theorem dX1_findSets_28 : decode cX1_findSets 28 = .ok (.aload_n 0, 1) := by decide +kernel
theorem dX1_findSets_29 : decode cX1_findSets 29 = .ok (.getfield 13, 3) := by decide +kernel
theorem dX1_findSets_32 : decode cX1_findSets 32 = .ok (.iload_n 2, 1) := by decide +kernel
theorem dX1_findSets_33 : decode cX1_findSets 33 = .ok (.bipush 20, 2) := by decide +kernel
theorem dX1_findSets_35 : decode cX1_findSets 35 = .ok (.isub, 1) := by decide +kernel
theorem dX1_findSets_36 : decode cX1_findSets 36 = .ok (.iaload, 1) := by decide +kernel
theorem dX1_findSets_37 : decode cX1_findSets 37 = .ok (.iastore, 1) := by decide +kernel
theorem dX1_findSets_38 : decode cX1_findSets 38 = .ok (.goto 70, 3) := by decide +kernel
theorem dX1_findSets_41 : decode cX1_findSets 41 = .ok (.iload_n 2, 1) := by decide +kernel
theorem dX1_findSets_42 : decode cX1_findSets 42 = .ok (.bipush 9, 2) := by decide +kernel
theorem dX1_findSets_44 : decode cX1_findSets 44 = .ok (.if_icmp .le 42, 3) := by decide +kernel
theorem dX1_findSets_47 : decode cX1_findSets 47 = .ok (.aload_n 0, 1) := by decide +kernel
theorem dX1_findSets_48 : decode cX1_findSets 48 = .ok (.getfield 28, 3) := by decide +kernel
theorem dX1_findSets_51 : decode cX1_findSets 51 = .ok (.iload_n 1, 1) := by decide +kernel
theorem dX1_findSets_52 : decode cX1_findSets 52 = .ok (.aload_n 0, 1) := by decide +kernel
theorem dX1_findSets_53 : decode cX1_findSets 53 = .ok (.iload_n 2, 1) := by decide +kernel
theorem dX1_findSets_54 : decode cX1_findSets 54 = .ok (.bipush 10, 2) := by decide +kernel
theorem dX1_findSets_56 : decode cX1_findSets 56 = .ok (.isub, 1) := by decide +kernel
theorem dX1_findSets_57 : decode cX1_findSets 57 = .ok (.aload_n 0, 1) := by decide +kernel
theorem dX1_findSets_58 : decode cX1_findSets 58 = .ok (.getfield 28, 3) := by decide +kernel
theorem dX1_findSets_61 : decode cX1_findSets 61 = .ok (.aload_n 0, 1) := by decide +kernel
theorem dX1_findSets_62 : decode cX1_findSets 62 = .ok (.getfield 22, 3) := by decide +kernel
theorem dX1_findSets_65 : decode cX1_findSets 65 = .ok (.iload_n 1, 1) := by decide +kernel
theorem dX1_findSets_66 : decode cX1_findSets 66 = .ok (.iaload, 1) := by decide +kernel
theorem dX1_findSets_67 : decode cX1_findSets 67 = .ok (.iaload, 1) := by decide +kernel
theorem dX1_findSets_68 : decode cX1_findSets 68 = .ok (.aload_n 0, 1) := by decide +kernel
theorem dX1_findSets_69 : decode cX1_findSets 69 = .ok (.getfield 28, 3) := by decide +kernel
theorem dX1_findSets_72 : decode cX1_findSets 72 = .ok (.aload_n 0, 1) := by decide +kernel
theorem dX1_findSets_73 : decode cX1_findSets 73 = .ok (.getfield 25, 3) := by decide +kernel
theorem dX1_findSets_76 : decode cX1_findSets 76 = .ok (.iload_n 1, 1) := by decide +kernel
theorem dX1_findSets_77 : decode cX1_findSets 77 = .ok (.iaload, 1) := by decide +kernel
theorem dX1_findSets_78 : decode cX1_findSets 78 = .ok (.iaload, 1) := by decide +kernel
theorem dX1_findSets_79 : decode cX1_findSets 79 = .ok (.invokevirtual 69, 3) := by decide +kernel
theorem dX1_findSets_82 : decode cX1_findSets 82 = .ok (.iastore, 1) := by decide +kernel
theorem dX1_findSets_83 : decode cX1_findSets 83 = .ok (.goto 25, 3) := by decide +kernel
theorem dX1_findSets_86 : decode cX1_findSets 86 = .ok (.aload_n 0, 1) := by decide +kernel
theorem dX1_findSets_87 : decode cX1_findSets 87 = .ok (.getfield 28, 3) := by decide +kernel
theorem dX1_findSets_90 : decode cX1_findSets 90 = .ok (.iload_n 1, 1) := by decide +kernel
theorem dX1_findSets_91 : decode cX1_findSets 91 = .ok (.aload_n 0, 1) := by decide +kernel
theorem dX1_findSets_92 : decode cX1_findSets 92 = .ok (.iload_n 2, 1) := by decide +kernel
theorem dX1_findSets_93 : decode cX1_findSets 93 = .ok (.aload_n 0, 1) := by decide +kernel
theorem dX1_findSets_94 : decode cX1_findSets 94 = .ok (.getfield 28, 3) := by decide +kernel
theorem dX1_findSets_97 : decode cX1_findSets 97 = .ok (.aload_n 0, 1) := by decide +kernel
theorem dX1_findSets_98 : decode cX1_findSets 98 = .ok (.getfield 22, 3) := by decide +kernel
theorem dX1_findSets_101 : decode cX1_findSets 101 = .ok (.iload_n 1, 1) := by decide +kernel
theorem dX1_findSets_102 : decode cX1_findSets 102 = .ok (.iaload, 1) := by decide +kernel
theorem dX1_findSets_103 : decode cX1_findSets 103 = .ok (.iaload, 1) := by decide +kernel
theorem dX1_findSets_104 : decode cX1_findSets 104 = .ok (.invokevirtual 72, 3) := by decide +kernel
theorem dX1_findSets_107 : decode cX1_findSets 107 = .ok (.iastore, 1) := by decide +kernel
theorem dX1_findSets_108 : decode cX1_findSets 108 = .ok (.iinc 1 1, 3) := by decide +kernel
theorem dX1_findSets_111 : decode cX1_findSets 111 = .ok (.goto (-109), 3) := by decide +kernel
theorem dX1_findSets_114 : decode cX1_findSets 114 = .ok (.return_, 1) := by decide +kernel
theorem dX1_ofTwo_0 : decode cX1_ofTwo 0 = .ok (.iload_n 1, 1) := by decide +kernel
theorem dX1_ofTwo_1 : decode cX1_ofTwo 1 = .ok (.iconst 2, 1) := by decide +kernel
theorem dX1_ofTwo_2 : decode cX1_ofTwo 2 = .ok (.if_icmp .ge 17, 3) := by decide +kernel
theorem dX1_ofTwo_5 : decode cX1_ofTwo 5 = .ok (.iload_n 1, 1) := by decide +kernel
theorem dX1_ofTwo_6 : decode cX1_ofTwo 6 = .ok (.ifCond .ne 9, 3) := by decide +kernel
theorem dX1_ofTwo_9 : decode cX1_ofTwo 9 = .ok (.iload_n 2, 1) := by decide +kernel
theorem dX1_ofTwo_10 : decode cX1_ofTwo 10 = .ok (.iload_n 3, 1) := by decide +kernel
theorem dX1_ofTwo_11 : decode cX1_ofTwo 11 = .ok (.iand, 1) := by decide +kernel
theorem dX1_ofTwo_12 : decode cX1_ofTwo 12 = .ok (.goto 6, 3) := by decide +kernel
theorem dX1_ofTwo_15 : decode cX1_ofTwo 15 = .ok (.iload_n 2, 1) := by decide +kernel
theorem dX1_ofTwo_16 : decode cX1_ofTwo 16 = .ok (.iload_n 3, 1) := by decide +kernel
theorem dX1_ofTwo_17 : decode cX1_ofTwo 17 = .ok (.ior, 1) := by decide +kernel
theorem dX1_ofTwo_18 : decode cX1_ofTwo 18 = .ok (.ireturn, 1) := by decide +kernel
theorem dX1_ofTwo_19 : decode cX1_ofTwo 19 = .ok (.aload_n 0, 1) := by decide +kernel
theorem dX1_ofTwo_20 : decode cX1_ofTwo 20 = .ok (.sipush 255, 3) := by decide +kernel
theorem dX1_ofTwo_23 : decode cX1_ofTwo 23 = .ok (.invokevirtual 63, 3) := by decide +kernel
theorem dX1_ofTwo_26 : decode cX1_ofTwo 26 = .ok (.istore 4, 2) := by decide +kernel
theorem dX1_ofTwo_28 : decode cX1_ofTwo 28 = .ok (.iload_n 1, 1) := by decide +kernel
theorem dX1_ofTwo_29 : decode cX1_ofTwo 29 = .ok (.iconst 2, 1) := by decide +kernel
theorem dX1_ofTwo_30 : decode cX1_ofTwo 30 = .ok (.if_icmp .ne 13, 3) := by decide +kernel
theorem dX1_ofTwo_33 : decode cX1_ofTwo 33 = .ok (.aload_n 0, 1) := by decide +kernel
theorem dX1_ofTwo_34 : decode cX1_ofTwo 34 = .ok (.iload_n 2, 1) := by decide +kernel
theorem dX1_ofTwo_35 : decode cX1_ofTwo 35 = .ok (.iload_n 3, 1) := by decide +kernel
theorem dX1_ofTwo_36 : decode cX1_ofTwo 36 = .ok (.iload 4, 2) := by decide +kernel
theorem dX1_ofTwo_38 : decode cX1_ofTwo 38 = .ok (.iand, 1) := by decide +kernel
theorem dX1_ofTwo_39 : decode cX1_ofTwo 39 = .ok (.invokevirtual 59, 3) := by decide +kernel
theorem dX1_ofTwo_42 : decode cX1_ofTwo 42 = .ok (.ireturn, 1) := by decide +kernel
theorem dX1_ofTwo_43 : decode cX1_ofTwo 43 = .ok (.aload_n 0, 1) := by decide +kernel
theorem dX1_ofTwo_44 : decode cX1_ofTwo 44 = .ok (.iload_n 3, 1) := by decide +kernel
theorem dX1_ofTwo_45 : decode cX1_ofTwo 45 = .ok (.invokevirtual 66, 3) := by decide +kernel
theorem dX1_ofTwo_48 : decode cX1_ofTwo 48 = .ok (.istore 5, 2) := by decide +kernel
theorem dX1_ofTwo_50 : decode cX1_ofTwo 50 = .ok (.aload_n 0, 1) := by decide +kernel
theorem dX1_ofTwo_51 : decode cX1_ofTwo 51 = .ok (.iload 5, 2) := by decide +kernel
theorem dX1_ofTwo_53 : decode cX1_ofTwo 53 = .ok (.iload 5, 2) := by decide +kernel
theorem dX1_ofTwo_55 : decode cX1_ofTwo 55 = .ok (.aload_n 0, 1) := by decide +kernel
theorem dX1_ofTwo_56 : decode cX1_ofTwo 56 = .ok (.iload_n 2, 1) := by decide +kernel
theorem dX1_ofTwo_57 : decode cX1_ofTwo 57 = .ok (.invokevirtual 66, 3) := by decide +kernel
theorem dX1_ofTwo_60 : decode cX1_ofTwo 60 = .ok (.iand, 1) := by decide +kernel
theorem dX1_ofTwo_61 : decode cX1_ofTwo 61 = .ok (.iload 4, 2) := by decide +kernel
theorem dX1_ofTwo_63 : decode cX1_ofTwo 63 = .ok (.iand, 1) := by decide +kernel
theorem dX1_ofTwo_64 : decode cX1_ofTwo 64 = .ok (.invokevirtual 59, 3) := by decide +kernel
theorem dX1_ofTwo_67 : decode cX1_ofTwo 67 = .ok (.istore 6, 2) := by decide +kernel
theorem dX1_ofTwo_69 : decode cX1_ofTwo 69 = .ok (.sipush 255, 3) := by decide +kernel
theorem dX1_ofTwo_72 : decode cX1_ofTwo 72 = .ok (.iload 6, 2) := by decide +kernel
theorem dX1_ofTwo_74 : decode cX1_ofTwo 74 = .ok (.iconst (-1), 1) := by decide +kernel
theorem dX1_ofTwo_75 : decode cX1_ofTwo 75 = .ok (.ixor, 1) := by decide +kernel
theorem dX1_ofTwo_76 : decode cX1_ofTwo 76 = .ok (.iand, 1) := by decide +kernel
theorem dX1_ofTwo_77 : decode cX1_ofTwo 77 = .ok (.aload_n 0, 1) := by decide +kernel
theorem dX1_ofTwo_78 : decode cX1_ofTwo 78 = .ok (.iload 5, 2) := by decide +kernel
theorem dX1_ofTwo_80 : decode cX1_ofTwo 80 = .ok (.invokevirtual 63, 3) := by decide +kernel
theorem dX1_ofTwo_83 : decode cX1_ofTwo 83 = .ok (.iconst (-1), 1) := by decide +kernel
theorem dX1_ofTwo_84 : decode cX1_ofTwo 84 = .ok (.ixor, 1) := by decide +kernel
theorem dX1_ofTwo_85 : decode cX1_ofTwo 85 = .ok (.iand, 1) := by decide +kernel
theorem dX1_ofTwo_86 : decode cX1_ofTwo 86 = .ok (.ireturn, 1) := by decide +kernel
theorem dX1_staying_0 : decode cX1_staying 0 = .ok (.iload_n 1, 1) := by decide +kernel
theorem dX1_staying_1 : decode cX1_staying 1 = .ok (.istore_n 2, 1) := by decide +kernel
theorem dX1_staying_2 : decode cX1_staying 2 = .ok (.iconst (-1), 1) := by decide +kernel
theorem dX1_staying_3 : decode cX1_staying 3 = .ok (.istore_n 3, 1) := by decide +kernel
theorem dX1_staying_4 : decode cX1_staying 4 = .ok (.iload_n 2, 1) := by decide +kernel
theorem dX1_staying_5 : decode cX1_staying 5 = .ok (.iload_n 3, 1) := by decide +kernel
theorem dX1_staying_6 : decode cX1_staying 6 = .ok (.if_icmp .eq 59, 3) := by decide +kernel
theorem dX1_staying_9 : decode cX1_staying 9 = .ok (.iload_n 2, 1) := by decide +kernel
theorem dX1_staying_10 : decode cX1_staying 10 = .ok (.istore_n 3, 1) := by decide +kernel
theorem dX1_staying_11 : decode cX1_staying 11 = .ok (.iload_n 2, 1) := by decide +kernel
theorem dX1_staying_12 : decode cX1_staying 12 = .ok (.aload_n 0, 1) := by decide +kernel
theorem dX1_staying_13 : decode cX1_staying 13 = .ok (.iload_n 2, 1) := by decide +kernel
theorem dX1_staying_14 : decode cX1_staying 14 = .ok (.invokevirtual 55, 3) := by decide +kernel
theorem dX1_staying_17 : decode cX1_staying 17 = .ok (.iand, 1) := by decide +kernel
theorem dX1_staying_18 : decode cX1_staying 18 = .ok (.istore_n 2, 1) := by decide +kernel
theorem dX1_staying_19 : decode cX1_staying 19 = .ok (.iconst 0, 1) := by decide +kernel
theorem dX1_staying_20 : decode cX1_staying 20 = .ok (.istore 4, 2) := by decide +kernel
theorem dX1_staying_22 : decode cX1_staying 22 = .ok (.iload 4, 2) := by decide +kernel
theorem dX1_staying_24 : decode cX1_staying 24 = .ok (.aload_n 0, 1) := by decide +kernel
theorem dX1_staying_25 : decode cX1_staying 25 = .ok (.getfield 41, 3) := by decide +kernel
theorem dX1_staying_28 : decode cX1_staying 28 = .ok (.if_icmp .ge 34, 3) := by decide +kernel
theorem dX1_staying_31 : decode cX1_staying 31 = .ok (.aload_n 0, 1) := by decide +kernel
theorem dX1_staying_32 : decode cX1_staying 32 = .ok (.iload_n 2, 1) := by decide +kernel
theorem dX1_staying_33 : decode cX1_staying 33 = .ok (.iload_n 2, 1) := by decide +kernel
theorem dX1_staying_34 : decode cX1_staying 34 = .ok (.aload_n 0, 1) := by decide +kernel
theorem dX1_staying_35 : decode cX1_staying 35 = .ok (.getfield 16, 3) := by decide +kernel
theorem dX1_staying_38 : decode cX1_staying 38 = .ok (.iload 4, 2) := by decide +kernel
theorem dX1_staying_40 : decode cX1_staying 40 = .ok (.iaload, 1) := by decide +kernel
theorem dX1_staying_41 : decode cX1_staying 41 = .ok (.iand, 1) := by decide +kernel
theorem dX1_staying_42 : decode cX1_staying 42 = .ok (.invokevirtual 59, 3) := by decide +kernel
theorem dX1_staying_45 : decode cX1_staying 45 = .ok (.istore 5, 2) := by decide +kernel
theorem dX1_staying_47 : decode cX1_staying 47 = .ok (.iload_n 2, 1) := by decide +kernel
theorem dX1_staying_48 : decode cX1_staying 48 = .ok (.aload_n 0, 1) := by decide +kernel
theorem dX1_staying_49 : decode cX1_staying 49 = .ok (.iload 5, 2) := by decide +kernel
theorem dX1_staying_51 : decode cX1_staying 51 = .ok (.invokevirtual 55, 3) := by decide +kernel
theorem dX1_staying_54 : decode cX1_staying 54 = .ok (.iand, 1) := by decide +kernel
theorem dX1_staying_55 : decode cX1_staying 55 = .ok (.istore_n 2, 1) := by decide +kernel
theorem dX1_staying_56 : decode cX1_staying 56 = .ok (.iinc 4 1, 3) := by decide +kernel
theorem dX1_staying_59 : decode cX1_staying 59 = .ok (.goto (-37), 3) := by decide +kernel
theorem dX1_staying_62 : decode cX1_staying 62 = .ok (.goto (-58), 3) := by decide +kernel
theorem dX1_staying_65 : decode cX1_staying 65 = .ok (.iload_n 2, 1) := by decide +kernel
theorem dX1_staying_66 : decode cX1_staying 66 = .ok (.ireturn, 1) := by decide +kernel
theorem dX1_before_0 : decode cX1_before 0 = .ok (.iconst 0, 1) := by decide +kernel
theorem dX1_before_1 : decode cX1_before 1 = .ok (.istore_n 2, 1) := by decide +kernel
theorem dX1_before_2 : decode cX1_before 2 = .ok (.iconst 0, 1) := by decide +kernel
theorem dX1_before_3 : decode cX1_before 3 = .ok (.istore_n 3, 1) := by decide +kernel
theorem dX1_before_4 : decode cX1_before 4 = .ok (.iload_n 3, 1) := by decide +kernel
theorem dX1_before_5 : decode cX1_before 5 = .ok (.bipush 8, 2) := by decide +kernel
theorem dX1_before_7 : decode cX1_before 7 = .ok (.if_icmp .ge 30, 3) := by decide +kernel
theorem dX1_before_10 : decode cX1_before 10 = .ok (.aload_n 0, 1) := by decide +kernel
theorem dX1_before_11 : decode cX1_before 11 = .ok (.getfield 7, 3) := by decide +kernel
theorem dX1_before_14 : decode cX1_before 14 = .ok (.iload_n 3, 1) := by decide +kernel
theorem dX1_before_15 : decode cX1_before 15 = .ok (.iaload, 1) := by decide +kernel
theorem dX1_before_16 : decode cX1_before 16 = .ok (.iload_n 1, 1) := by decide +kernel
theorem dX1_before_17 : decode cX1_before 17 = .ok (.iand, 1) := by decide +kernel
theorem dX1_before_18 : decode cX1_before 18 = .ok (.ifCond .eq 11, 3) := by decide +kernel
theorem dX1_before_21 : decode cX1_before 21 = .ok (.iload_n 2, 1) := by decide +kernel
theorem dX1_before_22 : decode cX1_before 22 = .ok (.iconst 1, 1) := by decide +kernel
theorem dX1_before_23 : decode cX1_before 23 = .ok (.iload_n 3, 1) := by decide +kernel
theorem dX1_before_24 : decode cX1_before 24 = .ok (.ishl, 1) := by decide +kernel
theorem dX1_before_25 : decode cX1_before 25 = .ok (.ior, 1) := by decide +kernel
theorem dX1_before_26 : decode cX1_before 26 = .ok (.goto 4, 3) := by decide +kernel
theorem dX1_before_29 : decode cX1_before 29 = .ok (.iload_n 2, 1) := by decide +kernel
theorem dX1_before_30 : decode cX1_before 30 = .ok (.istore_n 2, 1) := by decide +kernel
theorem dX1_before_31 : decode cX1_before 31 = .ok (.iinc 3 1, 3) := by decide +kernel
theorem dX1_before_34 : decode cX1_before 34 = .ok (.goto (-30), 3) := by decide +kernel
theorem dX1_before_37 : decode cX1_before 37 = .ok (.iload_n 2, 1) := by decide +kernel
theorem dX1_before_38 : decode cX1_before 38 = .ok (.ireturn, 1) := by decide +kernel
theorem dX1_coming_0 : decode cX1_coming 0 = .ok (.iload_n 2, 1) := by decide +kernel
theorem dX1_coming_1 : decode cX1_coming 1 = .ok (.istore_n 3, 1) := by decide +kernel
theorem dX1_coming_2 : decode cX1_coming 2 = .ok (.iconst 0, 1) := by decide +kernel
theorem dX1_coming_3 : decode cX1_coming 3 = .ok (.istore 4, 2) := by decide +kernel
theorem dX1_coming_5 : decode cX1_coming 5 = .ok (.iload 4, 2) := by decide +kernel
theorem dX1_coming_7 : decode cX1_coming 7 = .ok (.bipush 8, 2) := by decide +kernel
theorem dX1_coming_9 : decode cX1_coming 9 = .ok (.if_icmp .ge 19, 3) := by decide +kernel
theorem dX1_coming_12 : decode cX1_coming 12 = .ok (.iload_n 3, 1) := by decide +kernel
theorem dX1_coming_13 : decode cX1_coming 13 = .ok (.aload_n 0, 1) := by decide +kernel
theorem dX1_coming_14 : decode cX1_coming 14 = .ok (.iload_n 3, 1) := by decide +kernel
theorem dX1_coming_15 : decode cX1_coming 15 = .ok (.invokevirtual 55, 3) := by decide +kernel
theorem dX1_coming_18 : decode cX1_coming 18 = .ok (.iload_n 1, 1) := by decide +kernel
theorem dX1_coming_19 : decode cX1_coming 19 = .ok (.iand, 1) := by decide +kernel
theorem dX1_coming_20 : decode cX1_coming 20 = .ok (.ior, 1) := by decide +kernel
theorem dX1_coming_21 : decode cX1_coming 21 = .ok (.istore_n 3, 1) := by decide +kernel
theorem dX1_coming_22 : decode cX1_coming 22 = .ok (.iinc 4 1, 3) := by decide +kernel
theorem dX1_coming_25 : decode cX1_coming 25 = .ok (.goto (-20), 3) := by decide +kernel
theorem dX1_coming_28 : decode cX1_coming 28 = .ok (.iload_n 3, 1) := by decide +kernel
theorem dX1_coming_29 : decode cX1_coming 29 = .ok (.ireturn, 1) := by decide +kernel
theorem dX1_not_0 : decode cX1_not 0 = .ok (.sipush 255, 3) := by decide +kernel
theorem dX1_not_3 : decode cX1_not 3 = .ok (.iload_n 1, 1) := by decide +kernel
theorem dX1_not_4 : decode cX1_not 4 = .ok (.iconst (-1), 1) := by decide +kernel
theorem dX1_not_5 : decode cX1_not 5 = .ok (.ixor, 1) := by decide +kernel
theorem dX1_not_6 : decode cX1_not 6 = .ok (.iand, 1) := by decide +kernel
theorem dX1_not_7 : decode cX1_not 7 = .ok (.ireturn, 1) := by decide +kernel
theorem dX1_ofOne_0 : decode cX1_ofOne 0 = .ok (.aload_n 0, 1) := by decide +kernel
theorem dX1_ofOne_1 : decode cX1_ofOne 1 = .ok (.sipush 255, 3) := by decide +kernel
theorem dX1_ofOne_4 : decode cX1_ofOne 4 = .ok (.invokevirtual 63, 3) := by decide +kernel
theorem dX1_ofOne_7 : decode cX1_ofOne 7 = .ok (.istore_n 3, 1) := by decide +kernel
theorem dX1_ofOne_8 : decode cX1_ofOne 8 = .ok (.iload_n 1, 1) := by decide +kernel
theorem dX1_ofOne_9 : decode cX1_ofOne 9 = .ok (.ifCond .ne 9, 3) := by decide +kernel
theorem dX1_ofOne_12 : decode cX1_ofOne 12 = .ok (.aload_n 0, 1) := by decide +kernel
theorem dX1_ofOne_13 : decode cX1_ofOne 13 = .ok (.iload_n 2, 1) := by decide +kernel
theorem dX1_ofOne_14 : decode cX1_ofOne 14 = .ok (.invokevirtual 66, 3) := by decide +kernel
theorem dX1_ofOne_17 : decode cX1_ofOne 17 = .ok (.ireturn, 1) := by decide +kernel
theorem dX1_ofOne_18 : decode cX1_ofOne 18 = .ok (.iload_n 1, 1) := by decide +kernel
theorem dX1_ofOne_19 : decode cX1_ofOne 19 = .ok (.iconst 1, 1) := by decide +kernel
end
section
set_option maxRecDepth 100000
theorem dX1_ofOne_20 : decode cX1_ofOne 20 = .ok (.if_icmp .ne 11, 3) := by decide +kernel
theorem dX1_ofOne_23 : decode cX1_ofOne 23 = .ok (.aload_n 0, 1) := by decide +kernel
theorem dX1_ofOne_24 : decode cX1_ofOne 24 = .ok (.iload_n 2, 1) := by decide +kernel
theorem dX1_ofOne_25 : decode cX1_ofOne 25 = .ok (.iload_n 3, 1) := by decide +kernel
theorem dX1_ofOne_26 : decode cX1_ofOne 26 = .ok (.iand, 1) := by decide +kernel
theorem dX1_ofOne_27 : decode cX1_ofOne 27 = .ok (.invokevirtual 55, 3) := by decide +kernel
theorem dX1_ofOne_30 : decode cX1_ofOne 30 = .ok (.ireturn, 1) := by decide +kernel
theorem dX1_ofOne_31 : decode cX1_ofOne 31 = .ok (.iload_n 1, 1) := by decide +kernel
theorem dX1_ofOne_32 : decode cX1_ofOne 32 = .ok (.iconst 2, 1) := by decide +kernel
theorem dX1_ofOne_33 : decode cX1_ofOne 33 = .ok (.if_icmp .ne 14, 3) := by decide +kernel
theorem dX1_ofOne_36 : decode cX1_ofOne 36 = .ok (.aload_n 0, 1) := by decide +kernel
theorem dX1_ofOne_37 : decode cX1_ofOne 37 = .ok (.sipush 255, 3) := by decide +kernel
theorem dX1_ofOne_40 : decode cX1_ofOne 40 = .ok (.iload_n 2, 1) := by decide +kernel
theorem dX1_ofOne_41 : decode cX1_ofOne 41 = .ok (.iload_n 3, 1) := by decide +kernel
theorem dX1_ofOne_42 : decode cX1_ofOne 42 = .ok (.iand, 1) := by decide +kernel
theorem dX1_ofOne_43 : decode cX1_ofOne 43 = .ok (.invokevirtual 59, 3) := by decide +kernel
theorem dX1_ofOne_46 : decode cX1_ofOne 46 = .ok (.ireturn, 1) := by decide +kernel
theorem dX1_ofOne_47 : decode cX1_ofOne 47 = .ok (.iload_n 1, 1) := by decide +kernel
theorem dX1_ofOne_48 : decode cX1_ofOne 48 = .ok (.iconst 3, 1) := by decide +kernel
theorem dX1_ofOne_49 : decode cX1_ofOne 49 = .ok (.if_icmp .ne 9, 3) := by decide +kernel
theorem dX1_ofOne_52 : decode cX1_ofOne 52 = .ok (.aload_n 0, 1) := by decide +kernel
theorem dX1_ofOne_53 : decode cX1_ofOne 53 = .ok (.iload_n 2, 1) := by decide +kernel
theorem dX1_ofOne_54 : decode cX1_ofOne 54 = .ok (.invokevirtual 63, 3) := by decide +kernel
theorem dX1_ofOne_57 : decode cX1_ofOne 57 = .ok (.ireturn, 1) := by decide +kernel
theorem dX1_ofOne_58 : decode cX1_ofOne 58 = .ok (.aload_n 0, 1) := by decide +kernel
theorem dX1_ofOne_59 : decode cX1_ofOne 59 = .ok (.iload_n 2, 1) := by decide +kernel
theorem dX1_ofOne_60 : decode cX1_ofOne 60 = .ok (.invokevirtual 66, 3) := by decide +kernel
theorem dX1_ofOne_63 : decode cX1_ofOne 63 = .ok (.istore 4, 2) := by decide +kernel
theorem dX1_ofOne_65 : decode cX1_ofOne 65 = .ok (.iload_n 1, 1) := by decide +kernel
theorem dX1_ofOne_66 : decode cX1_ofOne 66 = .ok (.iconst 4, 1) := by decide +kernel
theorem dX1_ofOne_67 : decode cX1_ofOne 67 = .ok (.if_icmp .ne 18, 3) := by decide +kernel
theorem dX1_ofOne_70 : decode cX1_ofOne 70 = .ok (.sipush 255, 3) := by decide +kernel
theorem dX1_ofOne_73 : decode cX1_ofOne 73 = .ok (.aload_n 0, 1) := by decide +kernel
theorem dX1_ofOne_74 : decode cX1_ofOne 74 = .ok (.iload 4, 2) := by decide +kernel
theorem dX1_ofOne_76 : decode cX1_ofOne 76 = .ok (.iload_n 3, 1) := by decide +kernel
theorem dX1_ofOne_77 : decode cX1_ofOne 77 = .ok (.iand, 1) := by decide +kernel
theorem dX1_ofOne_78 : decode cX1_ofOne 78 = .ok (.invokevirtual 55, 3) := by decide +kernel
theorem dX1_ofOne_81 : decode cX1_ofOne 81 = .ok (.iconst (-1), 1) := by decide +kernel
theorem dX1_ofOne_82 : decode cX1_ofOne 82 = .ok (.ixor, 1) := by decide +kernel
theorem dX1_ofOne_83 : decode cX1_ofOne 83 = .ok (.iand, 1) := by decide +kernel
theorem dX1_ofOne_84 : decode cX1_ofOne 84 = .ok (.ireturn, 1) := by decide +kernel
theorem dX1_ofOne_85 : decode cX1_ofOne 85 = .ok (.iload_n 1, 1) := by decide +kernel
theorem dX1_ofOne_86 : decode cX1_ofOne 86 = .ok (.iconst 5, 1) := by decide +kernel
theorem dX1_ofOne_87 : decode cX1_ofOne 87 = .ok (.if_icmp .ne 18, 3) := by decide +kernel
theorem dX1_ofOne_90 : decode cX1_ofOne 90 = .ok (.sipush 255, 3) := by decide +kernel
theorem dX1_ofOne_93 : decode cX1_ofOne 93 = .ok (.aload_n 0, 1) := by decide +kernel
theorem dX1_ofOne_94 : decode cX1_ofOne 94 = .ok (.iload 4, 2) := by decide +kernel
theorem dX1_ofOne_96 : decode cX1_ofOne 96 = .ok (.invokevirtual 63, 3) := by decide +kernel
theorem dX1_ofOne_99 : decode cX1_ofOne 99 = .ok (.iconst (-1), 1) := by decide +kernel
theorem dX1_ofOne_100 : decode cX1_ofOne 100 = .ok (.ixor, 1) := by decide +kernel
theorem dX1_ofOne_101 : decode cX1_ofOne 101 = .ok (.iand, 1) := by decide +kernel
theorem dX1_ofOne_102 : decode cX1_ofOne 102 = .ok (.goto 20, 3) := by decide +kernel
theorem dX1_ofOne_105 : decode cX1_ofOne 105 = .ok (.sipush 255, 3) := by decide +kernel
theorem dX1_ofOne_108 : decode cX1_ofOne 108 = .ok (.aload_n 0, 1) := by decide +kernel
theorem dX1_ofOne_109 : decode cX1_ofOne 109 = .ok (.sipush 255, 3) := by decide +kernel
theorem dX1_ofOne_112 : decode cX1_ofOne 112 = .ok (.iload 4, 2) := by decide +kernel
theorem dX1_ofOne_114 : decode cX1_ofOne 114 = .ok (.iload_n 3, 1) := by decide +kernel
theorem dX1_ofOne_115 : decode cX1_ofOne 115 = .ok (.iand, 1) := by decide +kernel
theorem dX1_ofOne_116 : decode cX1_ofOne 116 = .ok (.invokevirtual 59, 3) := by decide +kernel
theorem dX1_ofOne_119 : decode cX1_ofOne 119 = .ok (.iconst (-1), 1) := by decide +kernel
theorem dX1_ofOne_120 : decode cX1_ofOne 120 = .ok (.ixor, 1) := by decide +kernel
theorem dX1_ofOne_121 : decode cX1_ofOne 121 = .ok (.iand, 1) := by decide +kernel
theorem dX1_ofOne_122 : decode cX1_ofOne 122 = .ok (.ireturn, 1) := by decide +kernel
theorem dX1_alike_0 : decode cX1_alike 0 = .ok (.aload_n 0, 1) := by decide +kernel
theorem dX1_alike_1 : decode cX1_alike 1 = .ok (.invokevirtual 75, 3) := by decide +kernel
theorem dX1_alike_4 : decode cX1_alike 4 = .ok (.aload_n 0, 1) := by decide +kernel
theorem dX1_alike_5 : decode cX1_alike 5 = .ok (.getfield 48, 3) := by decide +kernel
theorem dX1_alike_8 : decode cX1_alike 8 = .ok (.iconst 1, 1) := by decide +kernel
theorem dX1_alike_9 : decode cX1_alike 9 = .ok (.if_icmp .le 42, 3) := by decide +kernel
theorem dX1_alike_12 : decode cX1_alike 12 = .ok (.aload_n 0, 1) := by decide +kernel
theorem dX1_alike_13 : decode cX1_alike 13 = .ok (.getfield 28, 3) := by decide +kernel
theorem dX1_alike_16 : decode cX1_alike 16 = .ok (.aload_n 0, 1) := by decide +kernel
theorem dX1_alike_17 : decode cX1_alike 17 = .ok (.getfield 31, 3) := by decide +kernel
theorem dX1_alike_20 : decode cX1_alike 20 = .ok (.aload_n 0, 1) := by decide +kernel
theorem dX1_alike_21 : decode cX1_alike 21 = .ok (.getfield 48, 3) := by decide +kernel
theorem dX1_alike_24 : decode cX1_alike 24 = .ok (.iconst 1, 1) := by decide +kernel
theorem dX1_alike_25 : decode cX1_alike 25 = .ok (.isub, 1) := by decide +kernel
theorem dX1_alike_26 : decode cX1_alike 26 = .ok (.iaload, 1) := by decide +kernel
theorem dX1_alike_27 : decode cX1_alike 27 = .ok (.iaload, 1) := by decide +kernel
theorem dX1_alike_28 : decode cX1_alike 28 = .ok (.aload_n 0, 1) := by decide +kernel
theorem dX1_alike_29 : decode cX1_alike 29 = .ok (.getfield 28, 3) := by decide +kernel
theorem dX1_alike_32 : decode cX1_alike 32 = .ok (.aload_n 0, 1) := by decide +kernel
theorem dX1_alike_33 : decode cX1_alike 33 = .ok (.getfield 31, 3) := by decide +kernel
theorem dX1_alike_36 : decode cX1_alike 36 = .ok (.aload_n 0, 1) := by decide +kernel
theorem dX1_alike_37 : decode cX1_alike 37 = .ok (.getfield 48, 3) := by decide +kernel
theorem dX1_alike_40 : decode cX1_alike 40 = .ok (.iconst 2, 1) := by decide +kernel
theorem dX1_alike_41 : decode cX1_alike 41 = .ok (.isub, 1) := by decide +kernel
theorem dX1_alike_42 : decode cX1_alike 42 = .ok (.iaload, 1) := by decide +kernel
theorem dX1_alike_43 : decode cX1_alike 43 = .ok (.iaload, 1) := by decide +kernel
theorem dX1_alike_44 : decode cX1_alike 44 = .ok (.if_icmp .ne 7, 3) := by decide +kernel
theorem dX1_alike_47 : decode cX1_alike 47 = .ok (.iconst 1, 1) := by decide +kernel
theorem dX1_alike_48 : decode cX1_alike 48 = .ok (.goto 4, 3) := by decide +kernel
theorem dX1_alike_51 : decode cX1_alike 51 = .ok (.iconst 0, 1) := by decide +kernel
theorem dX1_alike_52 : decode cX1_alike 52 = .ok (.ireturn, 1) := by decide +kernel
theorem dX1_fair_0 : decode cX1_fair 0 = .ok (.aload_n 0, 1) := by decide +kernel
theorem dX1_fair_1 : decode cX1_fair 1 = .ok (.sipush 255, 3) := by decide +kernel
theorem dX1_fair_4 : decode cX1_fair 4 = .ok (.invokevirtual 63, 3) := by decide +kernel
theorem dX1_fair_7 : decode cX1_fair 7 = .ok (.ireturn, 1) := by decide +kernel
theorem dX1_reach_0 : decode cX1_reach 0 = .ok (.aload_n 0, 1) := by decide +kernel
theorem dX1_reach_1 : decode cX1_reach 1 = .ok (.iload_n 1, 1) := by decide +kernel
theorem dX1_reach_2 : decode cX1_reach 2 = .ok (.invokevirtual 34, 3) := by decide +kernel
theorem dX1_reach_5 : decode cX1_reach 5 = .ok (.ifCond .ne 5, 3) := by decide +kernel
theorem dX1_reach_8 : decode cX1_reach 8 = .ok (.iconst (-1), 1) := by decide +kernel
theorem dX1_reach_9 : decode cX1_reach 9 = .ok (.ireturn, 1) := by decide +kernel
theorem dX1_reach_10 : decode cX1_reach 10 = .ok (.iconst 1, 1) := by decide +kernel
theorem dX1_reach_11 : decode cX1_reach 11 = .ok (.iload_n 1, 1) := by decide +kernel
theorem dX1_reach_12 : decode cX1_reach 12 = .ok (.ishl, 1) := by decide +kernel
theorem dX1_reach_13 : decode cX1_reach 13 = .ok (.istore_n 2, 1) := by decide +kernel
theorem dX1_reach_14 : decode cX1_reach 14 = .ok (.iconst 0, 1) := by decide +kernel
theorem dX1_reach_15 : decode cX1_reach 15 = .ok (.istore_n 3, 1) := by decide +kernel
theorem dX1_reach_16 : decode cX1_reach 16 = .ok (.iload_n 3, 1) := by decide +kernel
theorem dX1_reach_17 : decode cX1_reach 17 = .ok (.bipush 8, 2) := by decide +kernel
theorem dX1_reach_19 : decode cX1_reach 19 = .ok (.if_icmp .ge 17, 3) := by decide +kernel
theorem dX1_reach_22 : decode cX1_reach 22 = .ok (.iload_n 2, 1) := by decide +kernel
theorem dX1_reach_23 : decode cX1_reach 23 = .ok (.aload_n 0, 1) := by decide +kernel
theorem dX1_reach_24 : decode cX1_reach 24 = .ok (.iload_n 2, 1) := by decide +kernel
theorem dX1_reach_25 : decode cX1_reach 25 = .ok (.invokevirtual 78, 3) := by decide +kernel
theorem dX1_reach_28 : decode cX1_reach 28 = .ok (.ior, 1) := by decide +kernel
theorem dX1_reach_29 : decode cX1_reach 29 = .ok (.istore_n 2, 1) := by decide +kernel
theorem dX1_reach_30 : decode cX1_reach 30 = .ok (.iinc 3 1, 3) := by decide +kernel
theorem dX1_reach_33 : decode cX1_reach 33 = .ok (.goto (-17), 3) := by decide +kernel
theorem dX1_reach_36 : decode cX1_reach 36 = .ok (.iload_n 2, 1) := by decide +kernel
theorem dX1_reach_37 : decode cX1_reach 37 = .ok (.ireturn, 1) := by decide +kernel
theorem dX1_behind_0 : decode cX1_behind 0 = .ok (.iconst 0, 1) := by decide +kernel
theorem dX1_behind_1 : decode cX1_behind 1 = .ok (.istore_n 2, 1) := by decide +kernel
theorem dX1_behind_2 : decode cX1_behind 2 = .ok (.iconst 0, 1) := by decide +kernel
theorem dX1_behind_3 : decode cX1_behind 3 = .ok (.istore_n 3, 1) := by decide +kernel
theorem dX1_behind_4 : decode cX1_behind 4 = .ok (.iload_n 3, 1) := by decide +kernel
theorem dX1_behind_5 : decode cX1_behind 5 = .ok (.bipush 8, 2) := by decide +kernel
theorem dX1_behind_7 : decode cX1_behind 7 = .ok (.if_icmp .ge 31, 3) := by decide +kernel
theorem dX1_behind_10 : decode cX1_behind 10 = .ok (.iload_n 1, 1) := by decide +kernel
theorem dX1_behind_11 : decode cX1_behind 11 = .ok (.iload_n 3, 1) := by decide +kernel
theorem dX1_behind_12 : decode cX1_behind 12 = .ok (.ishr, 1) := by decide +kernel
theorem dX1_behind_13 : decode cX1_behind 13 = .ok (.iconst 1, 1) := by decide +kernel
theorem dX1_behind_14 : decode cX1_behind 14 = .ok (.iand, 1) := by decide +kernel
theorem dX1_behind_15 : decode cX1_behind 15 = .ok (.iconst 1, 1) := by decide +kernel
theorem dX1_behind_16 : decode cX1_behind 16 = .ok (.if_icmp .ne 14, 3) := by decide +kernel
theorem dX1_behind_19 : decode cX1_behind 19 = .ok (.iload_n 2, 1) := by decide +kernel
theorem dX1_behind_20 : decode cX1_behind 20 = .ok (.aload_n 0, 1) := by decide +kernel
theorem dX1_behind_21 : decode cX1_behind 21 = .ok (.getfield 7, 3) := by decide +kernel
theorem dX1_behind_24 : decode cX1_behind 24 = .ok (.iload_n 3, 1) := by decide +kernel
theorem dX1_behind_25 : decode cX1_behind 25 = .ok (.iaload, 1) := by decide +kernel
theorem dX1_behind_26 : decode cX1_behind 26 = .ok (.ior, 1) := by decide +kernel
theorem dX1_behind_27 : decode cX1_behind 27 = .ok (.goto 4, 3) := by decide +kernel
theorem dX1_behind_30 : decode cX1_behind 30 = .ok (.iload_n 2, 1) := by decide +kernel
theorem dX1_behind_31 : decode cX1_behind 31 = .ok (.istore_n 2, 1) := by decide +kernel
theorem dX1_behind_32 : decode cX1_behind 32 = .ok (.iinc 3 1, 3) := by decide +kernel
theorem dX1_behind_35 : decode cX1_behind 35 = .ok (.goto (-31), 3) := by decide +kernel
theorem dX1_behind_38 : decode cX1_behind 38 = .ok (.iload_n 2, 1) := by decide +kernel
theorem dX1_behind_39 : decode cX1_behind 39 = .ok (.ireturn, 1) := by decide +kernel
theorem dX1_steps_0 : decode cX1_steps 0 = .ok (.aload_n 0, 1) := by decide +kernel
theorem dX1_steps_1 : decode cX1_steps 1 = .ok (.iload_n 1, 1) := by decide +kernel
theorem dX1_steps_2 : decode cX1_steps 2 = .ok (.invokevirtual 34, 3) := by decide +kernel
theorem dX1_steps_5 : decode cX1_steps 5 = .ok (.ifCond .ne 5, 3) := by decide +kernel
theorem dX1_steps_8 : decode cX1_steps 8 = .ok (.iconst (-1), 1) := by decide +kernel
theorem dX1_steps_9 : decode cX1_steps 9 = .ok (.ireturn, 1) := by decide +kernel
theorem dX1_steps_10 : decode cX1_steps 10 = .ok (.aload_n 0, 1) := by decide +kernel
theorem dX1_steps_11 : decode cX1_steps 11 = .ok (.invokevirtual 81, 3) := by decide +kernel
theorem dX1_steps_14 : decode cX1_steps 14 = .ok (.istore_n 2, 1) := by decide +kernel
theorem dX1_steps_15 : decode cX1_steps 15 = .ok (.iconst 1, 1) := by decide +kernel
theorem dX1_steps_16 : decode cX1_steps 16 = .ok (.iload_n 1, 1) := by decide +kernel
theorem dX1_steps_17 : decode cX1_steps 17 = .ok (.ishl, 1) := by decide +kernel
theorem dX1_steps_18 : decode cX1_steps 18 = .ok (.istore_n 3, 1) := by decide +kernel
theorem dX1_steps_19 : decode cX1_steps 19 = .ok (.iconst 0, 1) := by decide +kernel
theorem dX1_steps_20 : decode cX1_steps 20 = .ok (.istore 4, 2) := by decide +kernel
theorem dX1_steps_22 : decode cX1_steps 22 = .ok (.iload 4, 2) := by decide +kernel
theorem dX1_steps_24 : decode cX1_steps 24 = .ok (.bipush 8, 2) := by decide +kernel
theorem dX1_steps_26 : decode cX1_steps 26 = .ok (.if_icmp .ge 30, 3) := by decide +kernel
theorem dX1_steps_29 : decode cX1_steps 29 = .ok (.iload_n 2, 1) := by decide +kernel
theorem dX1_steps_30 : decode cX1_steps 30 = .ok (.ifCond .lt 26, 3) := by decide +kernel
theorem dX1_steps_33 : decode cX1_steps 33 = .ok (.iload_n 3, 1) := by decide +kernel
theorem dX1_steps_34 : decode cX1_steps 34 = .ok (.iload_n 2, 1) := by decide +kernel
theorem dX1_steps_35 : decode cX1_steps 35 = .ok (.iand, 1) := by decide +kernel
theorem dX1_steps_36 : decode cX1_steps 36 = .ok (.ifCond .eq 6, 3) := by decide +kernel
theorem dX1_steps_39 : decode cX1_steps 39 = .ok (.iload 4, 2) := by decide +kernel
theorem dX1_steps_41 : decode cX1_steps 41 = .ok (.ireturn, 1) := by decide +kernel
theorem dX1_steps_42 : decode cX1_steps 42 = .ok (.iload_n 3, 1) := by decide +kernel
theorem dX1_steps_43 : decode cX1_steps 43 = .ok (.aload_n 0, 1) := by decide +kernel
theorem dX1_steps_44 : decode cX1_steps 44 = .ok (.iload_n 3, 1) := by decide +kernel
theorem dX1_steps_45 : decode cX1_steps 45 = .ok (.invokevirtual 78, 3) := by decide +kernel
theorem dX1_steps_48 : decode cX1_steps 48 = .ok (.ior, 1) := by decide +kernel
theorem dX1_steps_49 : decode cX1_steps 49 = .ok (.istore_n 3, 1) := by decide +kernel
theorem dX1_steps_50 : decode cX1_steps 50 = .ok (.iinc 4 1, 3) := by decide +kernel
theorem dX1_steps_53 : decode cX1_steps 53 = .ok (.goto (-31), 3) := by decide +kernel
theorem dX1_steps_56 : decode cX1_steps 56 = .ok (.bipush (-4), 2) := by decide +kernel
theorem dX1_steps_58 : decode cX1_steps 58 = .ok (.ireturn, 1) := by decide +kernel
theorem dX1_knots_0 : decode cX1_knots 0 = .ok (.iconst 0, 1) := by decide +kernel
theorem dX1_knots_1 : decode cX1_knots 1 = .ok (.istore_n 1, 1) := by decide +kernel
theorem dX1_knots_2 : decode cX1_knots 2 = .ok (.iconst 0, 1) := by decide +kernel
theorem dX1_knots_3 : decode cX1_knots 3 = .ok (.istore_n 2, 1) := by decide +kernel
theorem dX1_knots_4 : decode cX1_knots 4 = .ok (.iload_n 2, 1) := by decide +kernel
theorem dX1_knots_5 : decode cX1_knots 5 = .ok (.bipush 8, 2) := by decide +kernel
theorem dX1_knots_7 : decode cX1_knots 7 = .ok (.if_icmp .ge 95, 3) := by decide +kernel
theorem dX1_knots_10 : decode cX1_knots 10 = .ok (.aload_n 0, 1) := by decide +kernel
theorem dX1_knots_11 : decode cX1_knots 11 = .ok (.iconst 1, 1) := by decide +kernel
theorem dX1_knots_12 : decode cX1_knots 12 = .ok (.iload_n 2, 1) := by decide +kernel
theorem dX1_knots_13 : decode cX1_knots 13 = .ok (.ishl, 1) := by decide +kernel
theorem dX1_knots_14 : decode cX1_knots 14 = .ok (.invokevirtual 78, 3) := by decide +kernel
theorem dX1_knots_17 : decode cX1_knots 17 = .ok (.istore_n 3, 1) := by decide +kernel
theorem dX1_knots_18 : decode cX1_knots 18 = .ok (.iload_n 3, 1) := by decide +kernel
theorem dX1_knots_19 : decode cX1_knots 19 = .ok (.istore 4, 2) := by decide +kernel
theorem dX1_knots_21 : decode cX1_knots 21 = .ok (.iconst 0, 1) := by decide +kernel
theorem dX1_knots_22 : decode cX1_knots 22 = .ok (.istore 5, 2) := by decide +kernel
theorem dX1_knots_24 : decode cX1_knots 24 = .ok (.iload 5, 2) := by decide +kernel
theorem dX1_knots_26 : decode cX1_knots 26 = .ok (.bipush 8, 2) := by decide +kernel
theorem dX1_knots_28 : decode cX1_knots 28 = .ok (.if_icmp .ge 20, 3) := by decide +kernel
theorem dX1_knots_31 : decode cX1_knots 31 = .ok (.iload 4, 2) := by decide +kernel
theorem dX1_knots_33 : decode cX1_knots 33 = .ok (.aload_n 0, 1) := by decide +kernel
theorem dX1_knots_34 : decode cX1_knots 34 = .ok (.iload 4, 2) := by decide +kernel
theorem dX1_knots_36 : decode cX1_knots 36 = .ok (.invokevirtual 78, 3) := by decide +kernel
theorem dX1_knots_39 : decode cX1_knots 39 = .ok (.ior, 1) := by decide +kernel
theorem dX1_knots_40 : decode cX1_knots 40 = .ok (.istore 4, 2) := by decide +kernel
theorem dX1_knots_42 : decode cX1_knots 42 = .ok (.iinc 5 1, 3) := by decide +kernel
theorem dX1_knots_45 : decode cX1_knots 45 = .ok (.goto (-21), 3) := by decide +kernel
theorem dX1_knots_48 : decode cX1_knots 48 = .ok (.aload_n 0, 1) := by decide +kernel
theorem dX1_knots_49 : decode cX1_knots 49 = .ok (.sipush 255, 3) := by decide +kernel
theorem dX1_knots_52 : decode cX1_knots 52 = .ok (.iconst 1, 1) := by decide +kernel
theorem dX1_knots_53 : decode cX1_knots 53 = .ok (.iload_n 2, 1) := by decide +kernel
theorem dX1_knots_54 : decode cX1_knots 54 = .ok (.ishl, 1) := by decide +kernel
theorem dX1_knots_55 : decode cX1_knots 55 = .ok (.invokevirtual 59, 3) := by decide +kernel
theorem dX1_knots_58 : decode cX1_knots 58 = .ok (.istore 5, 2) := by decide +kernel
theorem dX1_knots_60 : decode cX1_knots 60 = .ok (.iload 4, 2) := by decide +kernel
theorem dX1_knots_62 : decode cX1_knots 62 = .ok (.iload 5, 2) := by decide +kernel
theorem dX1_knots_64 : decode cX1_knots 64 = .ok (.iand, 1) := by decide +kernel
theorem dX1_knots_65 : decode cX1_knots 65 = .ok (.istore 6, 2) := by decide +kernel
theorem dX1_knots_67 : decode cX1_knots 67 = .ok (.iload 6, 2) := by decide +kernel
theorem dX1_knots_69 : decode cX1_knots 69 = .ok (.iload_n 2, 1) := by decide +kernel
theorem dX1_knots_70 : decode cX1_knots 70 = .ok (.ishr, 1) := by decide +kernel
theorem dX1_knots_71 : decode cX1_knots 71 = .ok (.iconst 1, 1) := by decide +kernel
theorem dX1_knots_72 : decode cX1_knots 72 = .ok (.iand, 1) := by decide +kernel
theorem dX1_knots_73 : decode cX1_knots 73 = .ok (.iconst 1, 1) := by decide +kernel
theorem dX1_knots_74 : decode cX1_knots 74 = .ok (.if_icmp .ne 20, 3) := by decide +kernel
theorem dX1_knots_77 : decode cX1_knots 77 = .ok (.iload 6, 2) := by decide +kernel
theorem dX1_knots_79 : decode cX1_knots 79 = .ok (.iconst 1, 1) := by decide +kernel
theorem dX1_knots_80 : decode cX1_knots 80 = .ok (.iload_n 2, 1) := by decide +kernel
theorem dX1_knots_81 : decode cX1_knots 81 = .ok (.ishl, 1) := by decide +kernel
theorem dX1_knots_82 : decode cX1_knots 82 = .ok (.iconst 1, 1) := by decide +kernel
theorem dX1_knots_83 : decode cX1_knots 83 = .ok (.isub, 1) := by decide +kernel
theorem dX1_knots_84 : decode cX1_knots 84 = .ok (.iand, 1) := by decide +kernel
theorem dX1_knots_85 : decode cX1_knots 85 = .ok (.ifCond .ne 9, 3) := by decide +kernel
theorem dX1_knots_88 : decode cX1_knots 88 = .ok (.iload_n 1, 1) := by decide +kernel
theorem dX1_knots_89 : decode cX1_knots 89 = .ok (.iconst 1, 1) := by decide +kernel
theorem dX1_knots_90 : decode cX1_knots 90 = .ok (.iadd, 1) := by decide +kernel
theorem dX1_knots_91 : decode cX1_knots 91 = .ok (.goto 4, 3) := by decide +kernel
theorem dX1_knots_94 : decode cX1_knots 94 = .ok (.iload_n 1, 1) := by decide +kernel
theorem dX1_knots_95 : decode cX1_knots 95 = .ok (.istore_n 1, 1) := by decide +kernel
theorem dX1_knots_96 : decode cX1_knots 96 = .ok (.iinc 2 1, 3) := by decide +kernel
theorem dX1_knots_99 : decode cX1_knots 99 = .ok (.goto (-95), 3) := by decide +kernel
theorem dX1_knots_102 : decode cX1_knots 102 = .ok (.iload_n 1, 1) := by decide +kernel
theorem dX1_knots_103 : decode cX1_knots 103 = .ok (.ireturn, 1) := by decide +kernel
end
section
set_option maxRecDepth 100000
theorem dL_law_0 : decode cL_law 0 = .ok (.new 7, 3) := by decide +kernel
theorem dL_law_3 : decode cL_law 3 = .ok (.dup, 1) := by decide +kernel
theorem dL_law_4 : decode cL_law 4 = .ok (.invokespecial 9, 3) := by decide +kernel
theorem dL_law_7 : decode cL_law 7 = .ok (.astore_n 1, 1) := by decide +kernel
theorem dL_law_8 : decode cL_law 8 = .ok (.new 10, 3) := by decide +kernel
theorem dL_law_11 : decode cL_law 11 = .ok (.dup, 1) := by decide +kernel
theorem dL_law_12 : decode cL_law 12 = .ok (.invokespecial 12, 3) := by decide +kernel
theorem dL_law_15 : decode cL_law 15 = .ok (.astore_n 2, 1) := by decide +kernel
theorem dL_law_16 : decode cL_law 16 = .ok (.iconst 0, 1) := by decide +kernel
theorem dL_law_17 : decode cL_law 17 = .ok (.istore_n 3, 1) := by decide +kernel
theorem dL_law_18 : decode cL_law 18 = .ok (.iload_n 3, 1) := by decide +kernel
theorem dL_law_19 : decode cL_law 19 = .ok (.aload_n 0, 1) := by decide +kernel
theorem dL_law_20 : decode cL_law 20 = .ok (.arraylength, 1) := by decide +kernel
theorem dL_law_21 : decode cL_law 21 = .ok (.iconst 3, 1) := by decide +kernel
theorem dL_law_22 : decode cL_law 22 = .ok (.isub, 1) := by decide +kernel
theorem dL_law_23 : decode cL_law 23 = .ok (.if_icmp .gt 384, 3) := by decide +kernel
theorem dL_law_26 : decode cL_law 26 = .ok (.aload_n 0, 1) := by decide +kernel
theorem dL_law_27 : decode cL_law 27 = .ok (.iload_n 3, 1) := by decide +kernel
theorem dL_law_28 : decode cL_law 28 = .ok (.iaload, 1) := by decide +kernel
theorem dL_law_29 : decode cL_law 29 = .ok (.bipush 15, 2) := by decide +kernel
theorem dL_law_31 : decode cL_law 31 = .ok (.iand, 1) := by decide +kernel
theorem dL_law_32 : decode cL_law 32 = .ok (.tableswitch 369 0 14 #[76, 109, 142, 165, 178, 201, 224, 247, 258, 271, 284, 297, 310, 333, 356], 76) := by decide +kernel
theorem dL_law_108 : decode cL_law 108 = .ok (.aload_n 1, 1) := by decide +kernel
theorem dL_law_109 : decode cL_law 109 = .ok (.aload_n 0, 1) := by decide +kernel
theorem dL_law_110 : decode cL_law 110 = .ok (.iload_n 3, 1) := by decide +kernel
theorem dL_law_111 : decode cL_law 111 = .ok (.iconst 1, 1) := by decide +kernel
theorem dL_law_112 : decode cL_law 112 = .ok (.iadd, 1) := by decide +kernel
theorem dL_law_113 : decode cL_law 113 = .ok (.iaload, 1) := by decide +kernel
theorem dL_law_114 : decode cL_law 114 = .ok (.aload_n 0, 1) := by decide +kernel
theorem dL_law_115 : decode cL_law 115 = .ok (.iload_n 3, 1) := by decide +kernel
theorem dL_law_116 : decode cL_law 116 = .ok (.iconst 2, 1) := by decide +kernel
theorem dL_law_117 : decode cL_law 117 = .ok (.iadd, 1) := by decide +kernel
theorem dL_law_118 : decode cL_law 118 = .ok (.iaload, 1) := by decide +kernel
theorem dL_law_119 : decode cL_law 119 = .ok (.invokevirtual 13, 3) := by decide +kernel
theorem dL_law_122 : decode cL_law 122 = .ok (.aload_n 2, 1) := by decide +kernel
theorem dL_law_123 : decode cL_law 123 = .ok (.aload_n 0, 1) := by decide +kernel
theorem dL_law_124 : decode cL_law 124 = .ok (.iload_n 3, 1) := by decide +kernel
theorem dL_law_125 : decode cL_law 125 = .ok (.iconst 1, 1) := by decide +kernel
theorem dL_law_126 : decode cL_law 126 = .ok (.iadd, 1) := by decide +kernel
theorem dL_law_127 : decode cL_law 127 = .ok (.iaload, 1) := by decide +kernel
theorem dL_law_128 : decode cL_law 128 = .ok (.aload_n 0, 1) := by decide +kernel
theorem dL_law_129 : decode cL_law 129 = .ok (.iload_n 3, 1) := by decide +kernel
theorem dL_law_130 : decode cL_law 130 = .ok (.iconst 2, 1) := by decide +kernel
theorem dL_law_131 : decode cL_law 131 = .ok (.iadd, 1) := by decide +kernel
theorem dL_law_132 : decode cL_law 132 = .ok (.iaload, 1) := by decide +kernel
theorem dL_law_133 : decode cL_law 133 = .ok (.invokevirtual 17, 3) := by decide +kernel
theorem dL_law_136 : decode cL_law 136 = .ok (.if_icmp .eq 265, 3) := by decide +kernel
theorem dL_law_139 : decode cL_law 139 = .ok (.iconst 0, 1) := by decide +kernel
theorem dL_law_140 : decode cL_law 140 = .ok (.ireturn, 1) := by decide +kernel
theorem dL_law_141 : decode cL_law 141 = .ok (.aload_n 1, 1) := by decide +kernel
theorem dL_law_142 : decode cL_law 142 = .ok (.aload_n 0, 1) := by decide +kernel
theorem dL_law_143 : decode cL_law 143 = .ok (.iload_n 3, 1) := by decide +kernel
theorem dL_law_144 : decode cL_law 144 = .ok (.iconst 1, 1) := by decide +kernel
theorem dL_law_145 : decode cL_law 145 = .ok (.iadd, 1) := by decide +kernel
theorem dL_law_146 : decode cL_law 146 = .ok (.iaload, 1) := by decide +kernel
theorem dL_law_147 : decode cL_law 147 = .ok (.aload_n 0, 1) := by decide +kernel
theorem dL_law_148 : decode cL_law 148 = .ok (.iload_n 3, 1) := by decide +kernel
theorem dL_law_149 : decode cL_law 149 = .ok (.iconst 2, 1) := by decide +kernel
theorem dL_law_150 : decode cL_law 150 = .ok (.iadd, 1) := by decide +kernel
theorem dL_law_151 : decode cL_law 151 = .ok (.iaload, 1) := by decide +kernel
end
section
set_option maxRecDepth 100000
theorem dL_law_152 : decode cL_law 152 = .ok (.invokevirtual 18, 3) := by decide +kernel
theorem dL_law_155 : decode cL_law 155 = .ok (.aload_n 2, 1) := by decide +kernel
theorem dL_law_156 : decode cL_law 156 = .ok (.aload_n 0, 1) := by decide +kernel
theorem dL_law_157 : decode cL_law 157 = .ok (.iload_n 3, 1) := by decide +kernel
theorem dL_law_158 : decode cL_law 158 = .ok (.iconst 1, 1) := by decide +kernel
theorem dL_law_159 : decode cL_law 159 = .ok (.iadd, 1) := by decide +kernel
theorem dL_law_160 : decode cL_law 160 = .ok (.iaload, 1) := by decide +kernel
theorem dL_law_161 : decode cL_law 161 = .ok (.aload_n 0, 1) := by decide +kernel
theorem dL_law_162 : decode cL_law 162 = .ok (.iload_n 3, 1) := by decide +kernel
theorem dL_law_163 : decode cL_law 163 = .ok (.iconst 2, 1) := by decide +kernel
theorem dL_law_164 : decode cL_law 164 = .ok (.iadd, 1) := by decide +kernel
theorem dL_law_165 : decode cL_law 165 = .ok (.iaload, 1) := by decide +kernel
theorem dL_law_166 : decode cL_law 166 = .ok (.invokevirtual 21, 3) := by decide +kernel
theorem dL_law_169 : decode cL_law 169 = .ok (.if_icmp .eq 232, 3) := by decide +kernel
theorem dL_law_172 : decode cL_law 172 = .ok (.iconst 0, 1) := by decide +kernel
theorem dL_law_173 : decode cL_law 173 = .ok (.ireturn, 1) := by decide +kernel
theorem dL_law_174 : decode cL_law 174 = .ok (.aload_n 1, 1) := by decide +kernel
theorem dL_law_175 : decode cL_law 175 = .ok (.aload_n 0, 1) := by decide +kernel
theorem dL_law_176 : decode cL_law 176 = .ok (.iload_n 3, 1) := by decide +kernel
theorem dL_law_177 : decode cL_law 177 = .ok (.iconst 1, 1) := by decide +kernel
theorem dL_law_178 : decode cL_law 178 = .ok (.iadd, 1) := by decide +kernel
theorem dL_law_179 : decode cL_law 179 = .ok (.iaload, 1) := by decide +kernel
theorem dL_law_180 : decode cL_law 180 = .ok (.invokevirtual 22, 3) := by decide +kernel
theorem dL_law_183 : decode cL_law 183 = .ok (.aload_n 2, 1) := by decide +kernel
theorem dL_law_184 : decode cL_law 184 = .ok (.aload_n 0, 1) := by decide +kernel
theorem dL_law_185 : decode cL_law 185 = .ok (.iload_n 3, 1) := by decide +kernel
theorem dL_law_186 : decode cL_law 186 = .ok (.iconst 1, 1) := by decide +kernel
theorem dL_law_187 : decode cL_law 187 = .ok (.iadd, 1) := by decide +kernel
theorem dL_law_188 : decode cL_law 188 = .ok (.iaload, 1) := by decide +kernel
theorem dL_law_189 : decode cL_law 189 = .ok (.invokevirtual 26, 3) := by decide +kernel
theorem dL_law_192 : decode cL_law 192 = .ok (.if_icmp .eq 209, 3) := by decide +kernel
theorem dL_law_195 : decode cL_law 195 = .ok (.iconst 0, 1) := by decide +kernel
theorem dL_law_196 : decode cL_law 196 = .ok (.ireturn, 1) := by decide +kernel
theorem dL_law_197 : decode cL_law 197 = .ok (.aload_n 1, 1) := by decide +kernel
theorem dL_law_198 : decode cL_law 198 = .ok (.invokevirtual 27, 3) := by decide +kernel
theorem dL_law_201 : decode cL_law 201 = .ok (.aload_n 2, 1) := by decide +kernel
theorem dL_law_202 : decode cL_law 202 = .ok (.invokevirtual 31, 3) := by decide +kernel
theorem dL_law_205 : decode cL_law 205 = .ok (.if_icmp .eq 196, 3) := by decide +kernel
theorem dL_law_208 : decode cL_law 208 = .ok (.iconst 0, 1) := by decide +kernel
theorem dL_law_209 : decode cL_law 209 = .ok (.ireturn, 1) := by decide +kernel
theorem dL_law_210 : decode cL_law 210 = .ok (.aload_n 1, 1) := by decide +kernel
theorem dL_law_211 : decode cL_law 211 = .ok (.aload_n 0, 1) := by decide +kernel
theorem dL_law_212 : decode cL_law 212 = .ok (.iload_n 3, 1) := by decide +kernel
theorem dL_law_213 : decode cL_law 213 = .ok (.iconst 1, 1) := by decide +kernel
theorem dL_law_214 : decode cL_law 214 = .ok (.iadd, 1) := by decide +kernel
theorem dL_law_215 : decode cL_law 215 = .ok (.iaload, 1) := by decide +kernel
theorem dL_law_216 : decode cL_law 216 = .ok (.invokevirtual 32, 3) := by decide +kernel
theorem dL_law_219 : decode cL_law 219 = .ok (.aload_n 2, 1) := by decide +kernel
theorem dL_law_220 : decode cL_law 220 = .ok (.aload_n 0, 1) := by decide +kernel
theorem dL_law_221 : decode cL_law 221 = .ok (.iload_n 3, 1) := by decide +kernel
theorem dL_law_222 : decode cL_law 222 = .ok (.iconst 1, 1) := by decide +kernel
theorem dL_law_223 : decode cL_law 223 = .ok (.iadd, 1) := by decide +kernel
theorem dL_law_224 : decode cL_law 224 = .ok (.iaload, 1) := by decide +kernel
theorem dL_law_225 : decode cL_law 225 = .ok (.invokevirtual 35, 3) := by decide +kernel
theorem dL_law_228 : decode cL_law 228 = .ok (.if_icmp .eq 173, 3) := by decide +kernel
theorem dL_law_231 : decode cL_law 231 = .ok (.iconst 0, 1) := by decide +kernel
theorem dL_law_232 : decode cL_law 232 = .ok (.ireturn, 1) := by decide +kernel
theorem dL_law_233 : decode cL_law 233 = .ok (.aload_n 1, 1) := by decide +kernel
theorem dL_law_234 : decode cL_law 234 = .ok (.aload_n 0, 1) := by decide +kernel
theorem dL_law_235 : decode cL_law 235 = .ok (.iload_n 3, 1) := by decide +kernel
end
section
set_option maxRecDepth 100000
theorem dL_law_236 : decode cL_law 236 = .ok (.iconst 1, 1) := by decide +kernel
theorem dL_law_237 : decode cL_law 237 = .ok (.iadd, 1) := by decide +kernel
theorem dL_law_238 : decode cL_law 238 = .ok (.iaload, 1) := by decide +kernel
theorem dL_law_239 : decode cL_law 239 = .ok (.invokevirtual 36, 3) := by decide +kernel
theorem dL_law_242 : decode cL_law 242 = .ok (.aload_n 2, 1) := by decide +kernel
theorem dL_law_243 : decode cL_law 243 = .ok (.aload_n 0, 1) := by decide +kernel
theorem dL_law_244 : decode cL_law 244 = .ok (.iload_n 3, 1) := by decide +kernel
theorem dL_law_245 : decode cL_law 245 = .ok (.iconst 1, 1) := by decide +kernel
theorem dL_law_246 : decode cL_law 246 = .ok (.iadd, 1) := by decide +kernel
theorem dL_law_247 : decode cL_law 247 = .ok (.iaload, 1) := by decide +kernel
theorem dL_law_248 : decode cL_law 248 = .ok (.invokevirtual 39, 3) := by decide +kernel
theorem dL_law_251 : decode cL_law 251 = .ok (.if_icmp .eq 150, 3) := by decide +kernel
theorem dL_law_254 : decode cL_law 254 = .ok (.iconst 0, 1) := by decide +kernel
theorem dL_law_255 : decode cL_law 255 = .ok (.ireturn, 1) := by decide +kernel
theorem dL_law_256 : decode cL_law 256 = .ok (.aload_n 1, 1) := by decide +kernel
theorem dL_law_257 : decode cL_law 257 = .ok (.aload_n 0, 1) := by decide +kernel
theorem dL_law_258 : decode cL_law 258 = .ok (.iload_n 3, 1) := by decide +kernel
theorem dL_law_259 : decode cL_law 259 = .ok (.iconst 1, 1) := by decide +kernel
theorem dL_law_260 : decode cL_law 260 = .ok (.iadd, 1) := by decide +kernel
theorem dL_law_261 : decode cL_law 261 = .ok (.iaload, 1) := by decide +kernel
theorem dL_law_262 : decode cL_law 262 = .ok (.invokevirtual 40, 3) := by decide +kernel
theorem dL_law_265 : decode cL_law 265 = .ok (.aload_n 2, 1) := by decide +kernel
theorem dL_law_266 : decode cL_law 266 = .ok (.aload_n 0, 1) := by decide +kernel
theorem dL_law_267 : decode cL_law 267 = .ok (.iload_n 3, 1) := by decide +kernel
theorem dL_law_268 : decode cL_law 268 = .ok (.iconst 1, 1) := by decide +kernel
theorem dL_law_269 : decode cL_law 269 = .ok (.iadd, 1) := by decide +kernel
theorem dL_law_270 : decode cL_law 270 = .ok (.iaload, 1) := by decide +kernel
theorem dL_law_271 : decode cL_law 271 = .ok (.invokevirtual 43, 3) := by decide +kernel
theorem dL_law_274 : decode cL_law 274 = .ok (.if_icmp .eq 127, 3) := by decide +kernel
theorem dL_law_277 : decode cL_law 277 = .ok (.iconst 0, 1) := by decide +kernel
theorem dL_law_278 : decode cL_law 278 = .ok (.ireturn, 1) := by decide +kernel
theorem dL_law_279 : decode cL_law 279 = .ok (.aload_n 1, 1) := by decide +kernel
theorem dL_law_280 : decode cL_law 280 = .ok (.invokevirtual 44, 3) := by decide +kernel
theorem dL_law_283 : decode cL_law 283 = .ok (.aload_n 2, 1) := by decide +kernel
theorem dL_law_284 : decode cL_law 284 = .ok (.invokevirtual 47, 3) := by decide +kernel
theorem dL_law_287 : decode cL_law 287 = .ok (.goto 114, 3) := by decide +kernel
theorem dL_law_290 : decode cL_law 290 = .ok (.aload_n 1, 1) := by decide +kernel
theorem dL_law_291 : decode cL_law 291 = .ok (.invokevirtual 48, 3) := by decide +kernel
theorem dL_law_294 : decode cL_law 294 = .ok (.aload_n 2, 1) := by decide +kernel
theorem dL_law_295 : decode cL_law 295 = .ok (.invokevirtual 51, 3) := by decide +kernel
theorem dL_law_298 : decode cL_law 298 = .ok (.if_icmp .eq 103, 3) := by decide +kernel
theorem dL_law_301 : decode cL_law 301 = .ok (.iconst 0, 1) := by decide +kernel
theorem dL_law_302 : decode cL_law 302 = .ok (.ireturn, 1) := by decide +kernel
theorem dL_law_303 : decode cL_law 303 = .ok (.aload_n 1, 1) := by decide +kernel
theorem dL_law_304 : decode cL_law 304 = .ok (.invokevirtual 52, 3) := by decide +kernel
theorem dL_law_307 : decode cL_law 307 = .ok (.aload_n 2, 1) := by decide +kernel
theorem dL_law_308 : decode cL_law 308 = .ok (.invokevirtual 55, 3) := by decide +kernel
theorem dL_law_311 : decode cL_law 311 = .ok (.if_icmp .eq 90, 3) := by decide +kernel
theorem dL_law_314 : decode cL_law 314 = .ok (.iconst 0, 1) := by decide +kernel
theorem dL_law_315 : decode cL_law 315 = .ok (.ireturn, 1) := by decide +kernel
theorem dL_law_316 : decode cL_law 316 = .ok (.aload_n 1, 1) := by decide +kernel
theorem dL_law_317 : decode cL_law 317 = .ok (.invokevirtual 56, 3) := by decide +kernel
theorem dL_law_320 : decode cL_law 320 = .ok (.aload_n 2, 1) := by decide +kernel
theorem dL_law_321 : decode cL_law 321 = .ok (.invokevirtual 60, 3) := by decide +kernel
theorem dL_law_324 : decode cL_law 324 = .ok (.if_icmp .eq 77, 3) := by decide +kernel
theorem dL_law_327 : decode cL_law 327 = .ok (.iconst 0, 1) := by decide +kernel
theorem dL_law_328 : decode cL_law 328 = .ok (.ireturn, 1) := by decide +kernel
theorem dL_law_329 : decode cL_law 329 = .ok (.aload_n 1, 1) := by decide +kernel
theorem dL_law_330 : decode cL_law 330 = .ok (.invokevirtual 61, 3) := by decide +kernel
theorem dL_law_333 : decode cL_law 333 = .ok (.aload_n 2, 1) := by decide +kernel
end
section
set_option maxRecDepth 100000
theorem dL_law_334 : decode cL_law 334 = .ok (.invokevirtual 64, 3) := by decide +kernel
theorem dL_law_337 : decode cL_law 337 = .ok (.if_icmp .eq 64, 3) := by decide +kernel
theorem dL_law_340 : decode cL_law 340 = .ok (.iconst 0, 1) := by decide +kernel
theorem dL_law_341 : decode cL_law 341 = .ok (.ireturn, 1) := by decide +kernel
theorem dL_law_342 : decode cL_law 342 = .ok (.aload_n 1, 1) := by decide +kernel
theorem dL_law_343 : decode cL_law 343 = .ok (.aload_n 0, 1) := by decide +kernel
theorem dL_law_344 : decode cL_law 344 = .ok (.iload_n 3, 1) := by decide +kernel
theorem dL_law_345 : decode cL_law 345 = .ok (.iconst 1, 1) := by decide +kernel
theorem dL_law_346 : decode cL_law 346 = .ok (.iadd, 1) := by decide +kernel
theorem dL_law_347 : decode cL_law 347 = .ok (.iaload, 1) := by decide +kernel
theorem dL_law_348 : decode cL_law 348 = .ok (.invokevirtual 65, 3) := by decide +kernel
theorem dL_law_351 : decode cL_law 351 = .ok (.aload_n 2, 1) := by decide +kernel
theorem dL_law_352 : decode cL_law 352 = .ok (.aload_n 0, 1) := by decide +kernel
theorem dL_law_353 : decode cL_law 353 = .ok (.iload_n 3, 1) := by decide +kernel
theorem dL_law_354 : decode cL_law 354 = .ok (.iconst 1, 1) := by decide +kernel
theorem dL_law_355 : decode cL_law 355 = .ok (.iadd, 1) := by decide +kernel
theorem dL_law_356 : decode cL_law 356 = .ok (.iaload, 1) := by decide +kernel
theorem dL_law_357 : decode cL_law 357 = .ok (.invokevirtual 68, 3) := by decide +kernel
theorem dL_law_360 : decode cL_law 360 = .ok (.if_icmp .eq 41, 3) := by decide +kernel
theorem dL_law_363 : decode cL_law 363 = .ok (.iconst 0, 1) := by decide +kernel
theorem dL_law_364 : decode cL_law 364 = .ok (.ireturn, 1) := by decide +kernel
theorem dL_law_365 : decode cL_law 365 = .ok (.aload_n 1, 1) := by decide +kernel
theorem dL_law_366 : decode cL_law 366 = .ok (.aload_n 0, 1) := by decide +kernel
theorem dL_law_367 : decode cL_law 367 = .ok (.iload_n 3, 1) := by decide +kernel
theorem dL_law_368 : decode cL_law 368 = .ok (.iconst 1, 1) := by decide +kernel
theorem dL_law_369 : decode cL_law 369 = .ok (.iadd, 1) := by decide +kernel
theorem dL_law_370 : decode cL_law 370 = .ok (.iaload, 1) := by decide +kernel
theorem dL_law_371 : decode cL_law 371 = .ok (.invokevirtual 69, 3) := by decide +kernel
theorem dL_law_374 : decode cL_law 374 = .ok (.aload_n 2, 1) := by decide +kernel
theorem dL_law_375 : decode cL_law 375 = .ok (.aload_n 0, 1) := by decide +kernel
theorem dL_law_376 : decode cL_law 376 = .ok (.iload_n 3, 1) := by decide +kernel
theorem dL_law_377 : decode cL_law 377 = .ok (.iconst 1, 1) := by decide +kernel
theorem dL_law_378 : decode cL_law 378 = .ok (.iadd, 1) := by decide +kernel
theorem dL_law_379 : decode cL_law 379 = .ok (.iaload, 1) := by decide +kernel
theorem dL_law_380 : decode cL_law 380 = .ok (.invokevirtual 72, 3) := by decide +kernel
theorem dL_law_383 : decode cL_law 383 = .ok (.if_icmp .eq 18, 3) := by decide +kernel
theorem dL_law_386 : decode cL_law 386 = .ok (.iconst 0, 1) := by decide +kernel
theorem dL_law_387 : decode cL_law 387 = .ok (.ireturn, 1) := by decide +kernel
theorem dL_law_388 : decode cL_law 388 = .ok (.aload_n 1, 1) := by decide +kernel
theorem dL_law_389 : decode cL_law 389 = .ok (.invokevirtual 73, 3) := by decide +kernel
theorem dL_law_392 : decode cL_law 392 = .ok (.aload_n 2, 1) := by decide +kernel
theorem dL_law_393 : decode cL_law 393 = .ok (.invokevirtual 76, 3) := by decide +kernel
theorem dL_law_396 : decode cL_law 396 = .ok (.if_icmp .eq 5, 3) := by decide +kernel
theorem dL_law_399 : decode cL_law 399 = .ok (.iconst 0, 1) := by decide +kernel
theorem dL_law_400 : decode cL_law 400 = .ok (.ireturn, 1) := by decide +kernel
theorem dL_law_401 : decode cL_law 401 = .ok (.iinc 3 3, 3) := by decide +kernel
theorem dL_law_404 : decode cL_law 404 = .ok (.goto (-386), 3) := by decide +kernel
theorem dL_law_407 : decode cL_law 407 = .ok (.iconst 1, 1) := by decide +kernel
theorem dL_law_408 : decode cL_law 408 = .ok (.ireturn, 1) := by decide +kernel
end
section
/-! rows of this claim: contracts over a whole object, calls, loops, ends -/
set_option maxRecDepth 100000
abbrev vwCl : List vw_C := [(RX0, TX0, 12), (RX1, TX1, 11)]
/-- FairRuns as a world: the object and its nine arrays -/
abbrev w0 (h : Nat) (a : Nat → Nat) (d : ClassId) (to mk : Nat → Int32) (dn : Nat) (dm : Nat → Int32) (md : Nat) (kd lf rt vl : Nat → Int32) (ht : Nat) (sk wy : Nat → Int32) : va_W :=
  [(h, .inr (0, [.ref (a 0), .ref (a 1), .int (nI dn), .ref (a 3), .int (nI md), .ref (a 5), .ref (a 6), .ref (a 7), .ref (a 8), .int (nI ht), .ref (a 10), .ref (a 11)])),
   (a 0, .inl (d, 8, .inl to)), (a 1, .inl (d, 4, .inl mk)), (a 3, .inl (d, 3, .inl dm)), (a 5, .inl (d, 20, .inl kd)), (a 6, .inl (d, 20, .inl lf)), (a 7, .inl (d, 20, .inl rt)), (a 8, .inl (d, 20, .inl vl)), (a 10, .inl (d, 6, .inl sk)), (a 11, .inl (d, 8, .inl wy))]
/-- FairRunsModel as a world: the object and its eight arrays -/
abbrev w1 (h : Nat) (a : Nat → Nat) (d : ClassId) (to mk dm : Nat → Int32) (dn : Nat) (kd lf rt vl : Nat → Int32) (md : Nat) (sk : Nat → Int32) (ht : Nat) : va_W :=
  [(h, .inr (1, [.ref (a 0), .ref (a 1), .ref (a 2), .int (nI dn), .ref (a 4), .ref (a 5), .ref (a 6), .ref (a 7), .int (nI md), .ref (a 9), .int (nI ht)])),
   (a 0, .inl (d, 8, .inl to)), (a 1, .inl (d, 4, .inl mk)), (a 2, .inl (d, 3, .inl dm)), (a 4, .inl (d, 20, .inl kd)), (a 5, .inl (d, 20, .inl lf)), (a 6, .inl (d, 20, .inl rt)), (a 7, .inl (d, 20, .inl vl)), (a 9, .inl (d, 6, .inl sk))]
def fr_Pc (G : va_G) (d : ClassId) (sz : Nat) (ws : va_W) (U : State) : Prop := U.heap.size = sz ∧ va_P G vwCl ws U.heap ∧ va_K G vwCl [(d, .int)] U ∧ va_D (fun _ => True) ws
def fr_B (G : va_G) (d : ClassId) (A : Nat → Prop) (ws : va_W) (t : State) : Prop := va_P G vwCl ws t.heap ∧ va_K G vwCl [(d, .int)] t ∧ va_D A ws
/-- a contract over a whole object that answers an int or a boolean and makes nothing -/
def fr_I (l : Launch) (y : MethodName) (b : ByteArray) (n : Nat) (rt : Option FieldType) (rm : Room) (av : List Value) (G : va_G) (d : ClassId) (sz : Nat) (ws : va_W) {S : Type} (post : Int32 → S → Prop) (ws' : S → va_W) : Prop :=
  Met l y (ws_ y b n rt) rm (va_Pc av (fr_Pc G d sz ws)) (va_Qi post (fun u => fr_B G d (va_A ws sz) (ws' u)) (va_A ws sz)) 0 0 (va_A ws sz)
/-- the same, of a void method -/
def fr_V (l : Launch) (y : MethodName) (b : ByteArray) (n : Nat) (rm : Room) (av : List Value) (G : va_G) (d : ClassId) (sz : Nat) (ws : va_W) {S : Type} (post : S → Prop) (ws' : S → va_W) : Prop :=
  Met l y (ws_ y b n none) rm (va_Pc av (fr_Pc G d sz ws)) (va_Qv post (fun u => fr_B G d (va_A ws sz) (ws' u)) (va_A ws sz)) 0 0 (va_A ws sz)
theorem fr_startI {l : Launch} {y : MethodName} {b : ByteArray} {n : Nat} {rt : Option FieldType} {rm : Room} {av : List Value} {G : va_G} {d : ClassId} {sz : Nat} {ws : va_W} {S : Type} {post : Int32 → S → Prop} {ws' : S → va_W} (own : String) (ho : y.cls = own) (hy : plainName y.cls = true) (hn : (lg_sl av).length ≤ n)
    (k : ∀ (p : Program) (e : Env) (s : State) (m : MethodId) (below : List Frame) (meth : Method) (c : Code) (A : Nat → Prop) (ls : Array Slot), p.tables.exec = Jvm.exec → c.code = b → meth.sig.returnType = rt → meth.locks = false → c.maxLocals = n → s.vm.findClass own = some m.cls → (∀ w ∈ lw_all, w.before av.toArray s = true) → (∀ q : Nat, s.heap.size ≤ q → A q) → va_K G vwCl [(d, .int)] s → va_P G vwCl ws s.heap → va_D A ws → va_S A s.heap s.heap [] → lv_has ls n (lv_args 0 av) →
      W p l e rm s m av.toArray below meth c s.heap [] 0 0 (MQ below (va_Qi post (fun u => fr_B G d A (ws' u)) A) av.toArray s 0 0 A) (F0 m 0 ls [])) : fr_I l y b n rt rm av G d sz ws post ws' := by
  subst ho
  refine Met.ofW (cc := b) (maxL := n) (ret := rt) hy rfl ?_
  intro p e s m args below meth c s₁ B hml hv
  obtain ⟨rfl, hsz, hP, hK, hD0⟩ := hv
  have hts := atoms_spec (ws := ws_ y b n rt) B.pre
  have hts : ∀ w ∈ lw_all, w.before _ s = true := fun w h => hts w (List.mem_cons_of_mem _ h)
  have hown : s.vm.findClass y.cls = some m.cls := findClass_of_methodNamed B.named
  subst hsz
  have hl := lv_entry av (n := n) hn
  rw [lg_entry_eq]
  exact k p e s m below meth c _ _ B.exec B.bytes B.returns B.notSynchronized hml hown hts (fun q h => Or.inr h) hK hP hD0.self va_S.rf hl
theorem fr_startV {l : Launch} {y : MethodName} {b : ByteArray} {n : Nat} {rm : Room} {av : List Value} {G : va_G} {d : ClassId} {sz : Nat} {ws : va_W} {S : Type} {post : S → Prop} {ws' : S → va_W} (own : String) (ho : y.cls = own) (hy : plainName y.cls = true) (hn : (lg_sl av).length ≤ n)
    (k : ∀ (p : Program) (e : Env) (s : State) (m : MethodId) (below : List Frame) (meth : Method) (c : Code) (A : Nat → Prop) (ls : Array Slot), p.tables.exec = Jvm.exec → c.code = b → meth.sig.returnType = none → meth.locks = false → c.maxLocals = n → s.vm.findClass own = some m.cls → (∀ w ∈ lw_all, w.before av.toArray s = true) → (∀ q : Nat, s.heap.size ≤ q → A q) → va_K G vwCl [(d, .int)] s → va_P G vwCl ws s.heap → va_D A ws → va_S A s.heap s.heap [] → lv_has ls n (lv_args 0 av) →
      W p l e rm s m av.toArray below meth c s.heap [] 0 0 (MQ below (va_Qv post (fun u => fr_B G d A (ws' u)) A) av.toArray s 0 0 A) (F0 m 0 ls [])) : fr_V l y b n rm av G d sz ws post ws' := by
  subst ho
  refine Met.ofW (cc := b) (maxL := n) (ret := none) hy rfl ?_
  intro p e s m args below meth c s₁ B hml hv
  obtain ⟨rfl, hsz, hP, hK, hD0⟩ := hv
  have hts := atoms_spec (ws := ws_ y b n none) B.pre
  have hts : ∀ w ∈ lw_all, w.before _ s = true := fun w h => hts w (List.mem_cons_of_mem _ h)
  have hown : s.vm.findClass y.cls = some m.cls := findClass_of_methodNamed B.named
  subst hsz
  have hl := lv_entry av (n := n) hn
  rw [lg_entry_eq]
  exact k p e s m below meth c _ _ B.exec B.bytes B.returns B.notSynchronized hml hown hts (fun q h => Or.inr h) hK hP hD0.self va_S.rf hl
theorem fr_range (ws : va_W) : (List.range ws.length).map (fun i => ws[i]?) = ws.map some := by
  apply List.ext_getElem?
  intro i
  rw [List.getElem?_map, List.getElem?_map]
  by_cases h : i < ws.length
  · rw [List.getElem?_range h]
    simp [h]
  · rw [List.getElem?_eq_none (by simp; omega), List.getElem?_eq_none (by omega)]
    rfl
section FR
variable {p : Program} {l : Launch} {e : Env} {R : Room} {s : State} {m : MethodId} {args : Array Value} {below : List Frame} {meth : Method} {c : Code} {H : Heap} {locs : List Loc} {cells slots : Nat} {Q : State → Prop}
variable {cc : ByteArray} {pc : Nat} {ls : Array Slot} {rest : List Value} {G : va_G} {d : ClassId} {A : Nat → Prop} {ws : va_W}
theorem fr_top {x y : Int32} (h : x = y) (k : W p l e R s m args below meth c H locs cells slots Q (F0 m pc ls (.int y :: rest))) : W p l e R s m args below meth c H locs cells slots Q (F0 m pc ls (.int x :: rest)) := by
  rw [h]
  exact k
theorem fr_for {I : Nat → Heap → List Loc → Array Slot → Prop} {st : List Value} (N : Nat) (hx : ∀ (H : Heap) (locs : List Loc) (ls : Array Slot), I N H locs ls → W p l e R s m args below meth c H locs cells slots Q (F0 m pc ls st))
    (hs : ∀ i : Nat, i < N → (∀ (H : Heap) (locs : List Loc) (ls : Array Slot), I (i + 1) H locs ls → W p l e R s m args below meth c H locs cells slots Q (F0 m pc ls st)) → ∀ (H : Heap) (locs : List Loc) (ls : Array Slot), I i H locs ls → W p l e R s m args below meth c H locs cells slots Q (F0 m pc ls st))
    (i0 : Nat) (hi : i0 ≤ N) (h0 : I i0 H locs ls) : W p l e R s m args below meth c H locs cells slots Q (F0 m pc ls st) := by
  have key : ∀ n i : Nat, i + n = N → ∀ (H : Heap) (locs : List Loc) (ls : Array Slot), I i H locs ls → W p l e R s m args below meth c H locs cells slots Q (F0 m pc ls st) := by
    intro n
    induction n with
    | zero =>
      intro i hn H locs ls hI
      have : i = N := by omega
      subst this
      exact hx H locs ls hI
    | succ n ih =>
      intro i hn H locs ls hI
      exact hs i (by omega) (fun H locs ls h => ih (i + 1) (by omega) H locs ls h) H locs ls hI
  exact key (N - i0) i0 (by omega) H locs ls h0
theorem fr_down {I : Nat → Heap → List Loc → Array Slot → Prop} {st : List Value} (h0 : ∀ (H : Heap) (locs : List Loc) (ls : Array Slot), I 0 H locs ls → W p l e R s m args below meth c H locs cells slots Q (F0 m pc ls st))
    (hs : ∀ i : Nat, (∀ (H : Heap) (locs : List Loc) (ls : Array Slot), I i H locs ls → W p l e R s m args below meth c H locs cells slots Q (F0 m pc ls st)) → ∀ (H : Heap) (locs : List Loc) (ls : Array Slot), I (i + 1) H locs ls → W p l e R s m args below meth c H locs cells slots Q (F0 m pc ls st))
    (n : Nat) (hI : I n H locs ls) : W p l e R s m args below meth c H locs cells slots Q (F0 m pc ls st) := by
  have key : ∀ (n : Nat) (H : Heap) (locs : List Loc) (ls : Array Slot), I n H locs ls → W p l e R s m args below meth c H locs cells slots Q (F0 m pc ls st) := by
    intro n
    induction n with
    | zero => exact h0
    | succ n ih => exact hs n ih
  exact key n H locs ls hI
theorem fr_iald {D : va_G} {cl : List vw_C} {tys : List (ClassId × FieldType)} {a : Nat} (hexec : p.tables.exec = Jvm.exec) (hb : c.code = cc) (hK : va_K D cl tys s) (hP : va_P D cl ws H) (q0 t0 : Nat) {cA : ClassId} {n : Nat} {f : Nat → Int32} (ha : ws[q0]? = some (a, .inl (cA, n, .inl f))) (ht : tys[t0]? = some (cA, .int)) {k : Nat} (hk : k < n) (hn : n < 2 ^ 31) (hdg : decode cc pc = .ok (.iaload, 1))
    (kk : W p l e R s m args below meth c H locs cells slots Q (F0 m (pc + 1) ls (.int (f k) :: rest))) : W p l e R s m args below meth c H locs cells slots Q (F0 m pc ls (.int (nI k) :: .ref a :: rest)) := by
  refine va_iald hexec hb hK hP q0 t0 ha ht (vp_in_nI hk hn) hdg ?_
  rw [nI_clamp (by omega)]
  exact kk
theorem fr_iast {D : va_G} {cl : List vw_C} {tys : List (ClassId × FieldType)} {a : Nat} {H0 : Heap} (hexec : p.tables.exec = Jvm.exec) (hb : c.code = cc) (hK : va_K D cl tys s) (hP : va_P D cl ws H) (hD : va_D A ws) (hS : va_S A H0 H locs) (q0 t0 : Nat) {cA : ClassId} {n : Nat} {f : Nat → Int32} (ha : ws[q0]? = some (a, .inl (cA, n, .inl f))) (ht : tys[t0]? = some (cA, .int)) {k : Nat} {x : Int32} (hk : k < n) (hn : n < 2 ^ 31) (hdg : decode cc pc = .ok (.iastore, 1))
    (kk : ∀ (H1 : Heap) (locs1 : List Loc), va_P D cl (ws.set q0 (a, .inl (cA, n, .inl (upd f k x)))) H1 → va_D A (ws.set q0 (a, .inl (cA, n, .inl (upd f k x)))) → va_S A H0 H1 locs1 → W p l e R s m args below meth c H1 locs1 cells slots Q (F0 m (pc + 1) ls rest)) : W p l e R s m args below meth c H locs cells slots Q (F0 m pc ls (.int x :: .int (nI k) :: .ref a :: rest)) := by
  refine va_iast hexec hb hK hP hD hS q0 t0 ha ht (vp_in_nI hk hn) hdg ?_
  rw [nI_clamp (by omega)]
  exact kk
/-- the ends -/
theorem fr_reti {S : Type} {post : Int32 → S → Prop} {ws' : S → va_W} {v : Int32} (u : S) (hx : p.tables.exec = Jvm.exec) (hb : c.code = cc) (hr : meth.sig.returnType = some .int) (hlocks : meth.locks = false) (hK : va_K G vwCl [(d, .int)] s) (hP : va_P G vwCl (ws' u) H) (hD : va_D A (ws' u)) (hS : va_S A s.heap H locs) (hp : post v u) (hdg : decode cc pc = .ok (.ireturn, 1)) :
    W p l e R s m args below meth c H locs cells slots (MQ below (va_Qi post (fun u => fr_B G d A (ws' u)) A) args s cells slots A) (F0 m pc ls [.int v]) :=
  W.iret (v := v) hx hb hr (fun t ht hW => ⟨⟨v, u, rfl, hp, by rw [ht]; exact hP, va_K.moved hW.alike hK, hD⟩, hS.F ht⟩) hS.2.2 hdg hlocks
theorem fr_retz {S : Type} {post : Int32 → S → Prop} {ws' : S → va_W} {v : Int32} (u : S) (hx : p.tables.exec = Jvm.exec) (hb : c.code = cc) (hr : meth.sig.returnType = some .boolean) (hlocks : meth.locks = false) (hK : va_K G vwCl [(d, .int)] s) (hP : va_P G vwCl (ws' u) H) (hD : va_D A (ws' u)) (hS : va_S A s.heap H locs) (hn : v = 0 ∨ v = 1) (hp : post v u) (hdg : decode cc pc = .ok (.ireturn, 1)) :
    W p l e R s m args below meth c H locs cells slots (MQ below (va_Qi post (fun u => fr_B G d A (ws' u)) A) args s cells slots A) (F0 m pc ls [.int v]) :=
  W.zret (v := v) hx hb hr (by rcases hn with e | e <;> subst e <;> rfl) (fun t ht hW => ⟨⟨v, u, rfl, hp, by rw [ht]; exact hP, va_K.moved hW.alike hK, hD⟩, hS.F ht⟩) hS.2.2 hdg hlocks
theorem fr_retv {S : Type} {post : S → Prop} {ws' : S → va_W} (u : S) (hx : p.tables.exec = Jvm.exec) (hb : c.code = cc) (hr : meth.sig.returnType = none) (hlocks : meth.locks = false) (hK : va_K G vwCl [(d, .int)] s) (hP : va_P G vwCl (ws' u) H) (hD : va_D A (ws' u)) (hS : va_S A s.heap H locs) (hp : post u) (hdg : decode cc pc = .ok (.return_, 1)) :
    W p l e R s m args below meth c H locs cells slots (MQ below (va_Qv post (fun u => fr_B G d A (ws' u)) A) args s cells slots A) (F0 m pc ls []) :=
  W.vret hx hb hr (fun t ht hW => ⟨⟨u, rfl, hp, by rw [ht]; exact hP, va_K.moved hW.alike hK, hD⟩, hS.F ht⟩) hS.2.2 hdg hlocks
variable {y : MethodName} {b' : ByteArray} {n' nL idx k : Nat} {rty : Option FieldType} {rm : Room} {own C : String} {h : Nat} {As : List Value} {st : List Value}
theorem fr_blind {av : List Value} {sz : Nat} : FrameBlind (va_Pc av (fr_Pc G d sz ws)) := by
  intro a U g mk q
  obtain ⟨q0, q1, qP, qK, qD⟩ := q
  exact ⟨q0, q1, qP, va_K.moved (u := U) (U := U.calling g mk a) (Vm.Alike.refl U.vm) qK, qD⟩
/-- a call on the object that is the whole world -/
theorem fr_calli {S : Type} {post : Int32 → S → Prop} {ws' : S → va_W} (Sx : CallFix p m c cc nL s args lw_all own) (hM : fr_I l y b' n' rty rm (.ref h :: As) G d H.size ws post ws') (cw : CallW R s args own C idx y b' n' rty (ws_ y b' n' rty) rm 0 0 k)
    (hrc : ∃ cell : Cell, H[h]? = some cell ∧ cell.vm.isStatics = false ∧ s.vm.findClass C = some cell.cls) (hK : va_K G vwCl [(d, .int)] s) (hP : va_P G vwCl ws H) (hD : va_D A ws) (hS : va_S A s.heap H locs) (hA : ∀ q : Nat, s.heap.size ≤ q → A q)
    (hn : As.length = k) (hls : ls.size = nL) (hst : st = As.reverse ++ .ref h :: rest) (hW : (rest.map fun v => v.category).sum ≤ 8) (hdg : decode cc pc = .ok (.invokevirtual idx, 3)) (hcs : cells ≤ R.cells ∧ slots ≤ R.slots)
    (kk : ∀ (r : Int32) (u : S) (H1 : Heap) (locs1 : List Loc), post r u → va_P G vwCl (ws' u) H1 → va_D A (ws' u) → va_S A s.heap H1 locs1 → W p l e R s m args below meth c H1 locs1 cells slots Q (F0 m (pc + 3) ls (.int r :: rest))) :
    W p l e R s m args below meth c H locs cells slots Q (F0 m pc ls st) := by
  have hF : ∀ q, va_A ws H.size q → A q := va_free (wc := ws) hD hS hA (List.range ws.length) (fr_range ws)
  refine va_calli (va_runV (As := As) (rest := rest) Sx hM cw ⟨fr_blind, hrc, fun U hU hW => ⟨rfl, by rw [hU], by rw [hU]; exact hP, va_K.moved hW.alike hK, hD.weaken (fun _ _ _ _ => trivial)⟩⟩ rfl hn hls hst (lv_room hW) hdg hcs) hS (fun q _ h => hF q h) hF (fun r u t H1 locs1 ht hvm hw hB hz hk hS1 => ?_)
  obtain ⟨hP1, -, hD1⟩ := hB
  rw [ht] at hP1
  exact kk r u H1 locs1 hw hP1 (hD1.weaken (fun k q _ h => hF q.1 h)) hS1
theorem fr_callv {S : Type} {post : S → Prop} {ws' : S → va_W} (Sx : CallFix p m c cc nL s args lw_all own) (hM : fr_V l y b' n' rm (.ref h :: As) G d H.size ws post ws') (cw : CallW R s args own C idx y b' n' none (ws_ y b' n' none) rm 0 0 k)
    (hrc : ∃ cell : Cell, H[h]? = some cell ∧ cell.vm.isStatics = false ∧ s.vm.findClass C = some cell.cls) (hK : va_K G vwCl [(d, .int)] s) (hP : va_P G vwCl ws H) (hD : va_D A ws) (hS : va_S A s.heap H locs) (hA : ∀ q : Nat, s.heap.size ≤ q → A q)
    (hn : As.length = k) (hls : ls.size = nL) (hst : st = As.reverse ++ .ref h :: rest) (hW : (rest.map fun v => v.category).sum ≤ 8) (hdg : decode cc pc = .ok (.invokevirtual idx, 3)) (hcs : cells ≤ R.cells ∧ slots ≤ R.slots)
    (kk : ∀ (u : S) (H1 : Heap) (locs1 : List Loc), post u → va_P G vwCl (ws' u) H1 → va_D A (ws' u) → va_S A s.heap H1 locs1 → W p l e R s m args below meth c H1 locs1 cells slots Q (F0 m (pc + 3) ls rest)) :
    W p l e R s m args below meth c H locs cells slots Q (F0 m pc ls st) := by
  have hF : ∀ q, va_A ws H.size q → A q := va_free (wc := ws) hD hS hA (List.range ws.length) (fr_range ws)
  refine va_callv (va_runV (As := As) (rest := rest) Sx hM cw ⟨fr_blind, hrc, fun U hU hW => ⟨rfl, by rw [hU], by rw [hU]; exact hP, va_K.moved hW.alike hK, hD.weaken (fun _ _ _ _ => trivial)⟩⟩ rfl hn hls hst (lv_room hW) hdg hcs) hS (fun q _ h => hF q h) hF (fun u t H1 locs1 ht hvm hw hB hz hk hS1 => ?_)
  obtain ⟨hP1, -, hD1⟩ := hB
  rw [ht] at hP1
  exact kk u H1 locs1 hw hP1 (hD1.weaken (fun k q _ h => hF q.1 h)) hS1
end FR
end
section
/-! what the methods compute, as functions of the arrays (nothing of the machine here) -/
/-- x is one of 0 .. n-1 -/
def fr_in (n : Nat) (x : Int32) : Bool := decide (0 ≤ x.toInt) && decide (x.toInt < n)
/-- the states from which an arc leads into x -/
def fr_bef (to : Nat → Int32) (x : Int32) : Nat → Int32
  | 0 => 0
  | s + 1 => if to s &&& x = 0 then fr_bef to x s else fr_bef to x s ||| ((1 : Int32) <<< (nI s &&& 31))
/-- the states to which an arc leads out of x -/
def fr_beh (to : Nat → Int32) (x : Int32) : Nat → Int32
  | 0 => 0
  | s + 1 => if (x >>> (nI s &&& 31)) &&& 1 = 1 then fr_beh to x s ||| to s else fr_beh to x s
/-- back from g through t, n rounds -/
def fr_bk (to : Nat → Int32) (t g : Int32) : Nat → Int32
  | 0 => g
  | n + 1 => fr_bk to t g n ||| (fr_bef to (fr_bk to t g n) 8 &&& t)
/-- on from x, n rounds -/
def fr_fw (to : Nat → Int32) (x : Int32) : Nat → Int32
  | 0 => x
  | n + 1 => fr_fw to x n ||| fr_beh to (fr_fw to x n) 8
/-- findWays: arcs within w -/
def fr_fA (to : Nat → Int32) (w : Int32) (wy : Nat → Int32) : Nat → (Nat → Int32)
  | 0 => wy
  | s + 1 => upd (fr_fA to w wy s) s (if (w >>> (nI s &&& 31)) &&& 1 = 1 then to s &&& w else 0)
def fr_fB (k : Nat) (wy : Nat → Int32) : Nat → (Nat → Int32)
  | 0 => wy
  | s + 1 => if (fr_fB k wy s s >>> (nI k &&& 31)) &&& 1 = 1 then upd (fr_fB k wy s) s (fr_fB k wy s s ||| fr_fB k wy s k) else fr_fB k wy s
def fr_fC (wy : Nat → Int32) : Nat → (Nat → Int32)
  | 0 => wy
  | k + 1 => fr_fB k (fr_fC wy k) 8
def fr_ways (to : Nat → Int32) (w : Int32) (wy : Nat → Int32) : Nat → Int32 := fr_fC (fr_fA to w wy 8) 8
/-- knotOf -/
def fr_kn (wy : Nat → Int32) (s : Nat) : Nat → Int32
  | 0 => 0
  | t + 1 => if (wy s >>> (nI t &&& 31)) &&& 1 = 1 then (if (wy t >>> (nI s &&& 31)) &&& 1 = 1 then fr_kn wy s t ||| ((1 : Int32) <<< (nI t &&& 31)) else fr_kn wy s t) else fr_kn wy s t
/-- meetsDemands -/
def fr_md (dm : Nat → Int32) (x : Int32) : Nat → Int32
  | 0 => if x = 0 then 0 else 1
  | k + 1 => if fr_md dm x k = 0 then 0 else if x &&& dm k = 0 then 0 else 1
/-- the states of the knots that meet all demands -/
def fr_gd (wy dm : Nat → Int32) (dn : Nat) : Nat → Int32
  | 0 => 0
  | s + 1 => if fr_md dm (fr_kn wy s 8) dn = 0 then fr_gd wy dm dn s else fr_gd wy dm dn s ||| fr_kn wy s 8
/-- FairRuns.staying, with the ways that were there before -/
def fr_sx (to dm : Nat → Int32) (dn : Nat) (w : Int32) (wy : Nat → Int32) : Int32 := fr_bk to w (fr_gd (fr_ways to w wy) dm dn 8) 8
/-- FairRuns.staying -/
def fr_st (to dm : Nat → Int32) (dn : Nat) (w : Int32) : Int32 := fr_sx to dm dn w (fun _ => 0)
/-- FairRunsModel.staying: one round -/
def fr_rD (to dm : Nat → Int32) (x : Int32) : Nat → Int32
  | 0 => x
  | k + 1 => fr_rD to dm x k &&& fr_bef to (fr_bk to (fr_rD to dm x k) (fr_rD to dm x k &&& dm k) 8) 8
def fr_rd (to dm : Nat → Int32) (dn : Nat) (x : Int32) : Int32 := fr_rD to dm (x &&& fr_bef to x 8) dn
def fr_it (to dm : Nat → Int32) (dn : Nat) (w : Int32) : Nat → Int32
  | 0 => w
  | n + 1 => fr_rd to dm dn (fr_it to dm dn w n)
/-- FairRunsModel.staying -/
def fr_sm (to dm : Nat → Int32) (dn : Nat) (w : Int32) : Int32 := if w = -1 then w else fr_it to dm dn w (w.toBitVec.toNat + 1)
def fr_no (x : Int32) : Int32 := 255 &&& (x ^^^ (-1))
/-- FairRuns.oneValue, twoValue; st: its staying -/
def fr_un (to : Nat → Int32) (st : Int32 → Int32) (t g : Int32) : Int32 := fr_bk to t (g &&& st 255) 8
def fr_sn (to : Nat → Int32) (st : Int32 → Int32) (x : Int32) : Int32 := fr_bef to (x &&& st 255) 8
def fr_au (to : Nat → Int32) (st : Int32 → Int32) (t g : Int32) : Int32 := 255 &&& ((st (fr_no g) ||| fr_un to st (fr_no g) (fr_no g &&& (t ^^^ (-1)))) ^^^ (-1))
def fr_o0 (to : Nat → Int32) (st : Int32 → Int32) (w f : Int32) : Int32 :=
  if w = 1 then fr_no f else if w = 2 then fr_sn to st f else if w = 3 then fr_un to st 255 f else if w = 4 then st f else if w = 5 then 255 &&& (fr_sn to st (fr_no f) ^^^ (-1)) else if w = 6 then 255 &&& (st (fr_no f) ^^^ (-1)) else 255 &&& (fr_un to st 255 (fr_no f) ^^^ (-1))
def fr_t0 (to : Nat → Int32) (st : Int32 → Int32) (w f g : Int32) : Int32 :=
  if w = 8 then f &&& g else if w = 9 then f ||| g else if w = 10 then fr_un to st f g else fr_au to st f g
/-- FairRunsModel.ofOne, ofTwo; st: its staying -/
def fr_o1 (to : Nat → Int32) (st : Int32 → Int32) (w f : Int32) : Int32 :=
  if w = 0 then fr_no f else if w = 1 then fr_bef to (f &&& st 255) 8 else if w = 2 then fr_bk to 255 (f &&& st 255) 8 else if w = 3 then st f else if w = 4 then 255 &&& (fr_bef to (fr_no f &&& st 255) 8 ^^^ (-1)) else if w = 5 then 255 &&& (st (fr_no f) ^^^ (-1)) else 255 &&& (fr_bk to 255 (fr_no f &&& st 255) 8 ^^^ (-1))
def fr_t1 (to : Nat → Int32) (st : Int32 → Int32) (w f g : Int32) : Int32 :=
  if w < 2 then (if w = 0 then f &&& g else f ||| g) else if w = 2 then fr_bk to f (g &&& st 255) 8 else (255 &&& (fr_bk to (fr_no g) ((fr_no g &&& fr_no f) &&& st 255) 8 ^^^ (-1))) &&& (st (fr_no g) ^^^ (-1))
/-- FairRuns.valueOf: the value of formula i, over the values v; then the table -/
def fr_e0 (to mk : Nat → Int32) (st : Int32 → Int32) (kd lf rt v : Nat → Int32) (i : Nat) : Int32 :=
  if kd i = 0 then mk (lf i).toNatClampNeg else if kd i < 8 then fr_o0 to st (kd i) (v (lf i).toNatClampNeg) else fr_t0 to st (kd i) (v (lf i).toNatClampNeg) (v (rt i).toNatClampNeg)
def fr_v0 (to mk : Nat → Int32) (st : Int32 → Int32) (kd lf rt v : Nat → Int32) : Nat → (Nat → Int32)
  | 0 => v
  | i + 1 => upd (fr_v0 to mk st kd lf rt v i) i (fr_e0 to mk st kd lf rt (fr_v0 to mk st kd lf rt v i) i)
/-- FairRunsModel.findSets -/
def fr_e1 (to mk : Nat → Int32) (st : Int32 → Int32) (kd lf rt v : Nat → Int32) (i : Nat) : Int32 :=
  if kd i ≤ 19 then (if kd i ≤ 9 then fr_o1 to st (kd i) (v (lf i).toNatClampNeg) else fr_t1 to st (kd i - 10) (v (lf i).toNatClampNeg) (v (rt i).toNatClampNeg)) else mk (kd i - 20).toNatClampNeg
def fr_v1 (to mk : Nat → Int32) (st : Int32 → Int32) (kd lf rt v : Nat → Int32) : Nat → (Nat → Int32)
  | 0 => v
  | i + 1 => upd (fr_v1 to mk st kd lf rt v i) i (fr_e1 to mk st kd lf rt (fr_v1 to mk st kd lf rt v i) i)
/-- steps: FairRuns, FairRunsModel; f rounds are left, n are done -/
def fr_p0 (to : Nat → Int32) (s : Int32) : Nat → Nat → Int32 → Int32
  | 0, _, _ => -4
  | f + 1, n, x => if (x >>> (s &&& 31)) &&& 1 = 1 then nI n else fr_p0 to s f (n + 1) (x ||| fr_bef to x 8)
def fr_p1 (to : Nat → Int32) (g : Int32) : Nat → Nat → Int32 → Int32
  | 0, _, _ => -4
  | f + 1, n, x => if g < 0 then -4 else if x &&& g = 0 then fr_p1 to g f (n + 1) (x ||| fr_beh to x 8) else nI n
/-- knots: FairRuns (how many, which are seen), FairRunsModel -/
def fr_k0 (wy : Nat → Int32) : Nat → Nat × Int32
  | 0 => (0, 0)
  | s + 1 => (if fr_kn wy s 8 = 0 then (fr_k0 wy s).1 else if ((fr_k0 wy s).2 >>> (nI s &&& 31)) &&& 1 = 0 then (fr_k0 wy s).1 + 1 else (fr_k0 wy s).1, (fr_k0 wy s).2 ||| fr_kn wy s 8)
def fr_kt (to : Nat → Int32) (s : Nat) : Int32 := fr_fw to (fr_beh to ((1 : Int32) <<< (nI s &&& 31)) 8) 8 &&& fr_bk to 255 ((1 : Int32) <<< (nI s &&& 31)) 8
def fr_k1 (to : Nat → Int32) : Nat → Nat
  | 0 => 0
  | s + 1 => if (fr_kt to s >>> (nI s &&& 31)) &&& 1 = 1 then (if fr_kt to s &&& (((1 : Int32) <<< (nI s &&& 31)) - 1) = 0 then fr_k1 to s + 1 else fr_k1 to s) else fr_k1 to s
def fr_b (b : Bool) : Int32 := if b then 1 else 0
/-- arcs (n = 8), mark (n = 4) -/
def fr_arcs (n : Nat) (to : Nat → Int32) (x y : Int32) : Int32 × (Nat → Int32) := if fr_in n x && fr_in 256 y then (to x.toNatClampNeg, upd to x.toNatClampNeg y) else (-1, to)
def fr_dem (dn : Nat) (dm : Nat → Int32) (x : Int32) : Int32 × Nat × (Nat → Int32) := if fr_in 256 x then (if dn = 3 then (-2, dn, dm) else (nI (dn + 1), dn + 1, upd dm dn x)) else (-1, dn, dm)
def fr_und (dn : Nat) (dm : Nat → Int32) : Int32 × Nat := if dn = 0 then (-4, dn) else (dm (dn - 1), dn - 1)
def fr_puR (x : Int32) (md ht : Nat) : Int32 := if fr_in 4 x then (if ht = 6 then -2 else if md = 20 then -2 else nI (ht + 1)) else -1
def fr_puO (x : Int32) (md ht : Nat) : Bool := fr_in 4 x && !(decide (ht = 6)) && !(decide (md = 20))
def fr_onR (x : Int32) (md ht : Nat) : Int32 := if fr_in 7 x then (if ht = 0 then -3 else if md = 20 then -2 else nI ht) else -1
def fr_onO (x : Int32) (md ht : Nat) : Bool := fr_in 7 x && !(decide (ht = 0)) && !(decide (md = 20))
def fr_twR (x : Int32) (md ht : Nat) : Int32 := if fr_in 4 x then (if ht < 2 then -3 else if md = 20 then -2 else nI (ht - 1)) else -1
def fr_twO (x : Int32) (md ht : Nat) : Bool := fr_in 4 x && !(decide (ht < 2)) && !(decide (md = 20))
end
section
/-! small laws that the walks use -/
theorem fr_b_ne {b : Bool} (h : ¬ fr_b b = 0) : b = true := by
  cases b
  · exact absurd rfl h
  · rfl
theorem fr_b_eq {b : Bool} (h : fr_b b = 0) : b = false := by
  cases b
  · rfl
  · exact absurd h (by decide)
theorem fr_b_01 (b : Bool) : fr_b b = 0 ∨ fr_b b = 1 := by
  cases b
  · exact Or.inl rfl
  · exact Or.inr rfl
theorem fr_in_vp {n : Nat} {x : Int32} (h : fr_in n x = true) : vp_in x n := by
  unfold fr_in at h
  rw [Bool.and_eq_true, decide_eq_true_eq, decide_eq_true_eq] at h
  exact vp_in_iff.mpr h
theorem fr_in_neg {n : Nat} {x : Int32} (h : x < 0) : fr_in n x = false := by
  have h1 : x.toInt < 0 := by
    have := Int32.lt_iff_toInt_lt.mp h
    rwa [Int32.toInt_zero] at this
  unfold fr_in
  rw [decide_eq_false (by omega)]
  rfl
theorem fr_in_big {n : Nat} {x y : Int32} (hy : y.toInt = (n : Int)) (h : y ≤ x) : fr_in n x = false := by
  have h1 := Int32.le_iff_toInt_le.mp h
  unfold fr_in
  rw [decide_eq_false (p := x.toInt < n) (by omega), Bool.and_false]
theorem fr_in_big' {n : Nat} {x y : Int32} (hy : y.toInt + 1 = (n : Int)) (h : y < x) : fr_in n x = false := by
  have h1 := Int32.lt_iff_toInt_lt.mp h
  unfold fr_in
  rw [decide_eq_false (p := x.toInt < n) (by omega), Bool.and_false]
theorem fr_in_t {n : Nat} {x y : Int32} (hy : y.toInt = (n : Int)) (h0 : ¬ x < 0) (h : x < y) : fr_in n x = true := by
  have h1 := Int32.lt_iff_toInt_lt.mp h
  have h2 : ¬ x.toInt < 0 := fun q => h0 (Int32.lt_iff_toInt_lt.mpr (by rw [Int32.toInt_zero]; exact q))
  unfold fr_in
  rw [decide_eq_true (by omega), decide_eq_true (by omega)]
  rfl
theorem fr_in_t' {n : Nat} {x y : Int32} (hy : y.toInt + 1 = (n : Int)) (h0 : ¬ x < 0) (h : x ≤ y) : fr_in n x = true := by
  have h1 := Int32.le_iff_toInt_le.mp h
  have h2 : ¬ x.toInt < 0 := fun q => h0 (Int32.lt_iff_toInt_lt.mpr (by rw [Int32.toInt_zero]; exact q))
  unfold fr_in
  rw [decide_eq_true (by omega), decide_eq_true (by omega)]
  rfl
theorem fr_nlt {x y : Int32} (h : ¬ x < y) : y ≤ x := by
  rw [Int32.le_iff_toInt_le]
  rw [Int32.lt_iff_toInt_lt] at h
  omega
theorem fr_nle {x y : Int32} (h : ¬ x ≤ y) : y < x := by
  rw [Int32.lt_iff_toInt_lt]
  rw [Int32.le_iff_toInt_le] at h
  omega
theorem fr_md_01 (dm : Nat → Int32) (x : Int32) (k : Nat) : fr_md dm x k = 0 ∨ fr_md dm x k = 1 := by
  cases k with
  | zero =>
    unfold fr_md
    split
    · exact Or.inl rfl
    · exact Or.inr rfl
  | succ k =>
    unfold fr_md
    split
    · exact Or.inl rfl
    · split
      · exact Or.inl rfl
      · exact Or.inr rfl
/-! the ways do not depend on what the array held -/
theorem fr_fA_out (to : Nat → Int32) (w : Int32) (wy : Nat → Int32) (n j : Nat) (h : j < n) : fr_fA to w wy n j = (if (w >>> (nI j &&& 31)) &&& 1 = 1 then to j &&& w else 0) := by
  induction n with
  | zero => omega
  | succ n ih =>
    show upd (fr_fA to w wy n) n _ j = _
    by_cases e : j = n
    · subst e
      rw [pk_us]
    · rw [pk_un e]
      exact ih (by omega)
theorem fr_fB_ag (k : Nat) (hk : k < 8) (v w : Nat → Int32) (h : ∀ j, j < 8 → v j = w j) (n : Nat) (hn : n ≤ 8) : ∀ j, j < 8 → fr_fB k v n j = fr_fB k w n j := by
  induction n with
  | zero => exact h
  | succ n ih =>
    have ih := ih (by omega)
    intro j hj
    unfold fr_fB
    rw [ih n (by omega), ih k hk]
    split
    · by_cases e : j = n
      · subst e
        rw [pk_us, pk_us]
      · rw [pk_un e, pk_un e]
        exact ih j hj
    · exact ih j hj
theorem fr_fC_ag (v w : Nat → Int32) (h : ∀ j, j < 8 → v j = w j) (n : Nat) (hn : n ≤ 8) : ∀ j, j < 8 → fr_fC v n j = fr_fC w n j := by
  induction n with
  | zero => exact h
  | succ n ih => exact fr_fB_ag n (by omega) _ _ (ih (by omega)) 8 (Nat.le_refl 8)
theorem fr_ways_ag (to : Nat → Int32) (w : Int32) (wy : Nat → Int32) : ∀ j, j < 8 → fr_ways to w wy j = fr_ways to w (fun _ => 0) j :=
  fr_fC_ag _ _ (fun j hj => by rw [fr_fA_out to w wy 8 j hj, fr_fA_out to w _ 8 j hj]) 8 (Nat.le_refl 8)
theorem fr_kn_ag (v w : Nat → Int32) (h : ∀ j, j < 8 → v j = w j) (s : Nat) (hs : s < 8) (n : Nat) (hn : n ≤ 8) : fr_kn v s n = fr_kn w s n := by
  induction n with
  | zero => rfl
  | succ n ih =>
    unfold fr_kn
    rw [ih (by omega), h s hs, h n (by omega)]
theorem fr_gd_ag (v w dm : Nat → Int32) (dn : Nat) (h : ∀ j, j < 8 → v j = w j) (n : Nat) (hn : n ≤ 8) : fr_gd v dm dn n = fr_gd w dm dn n := by
  induction n with
  | zero => rfl
  | succ n ih =>
    unfold fr_gd
    rw [ih (by omega), fr_kn_ag v w h n (by omega) 8 (Nat.le_refl 8)]
theorem fr_sx_st (to dm : Nat → Int32) (dn : Nat) (w : Int32) (wy : Nat → Int32) : fr_sx to dm dn w wy = fr_st to dm dn w := by
  unfold fr_st fr_sx
  rw [fr_gd_ag _ _ dm dn (fr_ways_ag to w wy) 8 (Nat.le_refl 8)]
theorem fr_k0_ag (v w : Nat → Int32) (h : ∀ j, j < 8 → v j = w j) (n : Nat) (hn : n ≤ 8) : fr_k0 v n = fr_k0 w n := by
  induction n with
  | zero => rfl
  | succ n ih =>
    unfold fr_k0
    rw [ih (by omega), fr_kn_ag v w h n (by omega) 8 (Nat.le_refl 8)]
/-! the model's staying: it comes to an end -/
theorem fr_andle (x z : Int32) : (x &&& z).toBitVec.toNat ≤ x.toBitVec.toNat := by
  rw [Int32.toBitVec_and, BitVec.toNat_and]
  exact Nat.and_le_left
theorem fr_i32 {x y : Int32} (h : x.toBitVec.toNat = y.toBitVec.toNat) : x = y := Int32.toBitVec_inj.mp (BitVec.eq_of_toNat_eq h)
theorem fr_andlt {x y z : Int32} (h : y = x &&& z) : y = x ∨ y.toBitVec.toNat < x.toBitVec.toNat := by
  subst h
  rcases Nat.lt_or_ge (x &&& z).toBitVec.toNat x.toBitVec.toNat with q | q
  · exact Or.inr q
  · exact Or.inl (fr_i32 (Nat.le_antisymm (fr_andle x z) q))
theorem fr_rD_and (to dm : Nat → Int32) (x : Int32) (k : Nat) : ∃ z, fr_rD to dm x k = x &&& z := by
  induction k with
  | zero => exact ⟨-1, by show x = _; rw [Int32.and_neg_one]⟩
  | succ k ih =>
    obtain ⟨z, hz⟩ := ih
    exact ⟨z &&& fr_bef to (fr_bk to (fr_rD to dm x k) (fr_rD to dm x k &&& dm k) 8) 8, by rw [← Int32.and_assoc, ← hz]; rfl⟩
theorem fr_rd_and (to dm : Nat → Int32) (dn : Nat) (x : Int32) : ∃ z, fr_rd to dm dn x = x &&& z := by
  obtain ⟨z, hz⟩ := fr_rD_and to dm (x &&& fr_bef to x 8) dn
  exact ⟨fr_bef to x 8 &&& z, by rw [← Int32.and_assoc]; exact hz⟩
theorem fr_rd_lt (to dm : Nat → Int32) (dn : Nat) (x : Int32) : fr_rd to dm dn x = x ∨ (fr_rd to dm dn x).toBitVec.toNat < x.toBitVec.toNat := by
  obtain ⟨z, hz⟩ := fr_rd_and to dm dn x
  exact fr_andlt hz
theorem fr_it_stay (to dm : Nat → Int32) (dn : Nat) (w : Int32) {n : Nat} (h : fr_rd to dm dn (fr_it to dm dn w n) = fr_it to dm dn w n) (k : Nat) : fr_it to dm dn w (n + k) = fr_it to dm dn w n := by
  induction k with
  | zero => rfl
  | succ k ih =>
    show fr_rd to dm dn (fr_it to dm dn w (n + k)) = _
    rw [ih]
    exact h
theorem fr_it_some (to dm : Nat → Int32) (dn : Nat) (w : Int32) (j : Nat) : (∃ i, i ≤ j ∧ fr_rd to dm dn (fr_it to dm dn w i) = fr_it to dm dn w i) ∨ (fr_it to dm dn w j).toBitVec.toNat + j ≤ w.toBitVec.toNat := by
  induction j with
  | zero => exact Or.inr (Nat.le_refl _)
  | succ j ih =>
    rcases ih with ⟨i, hi, e⟩ | ih
    · exact Or.inl ⟨i, by omega, e⟩
    · rcases fr_rd_lt to dm dn (fr_it to dm dn w j) with e | e
      · exact Or.inl ⟨j, by omega, e⟩
      · refine Or.inr ?_
        show (fr_rd to dm dn (fr_it to dm dn w j)).toBitVec.toNat + (j + 1) ≤ _
        omega
theorem fr_it_end (to dm : Nat → Int32) (dn : Nat) (w : Int32) {n : Nat} (h : fr_rd to dm dn (fr_it to dm dn w n) = fr_it to dm dn w n) : fr_it to dm dn w (w.toBitVec.toNat + 1) = fr_it to dm dn w n := by
  rcases fr_it_some to dm dn w (w.toBitVec.toNat + 1) with ⟨i, hi, e⟩ | q
  · have h1 : fr_it to dm dn w (w.toBitVec.toNat + 1) = fr_it to dm dn w i := by
      have := fr_it_stay to dm dn w e (w.toBitVec.toNat + 1 - i)
      rwa [Nat.add_sub_cancel' hi] at this
    rw [h1]
    rcases Nat.le_total i n with q | q
    · have := fr_it_stay to dm dn w e (n - i)
      rw [Nat.add_sub_cancel' q] at this
      exact this.symm
    · have := fr_it_stay to dm dn w h (i - n)
      rwa [Nat.add_sub_cancel' q] at this
  · omega
theorem fr_nb_ne {b : Bool} (h : ¬ fr_b (!b) = 0) : b = false := by
  cases b
  · rfl
  · exact absurd rfl h
theorem fr_nb_eq {b : Bool} (h : fr_b (!b) = 0) : b = true := by
  cases b
  · exact absurd h (by decide)
  · rfl
theorem fr_in_lt {n : Nat} {x : Int32} (h : fr_in n x = true) : x.toNatClampNeg < n := Nat.not_le.mp fun q => fr_in_vp h (Or.inr q)
theorem fr_arcs_1 {n : Nat} {to : Nat → Int32} {x y : Int32} (h : fr_in n x = false) : fr_arcs n to x y = (-1, to) := by
  unfold fr_arcs
  rw [h]
  rfl
theorem fr_arcs_2 {n : Nat} {to : Nat → Int32} {x y : Int32} (h : fr_in 256 y = false) : fr_arcs n to x y = (-1, to) := by
  unfold fr_arcs
  rw [h, Bool.and_false]
  rfl
theorem fr_arcs_0 {n : Nat} {to : Nat → Int32} {x y : Int32} (h : fr_in n x = true) (h2 : fr_in 256 y = true) : fr_arcs n to x y = (to x.toNatClampNeg, upd to x.toNatClampNeg y) := by
  unfold fr_arcs
  rw [h, h2]
  rfl
theorem fr_dem_1 {dn : Nat} {dm : Nat → Int32} {x : Int32} (h : fr_in 256 x = false) : fr_dem dn dm x = (-1, dn, dm) := by
  unfold fr_dem
  rw [h]
  rfl
theorem fr_dem_2 {dn : Nat} {dm : Nat → Int32} {x : Int32} (h : fr_in 256 x = true) (hd : dn = 3) : fr_dem dn dm x = (-2, dn, dm) := by
  unfold fr_dem
  rw [h, if_pos hd]
  rfl
theorem fr_dem_0 {dn : Nat} {dm : Nat → Int32} {x : Int32} (h : fr_in 256 x = true) (hd : dn ≠ 3) : fr_dem dn dm x = (nI (dn + 1), dn + 1, upd dm dn x) := by
  unfold fr_dem
  rw [h, if_neg hd]
  rfl
theorem fr_und_1 {dn : Nat} {dm : Nat → Int32} (h : dn = 0) : fr_und dn dm = (-4, dn) := by
  unfold fr_und
  rw [if_pos h]
theorem fr_und_0 {dn : Nat} {dm : Nat → Int32} (h : dn ≠ 0) : fr_und dn dm = (dm (dn - 1), dn - 1) := by
  unfold fr_und
  rw [if_neg h]
theorem fr_puO_0 {x : Int32} {md ht : Nat} (h : fr_in 4 x = true) (h1 : ht ≠ 6) (h2 : md ≠ 20) : fr_puO x md ht = true := by simp [fr_puO, h, h1, h2]
theorem fr_puO_1 {x : Int32} {md ht : Nat} (h : fr_in 4 x = false ∨ ht = 6 ∨ md = 20) : ¬ fr_puO x md ht = true := by
  rcases h with h | h | h <;> simp [fr_puO, h]
theorem fr_onO_0 {x : Int32} {md ht : Nat} (h : fr_in 7 x = true) (h1 : ht ≠ 0) (h2 : md ≠ 20) : fr_onO x md ht = true := by simp [fr_onO, h, h1, h2]
theorem fr_onO_1 {x : Int32} {md ht : Nat} (h : fr_in 7 x = false ∨ ht = 0 ∨ md = 20) : ¬ fr_onO x md ht = true := by
  rcases h with h | h | h <;> simp [fr_onO, h]
theorem fr_twO_0 {x : Int32} {md ht : Nat} (h : fr_in 4 x = true) (h1 : ¬ ht < 2) (h2 : md ≠ 20) : fr_twO x md ht = true := by simp [fr_twO, h, h1, h2]
theorem fr_twO_1 {x : Int32} {md ht : Nat} (h : fr_in 4 x = false ∨ ht < 2 ∨ md = 20) : ¬ fr_twO x md ht = true := by
  rcases h with h | h | h <;> simp [fr_twO, h]
theorem fr_ge {x y : Int32} (h : y ≤ x) : ¬ x < y := by
  rw [Int32.lt_iff_toInt_lt]
  rw [Int32.le_iff_toInt_le] at h
  omega
theorem fr_sm_end (to dm : Nat → Int32) (dn : Nat) (w : Int32) {n : Nat} {x y : Int32} (hx : x = fr_it to dm dn w n) (hy : (n = 0 ∧ y = -1) ∨ ∃ n', n = n' + 1 ∧ y = fr_it to dm dn w n' ∧ w ≠ -1) (h : x = y) : x = fr_sm to dm dn w := by
  rcases hy with ⟨rfl, rfl⟩ | ⟨n', rfl, rfl, hw⟩
  · have e : w = -1 := hx.symm.trans h
    rw [fr_sm, if_pos e]
    exact hx
  · rw [fr_sm, if_neg hw, fr_it_end to dm dn w (n := n') (hx.symm.trans h)]
    exact h
theorem fr_sm_ne (to dm : Nat → Int32) (dn : Nat) (w : Int32) {n : Nat} {x y : Int32} (hx : x = fr_it to dm dn w n) (hy : (n = 0 ∧ y = -1) ∨ ∃ n', n = n' + 1 ∧ y = fr_it to dm dn w n' ∧ w ≠ -1) (h : ¬ x = y) : w ≠ -1 := by
  rcases hy with ⟨rfl, rfl⟩ | ⟨n', rfl, rfl, hw⟩
  · exact fun q => h (hx.trans q)
  · exact hw
theorem fr_sm_lt (to dm : Nat → Int32) (dn : Nat) {N : Nat} {x y : Int32} (hN : x = y ∨ x.toBitVec.toNat < N + 1) (h : ¬ x = y) : fr_rd to dm dn x = x ∨ (fr_rd to dm dn x).toBitVec.toNat < N := by
  rcases hN with q | q
  · exact absurd q h
  · rcases fr_rd_lt to dm dn x with e | e
    · exact Or.inl e
    · exact Or.inr (by omega)
end
section
/-! FairRuns: contracts of the leaves and of staying -/
set_option maxRecDepth 100000
set_option maxHeartbeats 4000000 in
theorem met0_badState (l : Launch) (G : va_G) (h : Nat) (a : Nat → Nat) (d : ClassId) (sz : Nat) (to : Nat → Int32) (mk : Nat → Int32) (dn : Nat) (dm : Nat → Int32) (md : Nat) (kd : Nat → Int32) (lf : Nat → Int32) (rt : Nat → Int32) (vl : Nat → Int32) (ht : Nat) (sk : Nat → Int32) (wy : Nat → Int32) (p1 : Int32) : fr_I l yX0_badState cX0_badState 2 (some .boolean) ({ frames := 0, cells := 0, slots := 0, locals := 0 } : Room) [.ref (h), .int (p1)] G d sz (w0 h a d to mk dn dm md kd lf rt vl ht sk wy) (fun (r : Int32) (u : Unit) => r = fr_b (!fr_in 8 p1)) (fun (u : Unit) => (w0 h a d to mk dn dm md kd lf rt vl ht sk wy)) := by
  refine fr_startI RX0 rfl (by decide +kernel) (Nat.le_of_ble_eq_true rfl) ?_
  intro p e s m below meth c A ls hx hb hr hlocks hml hown hts hA hK hP hD hS hl
  have hl : lv_has ls 2 [(0, .ref (h)), (1, .int (p1))] := hl
  refine lv_iload_n hx hb dX0_badState_0 rfl (lv_at hl 1 rfl) ?_
  refine lv_if_lt (tgt := 10) hx hb dX0_badState_1 (by decide) (fun c_1 => ?_) (fun c_1 => ?_)
  · refine lv_iconst (v := (1 : Int32)) hx hb dX0_badState_10 (by decide) ?_
    refine lv_goto (tgt := 15) hx hb dX0_badState_11 (by decide) ?_
    exact fr_retz () hx hb hr hlocks hK hP hD hS (Or.inr rfl) (by rw [fr_in_neg c_1]; rfl) dX0_badState_15
  · refine lv_iload_n hx hb dX0_badState_4 rfl (lv_at hl 1 rfl) ?_
    refine lv_bipush (v := (8 : Int32)) hx hb dX0_badState_5 (by decide) ?_
    refine lv_icmp_lt (tgt := 14) hx hb dX0_badState_7 (by decide) (fun c_2 => ?_) (fun c_2 => ?_)
    · refine lv_iconst (v := (0 : Int32)) hx hb dX0_badState_14 (by decide) ?_
      exact fr_retz () hx hb hr hlocks hK hP hD hS (Or.inl rfl) (by rw [fr_in_t (n := 8) rfl c_1 c_2]; rfl) dX0_badState_15
    · refine lv_iconst (v := (1 : Int32)) hx hb dX0_badState_10 (by decide) ?_
      refine lv_goto (tgt := 15) hx hb dX0_badState_11 (by decide) ?_
      exact fr_retz () hx hb hr hlocks hK hP hD hS (Or.inr rfl) (by rw [fr_in_big (n := 8) rfl (fr_nlt c_2)]; rfl) dX0_badState_15
set_option maxHeartbeats 4000000 in
theorem met0_badSet (l : Launch) (G : va_G) (h : Nat) (a : Nat → Nat) (d : ClassId) (sz : Nat) (to : Nat → Int32) (mk : Nat → Int32) (dn : Nat) (dm : Nat → Int32) (md : Nat) (kd : Nat → Int32) (lf : Nat → Int32) (rt : Nat → Int32) (vl : Nat → Int32) (ht : Nat) (sk : Nat → Int32) (wy : Nat → Int32) (p1 : Int32) : fr_I l yX0_badSet cX0_badSet 2 (some .boolean) ({ frames := 0, cells := 0, slots := 0, locals := 0 } : Room) [.ref (h), .int (p1)] G d sz (w0 h a d to mk dn dm md kd lf rt vl ht sk wy) (fun (r : Int32) (u : Unit) => r = fr_b (!fr_in 256 p1)) (fun (u : Unit) => (w0 h a d to mk dn dm md kd lf rt vl ht sk wy)) := by
  refine fr_startI RX0 rfl (by decide +kernel) (Nat.le_of_ble_eq_true rfl) ?_
  intro p e s m below meth c A ls hx hb hr hlocks hml hown hts hA hK hP hD hS hl
  have hl : lv_has ls 2 [(0, .ref (h)), (1, .int (p1))] := hl
  refine lv_iload_n hx hb dX0_badSet_0 rfl (lv_at hl 1 rfl) ?_
  refine lv_if_lt (tgt := 11) hx hb dX0_badSet_1 (by decide) (fun c_1 => ?_) (fun c_1 => ?_)
  · refine lv_iconst (v := (1 : Int32)) hx hb dX0_badSet_11 (by decide) ?_
    refine lv_goto (tgt := 16) hx hb dX0_badSet_12 (by decide) ?_
    exact fr_retz () hx hb hr hlocks hK hP hD hS (Or.inr rfl) (by rw [fr_in_neg c_1]; rfl) dX0_badSet_16
  · refine lv_iload_n hx hb dX0_badSet_4 rfl (lv_at hl 1 rfl) ?_
    refine lv_sipush (v := (255 : Int32)) hx hb dX0_badSet_5 (by decide) ?_
    refine lv_icmp_le (tgt := 15) hx hb dX0_badSet_8 (by decide) (fun c_2 => ?_) (fun c_2 => ?_)
    · refine lv_iconst (v := (0 : Int32)) hx hb dX0_badSet_15 (by decide) ?_
      exact fr_retz () hx hb hr hlocks hK hP hD hS (Or.inl rfl) (by rw [fr_in_t' (n := 256) rfl c_1 c_2]; rfl) dX0_badSet_16
    · refine lv_iconst (v := (1 : Int32)) hx hb dX0_badSet_11 (by decide) ?_
      refine lv_goto (tgt := 16) hx hb dX0_badSet_12 (by decide) ?_
      exact fr_retz () hx hb hr hlocks hK hP hD hS (Or.inr rfl) (by rw [fr_in_big' (n := 256) rfl (fr_nle c_2)]; rfl) dX0_badSet_16
set_option maxHeartbeats 4000000 in
theorem met0_before (l : Launch) (G : va_G) (h : Nat) (a : Nat → Nat) (d : ClassId) (sz : Nat) (to : Nat → Int32) (mk : Nat → Int32) (dn : Nat) (dm : Nat → Int32) (md : Nat) (kd : Nat → Int32) (lf : Nat → Int32) (rt : Nat → Int32) (vl : Nat → Int32) (ht : Nat) (sk : Nat → Int32) (wy : Nat → Int32) (p1 : Int32) : fr_I l yX0_before cX0_before 4 (some .int) ({ frames := 0, cells := 0, slots := 0, locals := 0 } : Room) [.ref (h), .int (p1)] G d sz (w0 h a d to mk dn dm md kd lf rt vl ht sk wy) (fun (r : Int32) (u : Unit) => r = fr_bef to p1 8) (fun (u : Unit) => (w0 h a d to mk dn dm md kd lf rt vl ht sk wy)) := by
  refine fr_startI RX0 rfl (by decide +kernel) (Nat.le_of_ble_eq_true rfl) ?_
  intro p e s m below meth c A ls hx hb hr hlocks hml hown hts hA hK hP hD hS hl
  have hl : lv_has ls 4 [(0, .ref (h)), (1, .int (p1))] := hl
  refine lv_iconst (v := (0 : Int32)) hx hb dX0_before_0 (by decide) ?_
  refine lv_istore_n (lv' := [(2, .int ((0 : Int32))), (0, .ref (h)), (1, .int (p1))]) hx hb dX0_before_1 rfl hl (by decide) rfl (fun ls hl => ?_)
  refine lv_iconst (v := (0 : Int32)) hx hb dX0_before_2 (by decide) ?_
  refine lv_istore_n (lv' := [(3, .int ((0 : Int32))), (2, .int ((0 : Int32))), (0, .ref (h)), (1, .int (p1))]) hx hb dX0_before_3 rfl hl (by decide) rfl (fun ls hl => ?_)
  refine fr_for (I := fun (i : Nat) (H : Heap) (locs : List Loc) (ls : Array Slot) => va_P G vwCl (w0 h a d to mk dn dm md kd lf rt vl ht sk wy) H ∧ va_D A (w0 h a d to mk dn dm md kd lf rt vl ht sk wy) ∧ va_S A s.heap H locs ∧ lv_has ls 4 [(3, .int (nI (i))), (2, .int (fr_bef to p1 i)), (0, .ref (h)), (1, .int (p1))]) 8 ?_ ?_ 0 (Nat.zero_le _) ⟨hP, hD, hS, lv_sub hl [0, 1, 2, 3] rfl⟩
  · intro H locs ls hI
    obtain ⟨hP, hD, hS, hl⟩ := hI
    refine lv_iload_n hx hb dX0_before_4 rfl (lv_at hl 0 rfl) ?_
    refine lv_bipush (v := (8 : Int32)) hx hb dX0_before_5 (by decide) ?_
    refine lv_icmp_ge (tgt := 33) hx hb dX0_before_7 (by decide) (fun _ => ?_) (fun q_ => absurd (nI_le (Nat.le_refl 8) (by decide)) q_)
    refine lv_iload_n hx hb dX0_before_33 rfl (lv_at hl 1 rfl) ?_
    exact fr_reti () hx hb hr hlocks hK hP hD hS rfl dX0_before_34
  · intro i hi ih_i H locs ls hI
    obtain ⟨hP, hD, hS, hl⟩ := hI
    refine lv_iload_n hx hb dX0_before_4 rfl (lv_at hl 0 rfl) ?_
    refine lv_bipush (v := (8 : Int32)) hx hb dX0_before_5 (by decide) ?_
    refine lv_icmp_ge (tgt := 33) hx hb dX0_before_7 (by decide) (fun q_ => absurd q_ (nI_ge hi (by decide))) (fun _ => ?_)
    refine lv_aload_n hx hb dX0_before_10 rfl (lv_at hl 2 rfl) ?_
    refine va_get (D := G) (ci := 0) (v := .ref (a 0)) (C := RX0) (T := TX0) (N := 12) hx hb hts in_X0 hown hK hP 0 rfl rfl 0 (by decide) (hts _ q37) (fun _ h9 => h9) rfl dX0_before_11 ?_
    refine lv_iload_n hx hb dX0_before_14 rfl (lv_at hl 0 rfl) ?_
    refine fr_iald hx hb hK hP 1 0 rfl rfl (by omega) (by decide) dX0_before_15 ?_
    refine lv_iload_n hx hb dX0_before_16 rfl (lv_at hl 3 rfl) ?_
    refine lv_iand hx hb dX0_before_17 ?_
    refine lv_if_eq (tgt := 27) hx hb dX0_before_18 (by decide) (fun c_1 => ?_) (fun c_1 => ?_)
    · refine lv_iinc (v := nI (i + 1)) (lv' := [(3, .int (nI (i + 1))), (2, .int (fr_bef to p1 i)), (0, .ref (h)), (1, .int (p1))]) hx hb dX0_before_27 hl (k := 0) rfl (nI_1 _) (by decide) rfl (fun ls hl => ?_)
      refine lv_goto (tgt := 4) hx hb dX0_before_30 (by decide) ?_
      have e_1 : fr_bef to p1 (i + 1) = fr_bef to p1 i := (by rw [fr_bef, if_pos c_1])
      exact ih_i _ _ _ ⟨hP, hD, hS, (by rw [e_1]; exact lv_sub hl [0, 1, 2, 3] rfl)⟩
    · refine lv_iload_n hx hb dX0_before_21 rfl (lv_at hl 1 rfl) ?_
      refine lv_iconst (v := (1 : Int32)) hx hb dX0_before_22 (by decide) ?_
      refine lv_iload_n hx hb dX0_before_23 rfl (lv_at hl 0 rfl) ?_
      refine lv_ishl hx hb dX0_before_24 ?_
      refine lv_ior hx hb dX0_before_25 ?_
      refine lv_istore_n (lv' := [(2, .int ((fr_bef to p1 i) ||| (((1 : Int32)) <<< ((nI (i)) &&& 31)))), (3, .int (nI (i))), (0, .ref (h)), (1, .int (p1))]) hx hb dX0_before_26 rfl hl (by decide) rfl (fun ls hl => ?_)
      refine lv_iinc (v := nI (i + 1)) (lv' := [(3, .int (nI (i + 1))), (2, .int ((fr_bef to p1 i) ||| (((1 : Int32)) <<< ((nI (i)) &&& 31)))), (0, .ref (h)), (1, .int (p1))]) hx hb dX0_before_27 hl (k := 1) rfl (nI_1 _) (by decide) rfl (fun ls hl => ?_)
      refine lv_goto (tgt := 4) hx hb dX0_before_30 (by decide) ?_
      have e_1 : fr_bef to p1 (i + 1) = (fr_bef to p1 i) ||| (((1 : Int32)) <<< ((nI (i)) &&& 31)) := (by rw [fr_bef, if_neg c_1])
      exact ih_i _ _ _ ⟨hP, hD, hS, (by rw [e_1]; exact lv_sub hl [0, 1, 2, 3] rfl)⟩
set_option maxHeartbeats 4000000 in
theorem met0_backFrom (l : Launch) (G : va_G) (h : Nat) (a : Nat → Nat) (d : ClassId) (sz : Nat) (to : Nat → Int32) (mk : Nat → Int32) (dn : Nat) (dm : Nat → Int32) (md : Nat) (kd : Nat → Int32) (lf : Nat → Int32) (rt : Nat → Int32) (vl : Nat → Int32) (ht : Nat) (sk : Nat → Int32) (wy : Nat → Int32) (p1 : Int32) (p2 : Int32) : fr_I l yX0_backFrom cX0_backFrom 6 (some .int) ({ frames := 1, cells := 0, slots := 0, locals := 23 } : Room) [.ref (h), .int (p1), .int (p2)] G d sz (w0 h a d to mk dn dm md kd lf rt vl ht sk wy) (fun (r : Int32) (u : Unit) => r = fr_bk to p2 p1 8) (fun (u : Unit) => (w0 h a d to mk dn dm md kd lf rt vl ht sk wy)) := by
  refine fr_startI RX0 rfl (by decide +kernel) (Nat.le_of_ble_eq_true rfl) ?_
  intro p e s m below meth c A ls hx hb hr hlocks hml hown hts hA hK hP hD hS hl
  have hl : lv_has ls 6 [(0, .ref (h)), (1, .int (p1)), (2, .int (p2))] := hl
  refine lv_iload_n hx hb dX0_backFrom_0 rfl (lv_at hl 1 rfl) ?_
  refine lv_istore_n (lv' := [(3, .int (p1)), (0, .ref (h)), (1, .int (p1)), (2, .int (p2))]) hx hb dX0_backFrom_1 rfl hl (by decide) rfl (fun ls hl => ?_)
  refine lv_iconst (v := (0 : Int32)) hx hb dX0_backFrom_2 (by decide) ?_
  refine lv_istore (lv' := [(4, .int ((0 : Int32))), (3, .int (p1)), (0, .ref (h)), (1, .int (p1)), (2, .int (p2))]) hx hb dX0_backFrom_3 hl (by decide) rfl (fun ls hl => ?_)
  refine fr_for (I := fun (i : Nat) (H : Heap) (locs : List Loc) (ls : Array Slot) => va_P G vwCl (w0 h a d to mk dn dm md kd lf rt vl ht sk wy) H ∧ va_D A (w0 h a d to mk dn dm md kd lf rt vl ht sk wy) ∧ va_S A s.heap H locs ∧ lv_has ls 6 [(4, .int (nI (i))), (3, .int (fr_bk to p2 p1 i)), (0, .ref (h)), (1, .int (p1)), (2, .int (p2))]) 8 ?_ ?_ 0 (Nat.zero_le _) ⟨hP, hD, hS, lv_sub hl [0, 1, 2, 3, 4] rfl⟩
  · intro H locs ls hI
    obtain ⟨hP, hD, hS, hl⟩ := hI
    refine lv_iload hx hb dX0_backFrom_5 (lv_at hl 0 rfl) ?_
    refine lv_bipush (v := (8 : Int32)) hx hb dX0_backFrom_7 (by decide) ?_
    refine lv_icmp_ge (tgt := 32) hx hb dX0_backFrom_9 (by decide) (fun _ => ?_) (fun q_ => absurd (nI_le (Nat.le_refl 8) (by decide)) q_)
    refine lv_iload_n hx hb dX0_backFrom_32 rfl (lv_at hl 1 rfl) ?_
    exact fr_reti () hx hb hr hlocks hK hP hD hS rfl dX0_backFrom_33
  · intro i hi ih_i H locs ls hI
    obtain ⟨hP, hD, hS, hl⟩ := hI
    refine lv_iload hx hb dX0_backFrom_5 (lv_at hl 0 rfl) ?_
    refine lv_bipush (v := (8 : Int32)) hx hb dX0_backFrom_7 (by decide) ?_
    refine lv_icmp_ge (tgt := 32) hx hb dX0_backFrom_9 (by decide) (fun q_ => absurd q_ (nI_ge hi (by decide))) (fun _ => ?_)
    refine lv_aload_n hx hb dX0_backFrom_12 rfl (lv_at hl 2 rfl) ?_
    refine lv_iload_n hx hb dX0_backFrom_13 rfl (lv_at hl 1 rfl) ?_
    refine fr_calli (As := [.int (fr_bk to p2 p1 i)]) (rest := []) ⟨hx, hb, hml, hown, hts⟩ (met0_before l G h a d _ to mk dn dm md kd lf rt vl ht sk wy (fr_bk to p2 p1 i)) (cwV 1 hts (lw_V q159 q161 qs11 q27 q162) rfl rfl rfl (by decide +kernel) ⟨Nat.le_of_ble_eq_true rfl, Nat.le_of_ble_eq_true rfl⟩) (va_recv hK hP (ci := 0) (q0 := 0) rfl rfl) hK hP hD hS hA rfl hl.1 rfl (Nat.le_of_ble_eq_true rfl) dX0_backFrom_14 ⟨Nat.le_refl _, Nat.le_refl _⟩ (fun r_1 u_1 H locs hw_1 hP hD hS => ?_)
    have hw_1 : r_1 = fr_bef to (fr_bk to p2 p1 i) 8 := hw_1
    subst hw_1
    have hP : va_P G vwCl (w0 h a d to mk dn dm md kd lf rt vl ht sk wy) H := hP
    have hD : va_D A (w0 h a d to mk dn dm md kd lf rt vl ht sk wy) := hD
    refine lv_istore (lv' := [(5, .int (fr_bef to (fr_bk to p2 p1 i) 8)), (4, .int (nI (i))), (3, .int (fr_bk to p2 p1 i)), (0, .ref (h)), (1, .int (p1)), (2, .int (p2))]) hx hb dX0_backFrom_17 hl (by decide) rfl (fun ls hl => ?_)
    refine lv_iload_n hx hb dX0_backFrom_19 rfl (lv_at hl 2 rfl) ?_
    refine lv_iload hx hb dX0_backFrom_20 (lv_at hl 0 rfl) ?_
    refine lv_iload_n hx hb dX0_backFrom_22 rfl (lv_at hl 5 rfl) ?_
    refine lv_iand hx hb dX0_backFrom_23 ?_
    refine lv_ior hx hb dX0_backFrom_24 ?_
    refine lv_istore_n (lv' := [(3, .int ((fr_bk to p2 p1 i) ||| ((fr_bef to (fr_bk to p2 p1 i) 8) &&& (p2)))), (5, .int (fr_bef to (fr_bk to p2 p1 i) 8)), (4, .int (nI (i))), (0, .ref (h)), (1, .int (p1)), (2, .int (p2))]) hx hb dX0_backFrom_25 rfl hl (by decide) rfl (fun ls hl => ?_)
    refine lv_iinc (v := nI (i + 1)) (lv' := [(4, .int (nI (i + 1))), (3, .int ((fr_bk to p2 p1 i) ||| ((fr_bef to (fr_bk to p2 p1 i) 8) &&& (p2)))), (5, .int (fr_bef to (fr_bk to p2 p1 i) 8)), (0, .ref (h)), (1, .int (p1)), (2, .int (p2))]) hx hb dX0_backFrom_26 hl (k := 2) rfl (nI_1 _) (by decide) rfl (fun ls hl => ?_)
    refine lv_goto (tgt := 5) hx hb dX0_backFrom_29 (by decide) ?_
    have e_1 : fr_bk to p2 p1 (i + 1) = (fr_bk to p2 p1 i) ||| ((fr_bef to (fr_bk to p2 p1 i) 8) &&& (p2)) := rfl
    exact ih_i _ _ _ ⟨hP, hD, hS, (by rw [e_1]; exact lv_sub hl [0, 1, 3, 4, 5] rfl)⟩
set_option maxHeartbeats 4000000 in
theorem met0_findWays (l : Launch) (G : va_G) (h : Nat) (a : Nat → Nat) (d : ClassId) (sz : Nat) (to : Nat → Int32) (mk : Nat → Int32) (dn : Nat) (dm : Nat → Int32) (md : Nat) (kd : Nat → Int32) (lf : Nat → Int32) (rt : Nat → Int32) (vl : Nat → Int32) (ht : Nat) (sk : Nat → Int32) (wy : Nat → Int32) (p1 : Int32) : fr_V l yX0_findWays cX0_findWays 4 ({ frames := 0, cells := 0, slots := 0, locals := 0 } : Room) [.ref (h), .int (p1)] G d sz (w0 h a d to mk dn dm md kd lf rt vl ht sk wy) (fun (u : Unit) => True) (fun (u : Unit) => (w0 h a d to mk dn dm md kd lf rt vl ht sk (fr_ways to p1 wy))) := by
  refine fr_startV RX0 rfl (by decide +kernel) (Nat.le_of_ble_eq_true rfl) ?_
  intro p e s m below meth c A ls hx hb hr hlocks hml hown hts hA hK hP hD hS hl
  have hl : lv_has ls 4 [(0, .ref (h)), (1, .int (p1))] := hl
  refine lv_iconst (v := (0 : Int32)) hx hb dX0_findWays_0 (by decide) ?_
  refine lv_istore_n (lv' := [(2, .int ((0 : Int32))), (0, .ref (h)), (1, .int (p1))]) hx hb dX0_findWays_1 rfl hl (by decide) rfl (fun ls hl => ?_)
  refine fr_for (I := fun (i : Nat) (H : Heap) (locs : List Loc) (ls : Array Slot) => va_P G vwCl (w0 h a d to mk dn dm md kd lf rt vl ht sk (fr_fA to p1 wy i)) H ∧ va_D A (w0 h a d to mk dn dm md kd lf rt vl ht sk (fr_fA to p1 wy i)) ∧ va_S A s.heap H locs ∧ lv_has ls 4 [(2, .int (nI (i))), (0, .ref (h)), (1, .int (p1))]) 8 ?_ ?_ 0 (Nat.zero_le _) ⟨hP, hD, hS, lv_sub hl [0, 1, 2] rfl⟩
  · intro H locs ls hI
    obtain ⟨hP, hD, hS, hl⟩ := hI
    refine lv_iload_n hx hb dX0_findWays_2 rfl (lv_at hl 0 rfl) ?_
    refine lv_bipush (v := (8 : Int32)) hx hb dX0_findWays_3 (by decide) ?_
    refine lv_icmp_ge (tgt := 41) hx hb dX0_findWays_5 (by decide) (fun _ => ?_) (fun q_ => absurd (nI_le (Nat.le_refl 8) (by decide)) q_)
    refine lv_iconst (v := (0 : Int32)) hx hb dX0_findWays_41 (by decide) ?_
    refine lv_istore_n (lv' := [(2, .int ((0 : Int32))), (0, .ref (h)), (1, .int (p1))]) hx hb dX0_findWays_42 rfl hl (by decide) rfl (fun ls hl => ?_)
    refine fr_for (I := fun (k : Nat) (H : Heap) (locs : List Loc) (ls : Array Slot) => va_P G vwCl (w0 h a d to mk dn dm md kd lf rt vl ht sk (fr_fC (fr_fA to p1 wy 8) k)) H ∧ va_D A (w0 h a d to mk dn dm md kd lf rt vl ht sk (fr_fC (fr_fA to p1 wy 8) k)) ∧ va_S A s.heap H locs ∧ lv_has ls 4 [(2, .int (nI (k))), (0, .ref (h)), (1, .int (p1))]) 8 ?_ ?_ 0 (Nat.zero_le _) ⟨hP, hD, hS, lv_sub hl [0, 1, 2] rfl⟩
    · intro H locs ls hI
      obtain ⟨hP, hD, hS, hl⟩ := hI
      refine lv_iload_n hx hb dX0_findWays_43 rfl (lv_at hl 0 rfl) ?_
      refine lv_bipush (v := (8 : Int32)) hx hb dX0_findWays_44 (by decide) ?_
      refine lv_icmp_ge (tgt := 102) hx hb dX0_findWays_46 (by decide) (fun _ => ?_) (fun q_ => absurd (nI_le (Nat.le_refl 8) (by decide)) q_)
      exact fr_retv () hx hb hr hlocks hK hP hD hS trivial dX0_findWays_102
    · intro k hk ih_k H locs ls hI
      obtain ⟨hP, hD, hS, hl⟩ := hI
      refine lv_iload_n hx hb dX0_findWays_43 rfl (lv_at hl 0 rfl) ?_
      refine lv_bipush (v := (8 : Int32)) hx hb dX0_findWays_44 (by decide) ?_
      refine lv_icmp_ge (tgt := 102) hx hb dX0_findWays_46 (by decide) (fun q_ => absurd q_ (nI_ge hk (by decide))) (fun _ => ?_)
      refine lv_iconst (v := (0 : Int32)) hx hb dX0_findWays_49 (by decide) ?_
      refine lv_istore_n (lv' := [(3, .int ((0 : Int32))), (2, .int (nI (k))), (0, .ref (h)), (1, .int (p1))]) hx hb dX0_findWays_50 rfl hl (by decide) rfl (fun ls hl => ?_)
      refine fr_for (I := fun (j : Nat) (H : Heap) (locs : List Loc) (ls : Array Slot) => va_P G vwCl (w0 h a d to mk dn dm md kd lf rt vl ht sk (fr_fB k (fr_fC (fr_fA to p1 wy 8) k) j)) H ∧ va_D A (w0 h a d to mk dn dm md kd lf rt vl ht sk (fr_fB k (fr_fC (fr_fA to p1 wy 8) k) j)) ∧ va_S A s.heap H locs ∧ lv_has ls 4 [(3, .int (nI (j))), (2, .int (nI (k))), (0, .ref (h)), (1, .int (p1))]) 8 ?_ ?_ 0 (Nat.zero_le _) ⟨hP, hD, hS, lv_sub hl [0, 1, 2, 3] rfl⟩
      · intro H locs ls hI
        obtain ⟨hP, hD, hS, hl⟩ := hI
        refine lv_iload_n hx hb dX0_findWays_51 rfl (lv_at hl 0 rfl) ?_
        refine lv_bipush (v := (8 : Int32)) hx hb dX0_findWays_52 (by decide) ?_
        refine lv_icmp_ge (tgt := 96) hx hb dX0_findWays_54 (by decide) (fun _ => ?_) (fun q_ => absurd (nI_le (Nat.le_refl 8) (by decide)) q_)
        refine lv_iinc (v := nI (k + 1)) (lv' := [(2, .int (nI (k + 1))), (3, .int (nI (8))), (0, .ref (h)), (1, .int (p1))]) hx hb dX0_findWays_96 hl (k := 1) rfl (nI_1 _) (by decide) rfl (fun ls hl => ?_)
        refine lv_goto (tgt := 43) hx hb dX0_findWays_99 (by decide) ?_
        have e_1 : fr_fC (fr_fA to p1 wy 8) (k + 1) = fr_fB k (fr_fC (fr_fA to p1 wy 8) k) 8 := rfl
        exact ih_k _ _ _ ⟨(by rw [e_1]; exact hP), (by rw [e_1]; exact hD), hS, lv_sub hl [0, 2, 3] rfl⟩
      · intro j hj ih_j H locs ls hI
        obtain ⟨hP, hD, hS, hl⟩ := hI
        refine lv_iload_n hx hb dX0_findWays_51 rfl (lv_at hl 0 rfl) ?_
        refine lv_bipush (v := (8 : Int32)) hx hb dX0_findWays_52 (by decide) ?_
        refine lv_icmp_ge (tgt := 96) hx hb dX0_findWays_54 (by decide) (fun q_ => absurd q_ (nI_ge hj (by decide))) (fun _ => ?_)
        refine lv_aload_n hx hb dX0_findWays_57 rfl (lv_at hl 2 rfl) ?_
        refine va_get (D := G) (ci := 0) (v := .ref (a 11)) (C := RX0) (T := TX0) (N := 12) hx hb hts in_X0 hown hK hP 0 rfl rfl 11 (by decide) (hts _ q48) (fun _ h9 => h9) rfl dX0_findWays_58 ?_
        refine lv_iload_n hx hb dX0_findWays_61 rfl (lv_at hl 0 rfl) ?_
        refine fr_iald hx hb hK hP 9 0 rfl rfl (by omega) (by decide) dX0_findWays_62 ?_
        refine lv_iload_n hx hb dX0_findWays_63 rfl (lv_at hl 1 rfl) ?_
        refine lv_ishr hx hb dX0_findWays_64 ?_
        refine lv_iconst (v := (1 : Int32)) hx hb dX0_findWays_65 (by decide) ?_
        refine lv_iand hx hb dX0_findWays_66 ?_
        refine lv_iconst (v := (1 : Int32)) hx hb dX0_findWays_67 (by decide) ?_
        refine lv_icmp_ne (tgt := 90) hx hb dX0_findWays_68 (by decide) (fun c_1 => ?_) (fun c_1 => ?_)
        · refine lv_iinc (v := nI (j + 1)) (lv' := [(3, .int (nI (j + 1))), (2, .int (nI (k))), (0, .ref (h)), (1, .int (p1))]) hx hb dX0_findWays_90 hl (k := 0) rfl (nI_1 _) (by decide) rfl (fun ls hl => ?_)
          refine lv_goto (tgt := 51) hx hb dX0_findWays_93 (by decide) ?_
          have e_1 : fr_fB k (fr_fC (fr_fA to p1 wy 8) k) (j + 1) = fr_fB k (fr_fC (fr_fA to p1 wy 8) k) j := (by rw [fr_fB, if_neg c_1])
          exact ih_j _ _ _ ⟨(by rw [e_1]; exact hP), (by rw [e_1]; exact hD), hS, lv_sub hl [0, 1, 2, 3] rfl⟩
        · refine lv_aload_n hx hb dX0_findWays_71 rfl (lv_at hl 2 rfl) ?_
          refine va_get (D := G) (ci := 0) (v := .ref (a 11)) (C := RX0) (T := TX0) (N := 12) hx hb hts in_X0 hown hK hP 0 rfl rfl 11 (by decide) (hts _ q48) (fun _ h9 => h9) rfl dX0_findWays_72 ?_
          refine lv_iload_n hx hb dX0_findWays_75 rfl (lv_at hl 0 rfl) ?_
          refine lv_aload_n hx hb dX0_findWays_76 rfl (lv_at hl 2 rfl) ?_
          refine va_get (D := G) (ci := 0) (v := .ref (a 11)) (C := RX0) (T := TX0) (N := 12) hx hb hts in_X0 hown hK hP 0 rfl rfl 11 (by decide) (hts _ q48) (fun _ h9 => h9) rfl dX0_findWays_77 ?_
          refine lv_iload_n hx hb dX0_findWays_80 rfl (lv_at hl 0 rfl) ?_
          refine fr_iald hx hb hK hP 9 0 rfl rfl (by omega) (by decide) dX0_findWays_81 ?_
          refine lv_aload_n hx hb dX0_findWays_82 rfl (lv_at hl 2 rfl) ?_
          refine va_get (D := G) (ci := 0) (v := .ref (a 11)) (C := RX0) (T := TX0) (N := 12) hx hb hts in_X0 hown hK hP 0 rfl rfl 11 (by decide) (hts _ q48) (fun _ h9 => h9) rfl dX0_findWays_83 ?_
          refine lv_iload_n hx hb dX0_findWays_86 rfl (lv_at hl 1 rfl) ?_
          refine fr_iald hx hb hK hP 9 0 rfl rfl (by omega) (by decide) dX0_findWays_87 ?_
          refine lv_ior hx hb dX0_findWays_88 ?_
          refine fr_iast hx hb hK hP hD hS 9 0 rfl rfl (by omega) (by decide) dX0_findWays_89 (fun H locs hP hD hS => ?_)
          have hP : va_P G vwCl (w0 h a d to mk dn dm md kd lf rt vl ht sk (upd (fr_fB k (fr_fC (fr_fA to p1 wy 8) k) j) j (((fr_fB k (fr_fC (fr_fA to p1 wy 8) k) j) j) ||| ((fr_fB k (fr_fC (fr_fA to p1 wy 8) k) j) k)))) H := hP
          have hD : va_D A (w0 h a d to mk dn dm md kd lf rt vl ht sk (upd (fr_fB k (fr_fC (fr_fA to p1 wy 8) k) j) j (((fr_fB k (fr_fC (fr_fA to p1 wy 8) k) j) j) ||| ((fr_fB k (fr_fC (fr_fA to p1 wy 8) k) j) k)))) := hD
          refine lv_iinc (v := nI (j + 1)) (lv' := [(3, .int (nI (j + 1))), (2, .int (nI (k))), (0, .ref (h)), (1, .int (p1))]) hx hb dX0_findWays_90 hl (k := 0) rfl (nI_1 _) (by decide) rfl (fun ls hl => ?_)
          refine lv_goto (tgt := 51) hx hb dX0_findWays_93 (by decide) ?_
          have e_1 : fr_fB k (fr_fC (fr_fA to p1 wy 8) k) (j + 1) = upd (fr_fB k (fr_fC (fr_fA to p1 wy 8) k) j) j (((fr_fB k (fr_fC (fr_fA to p1 wy 8) k) j) j) ||| ((fr_fB k (fr_fC (fr_fA to p1 wy 8) k) j) k)) := (by rw [fr_fB, if_pos c_1])
          exact ih_j _ _ _ ⟨(by rw [e_1]; exact hP), (by rw [e_1]; exact hD), hS, lv_sub hl [0, 1, 2, 3] rfl⟩
  · intro i hi ih_i H locs ls hI
    obtain ⟨hP, hD, hS, hl⟩ := hI
    refine lv_iload_n hx hb dX0_findWays_2 rfl (lv_at hl 0 rfl) ?_
    refine lv_bipush (v := (8 : Int32)) hx hb dX0_findWays_3 (by decide) ?_
    refine lv_icmp_ge (tgt := 41) hx hb dX0_findWays_5 (by decide) (fun q_ => absurd q_ (nI_ge hi (by decide))) (fun _ => ?_)
    refine lv_aload_n hx hb dX0_findWays_8 rfl (lv_at hl 1 rfl) ?_
    refine va_get (D := G) (ci := 0) (v := .ref (a 11)) (C := RX0) (T := TX0) (N := 12) hx hb hts in_X0 hown hK hP 0 rfl rfl 11 (by decide) (hts _ q48) (fun _ h9 => h9) rfl dX0_findWays_9 ?_
    refine lv_iload_n hx hb dX0_findWays_12 rfl (lv_at hl 0 rfl) ?_
    refine lv_iload_n hx hb dX0_findWays_13 rfl (lv_at hl 2 rfl) ?_
    refine lv_iload_n hx hb dX0_findWays_14 rfl (lv_at hl 0 rfl) ?_
    refine lv_ishr hx hb dX0_findWays_15 ?_
    refine lv_iconst (v := (1 : Int32)) hx hb dX0_findWays_16 (by decide) ?_
    refine lv_iand hx hb dX0_findWays_17 ?_
    refine lv_iconst (v := (1 : Int32)) hx hb dX0_findWays_18 (by decide) ?_
    refine lv_icmp_ne (tgt := 33) hx hb dX0_findWays_19 (by decide) (fun c_2 => ?_) (fun c_2 => ?_)
    · refine lv_iconst (v := (0 : Int32)) hx hb dX0_findWays_33 (by decide) ?_
      refine fr_iast hx hb hK hP hD hS 9 0 rfl rfl (by omega) (by decide) dX0_findWays_34 (fun H locs hP hD hS => ?_)
      have hP : va_P G vwCl (w0 h a d to mk dn dm md kd lf rt vl ht sk (upd (fr_fA to p1 wy i) i ((0 : Int32)))) H := hP
      have hD : va_D A (w0 h a d to mk dn dm md kd lf rt vl ht sk (upd (fr_fA to p1 wy i) i ((0 : Int32)))) := hD
      refine lv_iinc (v := nI (i + 1)) (lv' := [(2, .int (nI (i + 1))), (0, .ref (h)), (1, .int (p1))]) hx hb dX0_findWays_35 hl (k := 0) rfl (nI_1 _) (by decide) rfl (fun ls hl => ?_)
      refine lv_goto (tgt := 2) hx hb dX0_findWays_38 (by decide) ?_
      have e_1 : fr_fA to p1 wy (i + 1) = upd (fr_fA to p1 wy i) i ((0 : Int32)) := (by rw [fr_fA, if_neg c_2])
      exact ih_i _ _ _ ⟨(by rw [e_1]; exact hP), (by rw [e_1]; exact hD), hS, lv_sub hl [0, 1, 2] rfl⟩
    · refine lv_aload_n hx hb dX0_findWays_22 rfl (lv_at hl 1 rfl) ?_
      refine va_get (D := G) (ci := 0) (v := .ref (a 0)) (C := RX0) (T := TX0) (N := 12) hx hb hts in_X0 hown hK hP 0 rfl rfl 0 (by decide) (hts _ q37) (fun _ h9 => h9) rfl dX0_findWays_23 ?_
      refine lv_iload_n hx hb dX0_findWays_26 rfl (lv_at hl 0 rfl) ?_
      refine fr_iald hx hb hK hP 1 0 rfl rfl (by omega) (by decide) dX0_findWays_27 ?_
      refine lv_iload_n hx hb dX0_findWays_28 rfl (lv_at hl 2 rfl) ?_
      refine lv_iand hx hb dX0_findWays_29 ?_
      refine lv_goto (tgt := 34) hx hb dX0_findWays_30 (by decide) ?_
      refine fr_iast hx hb hK hP hD hS 9 0 rfl rfl (by omega) (by decide) dX0_findWays_34 (fun H locs hP hD hS => ?_)
      have hP : va_P G vwCl (w0 h a d to mk dn dm md kd lf rt vl ht sk (upd (fr_fA to p1 wy i) i ((to i) &&& (p1)))) H := hP
      have hD : va_D A (w0 h a d to mk dn dm md kd lf rt vl ht sk (upd (fr_fA to p1 wy i) i ((to i) &&& (p1)))) := hD
      refine lv_iinc (v := nI (i + 1)) (lv' := [(2, .int (nI (i + 1))), (0, .ref (h)), (1, .int (p1))]) hx hb dX0_findWays_35 hl (k := 0) rfl (nI_1 _) (by decide) rfl (fun ls hl => ?_)
      refine lv_goto (tgt := 2) hx hb dX0_findWays_38 (by decide) ?_
      have e_1 : fr_fA to p1 wy (i + 1) = upd (fr_fA to p1 wy i) i ((to i) &&& (p1)) := (by rw [fr_fA, if_pos c_2])
      exact ih_i _ _ _ ⟨(by rw [e_1]; exact hP), (by rw [e_1]; exact hD), hS, lv_sub hl [0, 1, 2] rfl⟩
set_option maxHeartbeats 4000000 in
theorem met0_knotOf (l : Launch) (G : va_G) (h : Nat) (a : Nat → Nat) (d : ClassId) (sz : Nat) (to : Nat → Int32) (mk : Nat → Int32) (dn : Nat) (dm : Nat → Int32) (md : Nat) (kd : Nat → Int32) (lf : Nat → Int32) (rt : Nat → Int32) (vl : Nat → Int32) (ht : Nat) (sk : Nat → Int32) (wy : Nat → Int32) (k : Nat) (hk : k < 8) : fr_I l yX0_knotOf cX0_knotOf 4 (some .int) ({ frames := 0, cells := 0, slots := 0, locals := 0 } : Room) [.ref (h), .int (nI (k))] G d sz (w0 h a d to mk dn dm md kd lf rt vl ht sk wy) (fun (r : Int32) (u : Unit) => r = fr_kn wy k 8) (fun (u : Unit) => (w0 h a d to mk dn dm md kd lf rt vl ht sk wy)) := by
  refine fr_startI RX0 rfl (by decide +kernel) (Nat.le_of_ble_eq_true rfl) ?_
  intro p e s m below meth c A ls hx hb hr hlocks hml hown hts hA hK hP hD hS hl
  have hl : lv_has ls 4 [(0, .ref (h)), (1, .int (nI (k)))] := hl
  refine lv_iconst (v := (0 : Int32)) hx hb dX0_knotOf_0 (by decide) ?_
  refine lv_istore_n (lv' := [(2, .int ((0 : Int32))), (0, .ref (h)), (1, .int (nI (k)))]) hx hb dX0_knotOf_1 rfl hl (by decide) rfl (fun ls hl => ?_)
  refine lv_iconst (v := (0 : Int32)) hx hb dX0_knotOf_2 (by decide) ?_
  refine lv_istore_n (lv' := [(3, .int ((0 : Int32))), (2, .int ((0 : Int32))), (0, .ref (h)), (1, .int (nI (k)))]) hx hb dX0_knotOf_3 rfl hl (by decide) rfl (fun ls hl => ?_)
  refine fr_for (I := fun (i : Nat) (H : Heap) (locs : List Loc) (ls : Array Slot) => va_P G vwCl (w0 h a d to mk dn dm md kd lf rt vl ht sk wy) H ∧ va_D A (w0 h a d to mk dn dm md kd lf rt vl ht sk wy) ∧ va_S A s.heap H locs ∧ lv_has ls 4 [(3, .int (nI (i))), (2, .int (fr_kn wy k i)), (0, .ref (h)), (1, .int (nI (k)))]) 8 ?_ ?_ 0 (Nat.zero_le _) ⟨hP, hD, hS, lv_sub hl [0, 1, 2, 3] rfl⟩
  · intro H locs ls hI
    obtain ⟨hP, hD, hS, hl⟩ := hI
    refine lv_iload_n hx hb dX0_knotOf_4 rfl (lv_at hl 0 rfl) ?_
    refine lv_bipush (v := (8 : Int32)) hx hb dX0_knotOf_5 (by decide) ?_
    refine lv_icmp_ge (tgt := 50) hx hb dX0_knotOf_7 (by decide) (fun _ => ?_) (fun q_ => absurd (nI_le (Nat.le_refl 8) (by decide)) q_)
    refine lv_iload_n hx hb dX0_knotOf_50 rfl (lv_at hl 1 rfl) ?_
    exact fr_reti () hx hb hr hlocks hK hP hD hS rfl dX0_knotOf_51
  · intro i hi ih_i H locs ls hI
    obtain ⟨hP, hD, hS, hl⟩ := hI
    refine lv_iload_n hx hb dX0_knotOf_4 rfl (lv_at hl 0 rfl) ?_
    refine lv_bipush (v := (8 : Int32)) hx hb dX0_knotOf_5 (by decide) ?_
    refine lv_icmp_ge (tgt := 50) hx hb dX0_knotOf_7 (by decide) (fun q_ => absurd q_ (nI_ge hi (by decide))) (fun _ => ?_)
    refine lv_aload_n hx hb dX0_knotOf_10 rfl (lv_at hl 2 rfl) ?_
    refine va_get (D := G) (ci := 0) (v := .ref (a 11)) (C := RX0) (T := TX0) (N := 12) hx hb hts in_X0 hown hK hP 0 rfl rfl 11 (by decide) (hts _ q48) (fun _ h9 => h9) rfl dX0_knotOf_11 ?_
    refine lv_iload_n hx hb dX0_knotOf_14 rfl (lv_at hl 3 rfl) ?_
    refine fr_iald hx hb hK hP 9 0 rfl rfl (by omega) (by decide) dX0_knotOf_15 ?_
    refine lv_iload_n hx hb dX0_knotOf_16 rfl (lv_at hl 0 rfl) ?_
    refine lv_ishr hx hb dX0_knotOf_17 ?_
    refine lv_iconst (v := (1 : Int32)) hx hb dX0_knotOf_18 (by decide) ?_
    refine lv_iand hx hb dX0_knotOf_19 ?_
    refine lv_iconst (v := (1 : Int32)) hx hb dX0_knotOf_20 (by decide) ?_
    refine lv_icmp_ne (tgt := 44) hx hb dX0_knotOf_21 (by decide) (fun c_1 => ?_) (fun c_1 => ?_)
    · refine lv_iinc (v := nI (i + 1)) (lv' := [(3, .int (nI (i + 1))), (2, .int (fr_kn wy k i)), (0, .ref (h)), (1, .int (nI (k)))]) hx hb dX0_knotOf_44 hl (k := 0) rfl (nI_1 _) (by decide) rfl (fun ls hl => ?_)
      refine lv_goto (tgt := 4) hx hb dX0_knotOf_47 (by decide) ?_
      have e_1 : fr_kn wy k (i + 1) = fr_kn wy k i := (by rw [fr_kn, if_neg c_1])
      exact ih_i _ _ _ ⟨hP, hD, hS, (by rw [e_1]; exact lv_sub hl [0, 1, 2, 3] rfl)⟩
    · refine lv_aload_n hx hb dX0_knotOf_24 rfl (lv_at hl 2 rfl) ?_
      refine va_get (D := G) (ci := 0) (v := .ref (a 11)) (C := RX0) (T := TX0) (N := 12) hx hb hts in_X0 hown hK hP 0 rfl rfl 11 (by decide) (hts _ q48) (fun _ h9 => h9) rfl dX0_knotOf_25 ?_
      refine lv_iload_n hx hb dX0_knotOf_28 rfl (lv_at hl 0 rfl) ?_
      refine fr_iald hx hb hK hP 9 0 rfl rfl (by omega) (by decide) dX0_knotOf_29 ?_
      refine lv_iload_n hx hb dX0_knotOf_30 rfl (lv_at hl 3 rfl) ?_
      refine lv_ishr hx hb dX0_knotOf_31 ?_
      refine lv_iconst (v := (1 : Int32)) hx hb dX0_knotOf_32 (by decide) ?_
      refine lv_iand hx hb dX0_knotOf_33 ?_
      refine lv_iconst (v := (1 : Int32)) hx hb dX0_knotOf_34 (by decide) ?_
      refine lv_icmp_ne (tgt := 44) hx hb dX0_knotOf_35 (by decide) (fun c_2 => ?_) (fun c_2 => ?_)
      · refine lv_iinc (v := nI (i + 1)) (lv' := [(3, .int (nI (i + 1))), (2, .int (fr_kn wy k i)), (0, .ref (h)), (1, .int (nI (k)))]) hx hb dX0_knotOf_44 hl (k := 0) rfl (nI_1 _) (by decide) rfl (fun ls hl => ?_)
        refine lv_goto (tgt := 4) hx hb dX0_knotOf_47 (by decide) ?_
        have e_1 : fr_kn wy k (i + 1) = fr_kn wy k i := (by rw [fr_kn, if_pos c_1, if_neg c_2])
        exact ih_i _ _ _ ⟨hP, hD, hS, (by rw [e_1]; exact lv_sub hl [0, 1, 2, 3] rfl)⟩
      · refine lv_iload_n hx hb dX0_knotOf_38 rfl (lv_at hl 1 rfl) ?_
        refine lv_iconst (v := (1 : Int32)) hx hb dX0_knotOf_39 (by decide) ?_
        refine lv_iload_n hx hb dX0_knotOf_40 rfl (lv_at hl 0 rfl) ?_
        refine lv_ishl hx hb dX0_knotOf_41 ?_
        refine lv_ior hx hb dX0_knotOf_42 ?_
        refine lv_istore_n (lv' := [(2, .int ((fr_kn wy k i) ||| (((1 : Int32)) <<< ((nI (i)) &&& 31)))), (3, .int (nI (i))), (0, .ref (h)), (1, .int (nI (k)))]) hx hb dX0_knotOf_43 rfl hl (by decide) rfl (fun ls hl => ?_)
        refine lv_iinc (v := nI (i + 1)) (lv' := [(3, .int (nI (i + 1))), (2, .int ((fr_kn wy k i) ||| (((1 : Int32)) <<< ((nI (i)) &&& 31)))), (0, .ref (h)), (1, .int (nI (k)))]) hx hb dX0_knotOf_44 hl (k := 1) rfl (nI_1 _) (by decide) rfl (fun ls hl => ?_)
        refine lv_goto (tgt := 4) hx hb dX0_knotOf_47 (by decide) ?_
        have e_1 : fr_kn wy k (i + 1) = (fr_kn wy k i) ||| (((1 : Int32)) <<< ((nI (i)) &&& 31)) := (by rw [fr_kn, if_pos c_1, if_pos c_2])
        exact ih_i _ _ _ ⟨hP, hD, hS, (by rw [e_1]; exact lv_sub hl [0, 1, 2, 3] rfl)⟩
set_option maxHeartbeats 4000000 in
theorem met0_meetsDemands (l : Launch) (G : va_G) (h : Nat) (a : Nat → Nat) (d : ClassId) (sz : Nat) (to : Nat → Int32) (mk : Nat → Int32) (dn : Nat) (dm : Nat → Int32) (md : Nat) (kd : Nat → Int32) (lf : Nat → Int32) (rt : Nat → Int32) (vl : Nat → Int32) (ht : Nat) (sk : Nat → Int32) (wy : Nat → Int32) (p1 : Int32) (hdn : dn ≤ 3) : fr_I l yX0_meetsDemands cX0_meetsDemands 4 (some .boolean) ({ frames := 0, cells := 0, slots := 0, locals := 0 } : Room) [.ref (h), .int (p1)] G d sz (w0 h a d to mk dn dm md kd lf rt vl ht sk wy) (fun (r : Int32) (u : Unit) => r = fr_md dm p1 dn) (fun (u : Unit) => (w0 h a d to mk dn dm md kd lf rt vl ht sk wy)) := by
  refine fr_startI RX0 rfl (by decide +kernel) (Nat.le_of_ble_eq_true rfl) ?_
  intro p e s m below meth c A ls hx hb hr hlocks hml hown hts hA hK hP hD hS hl
  have hl : lv_has ls 4 [(0, .ref (h)), (1, .int (p1))] := hl
  refine lv_iload_n hx hb dX0_meetsDemands_0 rfl (lv_at hl 1 rfl) ?_
  refine lv_if_eq (tgt := 8) hx hb dX0_meetsDemands_1 (by decide) (fun c_1 => ?_) (fun c_1 => ?_)
  · refine lv_iconst (v := (0 : Int32)) hx hb dX0_meetsDemands_8 (by decide) ?_
    refine lv_istore_n (lv' := [(2, .int ((0 : Int32))), (0, .ref (h)), (1, .int (p1))]) hx hb dX0_meetsDemands_9 rfl hl (by decide) rfl (fun ls hl => ?_)
    refine lv_iconst (v := (0 : Int32)) hx hb dX0_meetsDemands_10 (by decide) ?_
    refine lv_istore_n (lv' := [(3, .int ((0 : Int32))), (2, .int ((0 : Int32))), (0, .ref (h)), (1, .int (p1))]) hx hb dX0_meetsDemands_11 rfl hl (by decide) rfl (fun ls hl => ?_)
    have ei_1 : fr_md dm p1 0 = (0 : Int32) := (if_pos c_1)
    refine fr_for (I := fun (i : Nat) (H : Heap) (locs : List Loc) (ls : Array Slot) => va_P G vwCl (w0 h a d to mk dn dm md kd lf rt vl ht sk wy) H ∧ va_D A (w0 h a d to mk dn dm md kd lf rt vl ht sk wy) ∧ va_S A s.heap H locs ∧ lv_has ls 4 [(3, .int (nI (i))), (2, .int (fr_md dm p1 i)), (0, .ref (h)), (1, .int (p1))]) dn ?_ ?_ 0 (Nat.zero_le _) ⟨hP, hD, hS, (by rw [ei_1]; exact lv_sub hl [0, 1, 2, 3] rfl)⟩
    · intro H locs ls hI
      obtain ⟨hP, hD, hS, hl⟩ := hI
      refine lv_iload_n hx hb dX0_meetsDemands_12 rfl (lv_at hl 0 rfl) ?_
      refine lv_aload_n hx hb dX0_meetsDemands_13 rfl (lv_at hl 2 rfl) ?_
      refine va_get (D := G) (ci := 0) (v := .int (nI (dn))) (C := RX0) (T := TX0) (N := 12) hx hb hts in_X0 hown hK hP 0 rfl rfl 2 (by decide) (hts _ q39) (fun _ h9 => h9) rfl dX0_meetsDemands_14 ?_
      refine lv_icmp_ge (tgt := 47) hx hb dX0_meetsDemands_17 (by decide) (fun _ => ?_) (fun q_ => absurd (nI_le (Nat.le_refl dn) (by omega)) q_)
      refine lv_iload_n hx hb dX0_meetsDemands_47 rfl (lv_at hl 1 rfl) ?_
      exact fr_retz () hx hb hr hlocks hK hP hD hS (fr_md_01 _ _ _) rfl dX0_meetsDemands_48
    · intro i hi ih_i H locs ls hI
      obtain ⟨hP, hD, hS, hl⟩ := hI
      refine lv_iload_n hx hb dX0_meetsDemands_12 rfl (lv_at hl 0 rfl) ?_
      refine lv_aload_n hx hb dX0_meetsDemands_13 rfl (lv_at hl 2 rfl) ?_
      refine va_get (D := G) (ci := 0) (v := .int (nI (dn))) (C := RX0) (T := TX0) (N := 12) hx hb hts in_X0 hown hK hP 0 rfl rfl 2 (by decide) (hts _ q39) (fun _ h9 => h9) rfl dX0_meetsDemands_14 ?_
      refine lv_icmp_ge (tgt := 47) hx hb dX0_meetsDemands_17 (by decide) (fun q_ => absurd q_ (nI_ge hi (by omega))) (fun _ => ?_)
      refine lv_iload_n hx hb dX0_meetsDemands_20 rfl (lv_at hl 1 rfl) ?_
      refine lv_if_eq (tgt := 39) hx hb dX0_meetsDemands_21 (by decide) (fun c_2 => ?_) (fun c_2 => ?_)
      · refine lv_iconst (v := (0 : Int32)) hx hb dX0_meetsDemands_39 (by decide) ?_
        refine lv_istore_n (lv' := [(2, .int ((0 : Int32))), (3, .int (nI (i))), (0, .ref (h)), (1, .int (p1))]) hx hb dX0_meetsDemands_40 rfl hl (by decide) rfl (fun ls hl => ?_)
        refine lv_iinc (v := nI (i + 1)) (lv' := [(3, .int (nI (i + 1))), (2, .int ((0 : Int32))), (0, .ref (h)), (1, .int (p1))]) hx hb dX0_meetsDemands_41 hl (k := 1) rfl (nI_1 _) (by decide) rfl (fun ls hl => ?_)
        refine lv_goto (tgt := 12) hx hb dX0_meetsDemands_44 (by decide) ?_
        have e_1 : fr_md dm p1 (i + 1) = (0 : Int32) := (by rw [fr_md, if_pos c_2])
        exact ih_i _ _ _ ⟨hP, hD, hS, (by rw [e_1]; exact lv_sub hl [0, 1, 2, 3] rfl)⟩
      · refine lv_iload_n hx hb dX0_meetsDemands_24 rfl (lv_at hl 3 rfl) ?_
        refine lv_aload_n hx hb dX0_meetsDemands_25 rfl (lv_at hl 2 rfl) ?_
        refine va_get (D := G) (ci := 0) (v := .ref (a 3)) (C := RX0) (T := TX0) (N := 12) hx hb hts in_X0 hown hK hP 0 rfl rfl 3 (by decide) (hts _ q40) (fun _ h9 => h9) rfl dX0_meetsDemands_26 ?_
        refine lv_iload_n hx hb dX0_meetsDemands_29 rfl (lv_at hl 0 rfl) ?_
        refine fr_iald hx hb hK hP 3 0 rfl rfl (by omega) (by decide) dX0_meetsDemands_30 ?_
        refine lv_iand hx hb dX0_meetsDemands_31 ?_
        refine lv_if_eq (tgt := 39) hx hb dX0_meetsDemands_32 (by decide) (fun c_3 => ?_) (fun c_3 => ?_)
        · refine lv_iconst (v := (0 : Int32)) hx hb dX0_meetsDemands_39 (by decide) ?_
          refine lv_istore_n (lv' := [(2, .int ((0 : Int32))), (3, .int (nI (i))), (0, .ref (h)), (1, .int (p1))]) hx hb dX0_meetsDemands_40 rfl hl (by decide) rfl (fun ls hl => ?_)
          refine lv_iinc (v := nI (i + 1)) (lv' := [(3, .int (nI (i + 1))), (2, .int ((0 : Int32))), (0, .ref (h)), (1, .int (p1))]) hx hb dX0_meetsDemands_41 hl (k := 1) rfl (nI_1 _) (by decide) rfl (fun ls hl => ?_)
          refine lv_goto (tgt := 12) hx hb dX0_meetsDemands_44 (by decide) ?_
          have e_1 : fr_md dm p1 (i + 1) = (0 : Int32) := (by rw [fr_md, if_neg c_2, if_pos c_3])
          exact ih_i _ _ _ ⟨hP, hD, hS, (by rw [e_1]; exact lv_sub hl [0, 1, 2, 3] rfl)⟩
        · refine lv_iconst (v := (1 : Int32)) hx hb dX0_meetsDemands_35 (by decide) ?_
          refine lv_goto (tgt := 40) hx hb dX0_meetsDemands_36 (by decide) ?_
          refine lv_istore_n (lv' := [(2, .int ((1 : Int32))), (3, .int (nI (i))), (0, .ref (h)), (1, .int (p1))]) hx hb dX0_meetsDemands_40 rfl hl (by decide) rfl (fun ls hl => ?_)
          refine lv_iinc (v := nI (i + 1)) (lv' := [(3, .int (nI (i + 1))), (2, .int ((1 : Int32))), (0, .ref (h)), (1, .int (p1))]) hx hb dX0_meetsDemands_41 hl (k := 1) rfl (nI_1 _) (by decide) rfl (fun ls hl => ?_)
          refine lv_goto (tgt := 12) hx hb dX0_meetsDemands_44 (by decide) ?_
          have e_1 : fr_md dm p1 (i + 1) = (1 : Int32) := (by rw [fr_md, if_neg c_2, if_neg c_3])
          exact ih_i _ _ _ ⟨hP, hD, hS, (by rw [e_1]; exact lv_sub hl [0, 1, 2, 3] rfl)⟩
  · refine lv_iconst (v := (1 : Int32)) hx hb dX0_meetsDemands_4 (by decide) ?_
    refine lv_goto (tgt := 9) hx hb dX0_meetsDemands_5 (by decide) ?_
    refine lv_istore_n (lv' := [(2, .int ((1 : Int32))), (0, .ref (h)), (1, .int (p1))]) hx hb dX0_meetsDemands_9 rfl hl (by decide) rfl (fun ls hl => ?_)
    refine lv_iconst (v := (0 : Int32)) hx hb dX0_meetsDemands_10 (by decide) ?_
    refine lv_istore_n (lv' := [(3, .int ((0 : Int32))), (2, .int ((1 : Int32))), (0, .ref (h)), (1, .int (p1))]) hx hb dX0_meetsDemands_11 rfl hl (by decide) rfl (fun ls hl => ?_)
    have ei_1 : fr_md dm p1 0 = (1 : Int32) := (if_neg c_1)
    refine fr_for (I := fun (i : Nat) (H : Heap) (locs : List Loc) (ls : Array Slot) => va_P G vwCl (w0 h a d to mk dn dm md kd lf rt vl ht sk wy) H ∧ va_D A (w0 h a d to mk dn dm md kd lf rt vl ht sk wy) ∧ va_S A s.heap H locs ∧ lv_has ls 4 [(3, .int (nI (i))), (2, .int (fr_md dm p1 i)), (0, .ref (h)), (1, .int (p1))]) dn ?_ ?_ 0 (Nat.zero_le _) ⟨hP, hD, hS, (by rw [ei_1]; exact lv_sub hl [0, 1, 2, 3] rfl)⟩
    · intro H locs ls hI
      obtain ⟨hP, hD, hS, hl⟩ := hI
      refine lv_iload_n hx hb dX0_meetsDemands_12 rfl (lv_at hl 0 rfl) ?_
      refine lv_aload_n hx hb dX0_meetsDemands_13 rfl (lv_at hl 2 rfl) ?_
      refine va_get (D := G) (ci := 0) (v := .int (nI (dn))) (C := RX0) (T := TX0) (N := 12) hx hb hts in_X0 hown hK hP 0 rfl rfl 2 (by decide) (hts _ q39) (fun _ h9 => h9) rfl dX0_meetsDemands_14 ?_
      refine lv_icmp_ge (tgt := 47) hx hb dX0_meetsDemands_17 (by decide) (fun _ => ?_) (fun q_ => absurd (nI_le (Nat.le_refl dn) (by omega)) q_)
      refine lv_iload_n hx hb dX0_meetsDemands_47 rfl (lv_at hl 1 rfl) ?_
      exact fr_retz () hx hb hr hlocks hK hP hD hS (fr_md_01 _ _ _) rfl dX0_meetsDemands_48
    · intro i hi ih_i H locs ls hI
      obtain ⟨hP, hD, hS, hl⟩ := hI
      refine lv_iload_n hx hb dX0_meetsDemands_12 rfl (lv_at hl 0 rfl) ?_
      refine lv_aload_n hx hb dX0_meetsDemands_13 rfl (lv_at hl 2 rfl) ?_
      refine va_get (D := G) (ci := 0) (v := .int (nI (dn))) (C := RX0) (T := TX0) (N := 12) hx hb hts in_X0 hown hK hP 0 rfl rfl 2 (by decide) (hts _ q39) (fun _ h9 => h9) rfl dX0_meetsDemands_14 ?_
      refine lv_icmp_ge (tgt := 47) hx hb dX0_meetsDemands_17 (by decide) (fun q_ => absurd q_ (nI_ge hi (by omega))) (fun _ => ?_)
      refine lv_iload_n hx hb dX0_meetsDemands_20 rfl (lv_at hl 1 rfl) ?_
      refine lv_if_eq (tgt := 39) hx hb dX0_meetsDemands_21 (by decide) (fun c_4 => ?_) (fun c_4 => ?_)
      · refine lv_iconst (v := (0 : Int32)) hx hb dX0_meetsDemands_39 (by decide) ?_
        refine lv_istore_n (lv' := [(2, .int ((0 : Int32))), (3, .int (nI (i))), (0, .ref (h)), (1, .int (p1))]) hx hb dX0_meetsDemands_40 rfl hl (by decide) rfl (fun ls hl => ?_)
        refine lv_iinc (v := nI (i + 1)) (lv' := [(3, .int (nI (i + 1))), (2, .int ((0 : Int32))), (0, .ref (h)), (1, .int (p1))]) hx hb dX0_meetsDemands_41 hl (k := 1) rfl (nI_1 _) (by decide) rfl (fun ls hl => ?_)
        refine lv_goto (tgt := 12) hx hb dX0_meetsDemands_44 (by decide) ?_
        have e_1 : fr_md dm p1 (i + 1) = (0 : Int32) := (by rw [fr_md, if_pos c_4])
        exact ih_i _ _ _ ⟨hP, hD, hS, (by rw [e_1]; exact lv_sub hl [0, 1, 2, 3] rfl)⟩
      · refine lv_iload_n hx hb dX0_meetsDemands_24 rfl (lv_at hl 3 rfl) ?_
        refine lv_aload_n hx hb dX0_meetsDemands_25 rfl (lv_at hl 2 rfl) ?_
        refine va_get (D := G) (ci := 0) (v := .ref (a 3)) (C := RX0) (T := TX0) (N := 12) hx hb hts in_X0 hown hK hP 0 rfl rfl 3 (by decide) (hts _ q40) (fun _ h9 => h9) rfl dX0_meetsDemands_26 ?_
        refine lv_iload_n hx hb dX0_meetsDemands_29 rfl (lv_at hl 0 rfl) ?_
        refine fr_iald hx hb hK hP 3 0 rfl rfl (by omega) (by decide) dX0_meetsDemands_30 ?_
        refine lv_iand hx hb dX0_meetsDemands_31 ?_
        refine lv_if_eq (tgt := 39) hx hb dX0_meetsDemands_32 (by decide) (fun c_5 => ?_) (fun c_5 => ?_)
        · refine lv_iconst (v := (0 : Int32)) hx hb dX0_meetsDemands_39 (by decide) ?_
          refine lv_istore_n (lv' := [(2, .int ((0 : Int32))), (3, .int (nI (i))), (0, .ref (h)), (1, .int (p1))]) hx hb dX0_meetsDemands_40 rfl hl (by decide) rfl (fun ls hl => ?_)
          refine lv_iinc (v := nI (i + 1)) (lv' := [(3, .int (nI (i + 1))), (2, .int ((0 : Int32))), (0, .ref (h)), (1, .int (p1))]) hx hb dX0_meetsDemands_41 hl (k := 1) rfl (nI_1 _) (by decide) rfl (fun ls hl => ?_)
          refine lv_goto (tgt := 12) hx hb dX0_meetsDemands_44 (by decide) ?_
          have e_1 : fr_md dm p1 (i + 1) = (0 : Int32) := (by rw [fr_md, if_neg c_4, if_pos c_5])
          exact ih_i _ _ _ ⟨hP, hD, hS, (by rw [e_1]; exact lv_sub hl [0, 1, 2, 3] rfl)⟩
        · refine lv_iconst (v := (1 : Int32)) hx hb dX0_meetsDemands_35 (by decide) ?_
          refine lv_goto (tgt := 40) hx hb dX0_meetsDemands_36 (by decide) ?_
          refine lv_istore_n (lv' := [(2, .int ((1 : Int32))), (3, .int (nI (i))), (0, .ref (h)), (1, .int (p1))]) hx hb dX0_meetsDemands_40 rfl hl (by decide) rfl (fun ls hl => ?_)
          refine lv_iinc (v := nI (i + 1)) (lv' := [(3, .int (nI (i + 1))), (2, .int ((1 : Int32))), (0, .ref (h)), (1, .int (p1))]) hx hb dX0_meetsDemands_41 hl (k := 1) rfl (nI_1 _) (by decide) rfl (fun ls hl => ?_)
          refine lv_goto (tgt := 12) hx hb dX0_meetsDemands_44 (by decide) ?_
          have e_1 : fr_md dm p1 (i + 1) = (1 : Int32) := (by rw [fr_md, if_neg c_4, if_neg c_5])
          exact ih_i _ _ _ ⟨hP, hD, hS, (by rw [e_1]; exact lv_sub hl [0, 1, 2, 3] rfl)⟩
set_option maxHeartbeats 4000000 in
theorem met0_staying (l : Launch) (G : va_G) (h : Nat) (a : Nat → Nat) (d : ClassId) (sz : Nat) (to : Nat → Int32) (mk : Nat → Int32) (dn : Nat) (dm : Nat → Int32) (md : Nat) (kd : Nat → Int32) (lf : Nat → Int32) (rt : Nat → Int32) (vl : Nat → Int32) (ht : Nat) (sk : Nat → Int32) (wy : Nat → Int32) (p1 : Int32) (hdn : dn ≤ 3) : fr_I l yX0_staying cX0_staying 6 (some .int) ({ frames := 2, cells := 0, slots := 0, locals := 48 } : Room) [.ref (h), .int (p1)] G d sz (w0 h a d to mk dn dm md kd lf rt vl ht sk wy) (fun (r : Int32) (u : Nat → Int32) => r = fr_st to dm dn p1) (fun (u : Nat → Int32) => (w0 h a d to mk dn dm md kd lf rt vl ht sk u)) := by
  refine fr_startI RX0 rfl (by decide +kernel) (Nat.le_of_ble_eq_true rfl) ?_
  intro p e s m below meth c A ls hx hb hr hlocks hml hown hts hA hK hP hD hS hl
  have hl : lv_has ls 6 [(0, .ref (h)), (1, .int (p1))] := hl
  refine lv_aload_n hx hb dX0_staying_0 rfl (lv_at hl 0 rfl) ?_
  refine lv_iload_n hx hb dX0_staying_1 rfl (lv_at hl 1 rfl) ?_
  refine fr_callv (As := [.int (p1)]) (rest := []) ⟨hx, hb, hml, hown, hts⟩ (met0_findWays l G h a d _ to mk dn dm md kd lf rt vl ht sk wy p1) (cwV 1 hts (lw_V q143 q145 qs7 q27 q146) rfl rfl rfl (by decide +kernel) ⟨Nat.le_of_ble_eq_true rfl, Nat.le_of_ble_eq_true rfl⟩) (va_recv hK hP (ci := 0) (q0 := 0) rfl rfl) hK hP hD hS hA rfl hl.1 rfl (Nat.le_of_ble_eq_true rfl) dX0_staying_2 ⟨Nat.le_refl _, Nat.le_refl _⟩ (fun u_1 H locs hw_1 hP hD hS => ?_)
  have hP : va_P G vwCl (w0 h a d to mk dn dm md kd lf rt vl ht sk (fr_ways to p1 wy)) H := hP
  have hD : va_D A (w0 h a d to mk dn dm md kd lf rt vl ht sk (fr_ways to p1 wy)) := hD
  refine lv_iconst (v := (0 : Int32)) hx hb dX0_staying_5 (by decide) ?_
  refine lv_istore_n (lv' := [(2, .int ((0 : Int32))), (0, .ref (h)), (1, .int (p1))]) hx hb dX0_staying_6 rfl hl (by decide) rfl (fun ls hl => ?_)
  refine lv_iconst (v := (0 : Int32)) hx hb dX0_staying_7 (by decide) ?_
  refine lv_istore_n (lv' := [(3, .int ((0 : Int32))), (2, .int ((0 : Int32))), (0, .ref (h)), (1, .int (p1))]) hx hb dX0_staying_8 rfl hl (by decide) rfl (fun ls hl => ?_)
  refine fr_for (I := fun (i : Nat) (H : Heap) (locs : List Loc) (ls : Array Slot) => va_P G vwCl (w0 h a d to mk dn dm md kd lf rt vl ht sk (fr_ways to p1 wy)) H ∧ va_D A (w0 h a d to mk dn dm md kd lf rt vl ht sk (fr_ways to p1 wy)) ∧ va_S A s.heap H locs ∧ lv_has ls 6 [(3, .int (nI (i))), (2, .int (fr_gd (fr_ways to p1 wy) dm dn i)), (0, .ref (h)), (1, .int (p1))]) 8 ?_ ?_ 0 (Nat.zero_le _) ⟨hP, hD, hS, lv_sub hl [0, 1, 2, 3] rfl⟩
  · intro H locs ls hI
    obtain ⟨hP, hD, hS, hl⟩ := hI
    refine lv_iload_n hx hb dX0_staying_9 rfl (lv_at hl 0 rfl) ?_
    refine lv_bipush (v := (8 : Int32)) hx hb dX0_staying_10 (by decide) ?_
    refine lv_icmp_ge (tgt := 46) hx hb dX0_staying_12 (by decide) (fun _ => ?_) (fun q_ => absurd (nI_le (Nat.le_refl 8) (by decide)) q_)
    refine lv_aload_n hx hb dX0_staying_46 rfl (lv_at hl 2 rfl) ?_
    refine lv_iload_n hx hb dX0_staying_47 rfl (lv_at hl 1 rfl) ?_
    refine lv_iload_n hx hb dX0_staying_48 rfl (lv_at hl 3 rfl) ?_
    refine fr_calli (As := [.int (fr_gd (fr_ways to p1 wy) dm dn 8), .int (p1)]) (rest := []) ⟨hx, hb, hml, hown, hts⟩ (met0_backFrom l G h a d _ to mk dn dm md kd lf rt vl ht sk (fr_ways to p1 wy) (fr_gd (fr_ways to p1 wy) dm dn 8) p1) (cwV 2 hts (lw_V q155 q157 qs10 q27 q158) rfl rfl rfl (by decide +kernel) ⟨Nat.le_of_ble_eq_true rfl, Nat.le_of_ble_eq_true rfl⟩) (va_recv hK hP (ci := 0) (q0 := 0) rfl rfl) hK hP hD hS hA rfl hl.1 rfl (Nat.le_of_ble_eq_true rfl) dX0_staying_49 ⟨Nat.le_refl _, Nat.le_refl _⟩ (fun r_2 u_2 H locs hw_2 hP hD hS => ?_)
    have hw_2 : r_2 = fr_bk to p1 (fr_gd (fr_ways to p1 wy) dm dn 8) 8 := hw_2
    subst hw_2
    have hP : va_P G vwCl (w0 h a d to mk dn dm md kd lf rt vl ht sk (fr_ways to p1 wy)) H := hP
    have hD : va_D A (w0 h a d to mk dn dm md kd lf rt vl ht sk (fr_ways to p1 wy)) := hD
    exact fr_reti (fr_ways to p1 wy) hx hb hr hlocks hK hP hD hS (fr_sx_st to dm dn p1 wy) dX0_staying_52
  · intro i hi ih_i H locs ls hI
    obtain ⟨hP, hD, hS, hl⟩ := hI
    refine lv_iload_n hx hb dX0_staying_9 rfl (lv_at hl 0 rfl) ?_
    refine lv_bipush (v := (8 : Int32)) hx hb dX0_staying_10 (by decide) ?_
    refine lv_icmp_ge (tgt := 46) hx hb dX0_staying_12 (by decide) (fun q_ => absurd q_ (nI_ge hi (by decide))) (fun _ => ?_)
    refine lv_aload_n hx hb dX0_staying_15 rfl (lv_at hl 2 rfl) ?_
    refine lv_iload_n hx hb dX0_staying_16 rfl (lv_at hl 0 rfl) ?_
    refine fr_calli (As := [.int (nI (i))]) (rest := []) ⟨hx, hb, hml, hown, hts⟩ (met0_knotOf l G h a d _ to mk dn dm md kd lf rt vl ht sk (fr_ways to p1 wy) i hi) (cwV 1 hts (lw_V q147 q149 qs8 q27 q150) rfl rfl rfl (by decide +kernel) ⟨Nat.le_of_ble_eq_true rfl, Nat.le_of_ble_eq_true rfl⟩) (va_recv hK hP (ci := 0) (q0 := 0) rfl rfl) hK hP hD hS hA rfl hl.1 rfl (Nat.le_of_ble_eq_true rfl) dX0_staying_17 ⟨Nat.le_refl _, Nat.le_refl _⟩ (fun r_3 u_3 H locs hw_3 hP hD hS => ?_)
    have hw_3 : r_3 = fr_kn (fr_ways to p1 wy) i 8 := hw_3
    subst hw_3
    have hP : va_P G vwCl (w0 h a d to mk dn dm md kd lf rt vl ht sk (fr_ways to p1 wy)) H := hP
    have hD : va_D A (w0 h a d to mk dn dm md kd lf rt vl ht sk (fr_ways to p1 wy)) := hD
    refine lv_istore (lv' := [(4, .int (fr_kn (fr_ways to p1 wy) i 8)), (3, .int (nI (i))), (2, .int (fr_gd (fr_ways to p1 wy) dm dn i)), (0, .ref (h)), (1, .int (p1))]) hx hb dX0_staying_20 hl (by decide) rfl (fun ls hl => ?_)
    refine lv_aload_n hx hb dX0_staying_22 rfl (lv_at hl 3 rfl) ?_
    refine lv_iload hx hb dX0_staying_23 (lv_at hl 0 rfl) ?_
    refine fr_calli (As := [.int (fr_kn (fr_ways to p1 wy) i 8)]) (rest := []) ⟨hx, hb, hml, hown, hts⟩ (met0_meetsDemands l G h a d _ to mk dn dm md kd lf rt vl ht sk (fr_ways to p1 wy) (fr_kn (fr_ways to p1 wy) i 8) hdn) (cwV 1 hts (lw_V q151 q153 qs9 q27 q154) rfl rfl rfl (by decide +kernel) ⟨Nat.le_of_ble_eq_true rfl, Nat.le_of_ble_eq_true rfl⟩) (va_recv hK hP (ci := 0) (q0 := 0) rfl rfl) hK hP hD hS hA rfl hl.1 rfl (Nat.le_of_ble_eq_true rfl) dX0_staying_25 ⟨Nat.le_refl _, Nat.le_refl _⟩ (fun r_4 u_4 H locs hw_4 hP hD hS => ?_)
    have hw_4 : r_4 = fr_md dm (fr_kn (fr_ways to p1 wy) i 8) dn := hw_4
    subst hw_4
    have hP : va_P G vwCl (w0 h a d to mk dn dm md kd lf rt vl ht sk (fr_ways to p1 wy)) H := hP
    have hD : va_D A (w0 h a d to mk dn dm md kd lf rt vl ht sk (fr_ways to p1 wy)) := hD
    refine lv_istore (lv' := [(5, .int (fr_md dm (fr_kn (fr_ways to p1 wy) i 8) dn)), (4, .int (fr_kn (fr_ways to p1 wy) i 8)), (3, .int (nI (i))), (2, .int (fr_gd (fr_ways to p1 wy) dm dn i)), (0, .ref (h)), (1, .int (p1))]) hx hb dX0_staying_28 hl (by decide) rfl (fun ls hl => ?_)
    refine lv_iload hx hb dX0_staying_30 (lv_at hl 0 rfl) ?_
    refine lv_if_eq (tgt := 40) hx hb dX0_staying_32 (by decide) (fun c_5 => ?_) (fun c_5 => ?_)
    · refine lv_iinc (v := nI (i + 1)) (lv' := [(3, .int (nI (i + 1))), (5, .int (fr_md dm (fr_kn (fr_ways to p1 wy) i 8) dn)), (4, .int (fr_kn (fr_ways to p1 wy) i 8)), (2, .int (fr_gd (fr_ways to p1 wy) dm dn i)), (0, .ref (h)), (1, .int (p1))]) hx hb dX0_staying_40 hl (k := 2) rfl (nI_1 _) (by decide) rfl (fun ls hl => ?_)
      refine lv_goto (tgt := 9) hx hb dX0_staying_43 (by decide) ?_
      have e_1 : fr_gd (fr_ways to p1 wy) dm dn (i + 1) = fr_gd (fr_ways to p1 wy) dm dn i := (by rw [fr_gd, if_pos c_5])
      exact ih_i _ _ _ ⟨hP, hD, hS, (by rw [e_1]; exact lv_sub hl [0, 3, 4, 5] rfl)⟩
    · refine lv_iload_n hx hb dX0_staying_35 rfl (lv_at hl 3 rfl) ?_
      refine lv_iload hx hb dX0_staying_36 (lv_at hl 1 rfl) ?_
      refine lv_ior hx hb dX0_staying_38 ?_
      refine lv_istore_n (lv' := [(2, .int ((fr_gd (fr_ways to p1 wy) dm dn i) ||| (fr_kn (fr_ways to p1 wy) i 8))), (5, .int (fr_md dm (fr_kn (fr_ways to p1 wy) i 8) dn)), (4, .int (fr_kn (fr_ways to p1 wy) i 8)), (3, .int (nI (i))), (0, .ref (h)), (1, .int (p1))]) hx hb dX0_staying_39 rfl hl (by decide) rfl (fun ls hl => ?_)
      refine lv_iinc (v := nI (i + 1)) (lv' := [(3, .int (nI (i + 1))), (2, .int ((fr_gd (fr_ways to p1 wy) dm dn i) ||| (fr_kn (fr_ways to p1 wy) i 8))), (5, .int (fr_md dm (fr_kn (fr_ways to p1 wy) i 8) dn)), (4, .int (fr_kn (fr_ways to p1 wy) i 8)), (0, .ref (h)), (1, .int (p1))]) hx hb dX0_staying_40 hl (k := 3) rfl (nI_1 _) (by decide) rfl (fun ls hl => ?_)
      refine lv_goto (tgt := 9) hx hb dX0_staying_43 (by decide) ?_
      have e_1 : fr_gd (fr_ways to p1 wy) dm dn (i + 1) = (fr_gd (fr_ways to p1 wy) dm dn i) ||| (fr_kn (fr_ways to p1 wy) i 8) := (by rw [fr_gd, if_neg c_5])
      exact ih_i _ _ _ ⟨hP, hD, hS, (by rw [e_1]; exact lv_sub hl [0, 1, 4, 5] rfl)⟩
end
section
/-! FairRuns: until .. valueOf -/
set_option maxRecDepth 100000
set_option maxHeartbeats 4000000 in
theorem met0_until (l : Launch) (G : va_G) (h : Nat) (a : Nat → Nat) (d : ClassId) (sz : Nat) (to : Nat → Int32) (mk : Nat → Int32) (dn : Nat) (dm : Nat → Int32) (md : Nat) (kd : Nat → Int32) (lf : Nat → Int32) (rt : Nat → Int32) (vl : Nat → Int32) (ht : Nat) (sk : Nat → Int32) (wy : Nat → Int32) (p1 : Int32) (p2 : Int32) (hdn : dn ≤ 3) : fr_I l yX0_until cX0_until 4 (some .int) ({ frames := 3, cells := 0, slots := 0, locals := 73 } : Room) [.ref (h), .int (p1), .int (p2)] G d sz (w0 h a d to mk dn dm md kd lf rt vl ht sk wy) (fun (r : Int32) (u : Nat → Int32) => r = fr_un to (fr_st to dm dn) p1 p2) (fun (u : Nat → Int32) => (w0 h a d to mk dn dm md kd lf rt vl ht sk u)) := by
  refine fr_startI RX0 rfl (by decide +kernel) (Nat.le_of_ble_eq_true rfl) ?_
  intro p e s m below meth c A ls hx hb hr hlocks hml hown hts hA hK hP hD hS hl
  have hl : lv_has ls 4 [(0, .ref (h)), (1, .int (p1)), (2, .int (p2))] := hl
  refine lv_aload_n hx hb dX0_until_0 rfl (lv_at hl 0 rfl) ?_
  refine lv_sipush (v := (255 : Int32)) hx hb dX0_until_1 (by decide) ?_
  refine fr_calli (As := [.int ((255 : Int32))]) (rest := []) ⟨hx, hb, hml, hown, hts⟩ (met0_staying l G h a d _ to mk dn dm md kd lf rt vl ht sk wy ((255 : Int32)) hdn) (cwV 1 hts (lw_V q139 q141 qs6 q27 q142) rfl rfl rfl (by decide +kernel) ⟨Nat.le_of_ble_eq_true rfl, Nat.le_of_ble_eq_true rfl⟩) (va_recv hK hP (ci := 0) (q0 := 0) rfl rfl) hK hP hD hS hA rfl hl.1 rfl (Nat.le_of_ble_eq_true rfl) dX0_until_4 ⟨Nat.le_refl _, Nat.le_refl _⟩ (fun r_1 u_1 H locs hw_1 hP hD hS => ?_)
  have hw_1 : r_1 = fr_st to dm dn ((255 : Int32)) := hw_1
  subst hw_1
  have hP : va_P G vwCl (w0 h a d to mk dn dm md kd lf rt vl ht sk u_1) H := hP
  have hD : va_D A (w0 h a d to mk dn dm md kd lf rt vl ht sk u_1) := hD
  refine lv_istore_n (lv' := [(3, .int (fr_st to dm dn ((255 : Int32)))), (0, .ref (h)), (1, .int (p1)), (2, .int (p2))]) hx hb dX0_until_7 rfl hl (by decide) rfl (fun ls hl => ?_)
  refine lv_aload_n hx hb dX0_until_8 rfl (lv_at hl 1 rfl) ?_
  refine lv_iload_n hx hb dX0_until_9 rfl (lv_at hl 3 rfl) ?_
  refine lv_iload_n hx hb dX0_until_10 rfl (lv_at hl 0 rfl) ?_
  refine lv_iand hx hb dX0_until_11 ?_
  refine lv_iload_n hx hb dX0_until_12 rfl (lv_at hl 2 rfl) ?_
  refine fr_calli (As := [.int ((p2) &&& (fr_st to dm dn ((255 : Int32)))), .int (p1)]) (rest := []) ⟨hx, hb, hml, hown, hts⟩ (met0_backFrom l G h a d _ to mk dn dm md kd lf rt vl ht sk u_1 ((p2) &&& (fr_st to dm dn ((255 : Int32)))) p1) (cwV 2 hts (lw_V q155 q157 qs10 q27 q158) rfl rfl rfl (by decide +kernel) ⟨Nat.le_of_ble_eq_true rfl, Nat.le_of_ble_eq_true rfl⟩) (va_recv hK hP (ci := 0) (q0 := 0) rfl rfl) hK hP hD hS hA rfl hl.1 rfl (Nat.le_of_ble_eq_true rfl) dX0_until_13 ⟨Nat.le_refl _, Nat.le_refl _⟩ (fun r_2 u_2 H locs hw_2 hP hD hS => ?_)
  have hw_2 : r_2 = fr_bk to p1 ((p2) &&& (fr_st to dm dn ((255 : Int32)))) 8 := hw_2
  subst hw_2
  have hP : va_P G vwCl (w0 h a d to mk dn dm md kd lf rt vl ht sk u_1) H := hP
  have hD : va_D A (w0 h a d to mk dn dm md kd lf rt vl ht sk u_1) := hD
  exact fr_reti u_1 hx hb hr hlocks hK hP hD hS rfl dX0_until_16
set_option maxHeartbeats 4000000 in
theorem met0_someNext (l : Launch) (G : va_G) (h : Nat) (a : Nat → Nat) (d : ClassId) (sz : Nat) (to : Nat → Int32) (mk : Nat → Int32) (dn : Nat) (dm : Nat → Int32) (md : Nat) (kd : Nat → Int32) (lf : Nat → Int32) (rt : Nat → Int32) (vl : Nat → Int32) (ht : Nat) (sk : Nat → Int32) (wy : Nat → Int32) (p1 : Int32) (hdn : dn ≤ 3) : fr_I l yX0_someNext cX0_someNext 3 (some .int) ({ frames := 3, cells := 0, slots := 0, locals := 73 } : Room) [.ref (h), .int (p1)] G d sz (w0 h a d to mk dn dm md kd lf rt vl ht sk wy) (fun (r : Int32) (u : Nat → Int32) => r = fr_sn to (fr_st to dm dn) p1) (fun (u : Nat → Int32) => (w0 h a d to mk dn dm md kd lf rt vl ht sk u)) := by
  refine fr_startI RX0 rfl (by decide +kernel) (Nat.le_of_ble_eq_true rfl) ?_
  intro p e s m below meth c A ls hx hb hr hlocks hml hown hts hA hK hP hD hS hl
  have hl : lv_has ls 3 [(0, .ref (h)), (1, .int (p1))] := hl
  refine lv_aload_n hx hb dX0_someNext_0 rfl (lv_at hl 0 rfl) ?_
  refine lv_sipush (v := (255 : Int32)) hx hb dX0_someNext_1 (by decide) ?_
  refine fr_calli (As := [.int ((255 : Int32))]) (rest := []) ⟨hx, hb, hml, hown, hts⟩ (met0_staying l G h a d _ to mk dn dm md kd lf rt vl ht sk wy ((255 : Int32)) hdn) (cwV 1 hts (lw_V q139 q141 qs6 q27 q142) rfl rfl rfl (by decide +kernel) ⟨Nat.le_of_ble_eq_true rfl, Nat.le_of_ble_eq_true rfl⟩) (va_recv hK hP (ci := 0) (q0 := 0) rfl rfl) hK hP hD hS hA rfl hl.1 rfl (Nat.le_of_ble_eq_true rfl) dX0_someNext_4 ⟨Nat.le_refl _, Nat.le_refl _⟩ (fun r_1 u_1 H locs hw_1 hP hD hS => ?_)
  have hw_1 : r_1 = fr_st to dm dn ((255 : Int32)) := hw_1
  subst hw_1
  have hP : va_P G vwCl (w0 h a d to mk dn dm md kd lf rt vl ht sk u_1) H := hP
  have hD : va_D A (w0 h a d to mk dn dm md kd lf rt vl ht sk u_1) := hD
  refine lv_istore_n (lv' := [(2, .int (fr_st to dm dn ((255 : Int32)))), (0, .ref (h)), (1, .int (p1))]) hx hb dX0_someNext_7 rfl hl (by decide) rfl (fun ls hl => ?_)
  refine lv_aload_n hx hb dX0_someNext_8 rfl (lv_at hl 1 rfl) ?_
  refine lv_iload_n hx hb dX0_someNext_9 rfl (lv_at hl 2 rfl) ?_
  refine lv_iload_n hx hb dX0_someNext_10 rfl (lv_at hl 0 rfl) ?_
  refine lv_iand hx hb dX0_someNext_11 ?_
  refine fr_calli (As := [.int ((p1) &&& (fr_st to dm dn ((255 : Int32))))]) (rest := []) ⟨hx, hb, hml, hown, hts⟩ (met0_before l G h a d _ to mk dn dm md kd lf rt vl ht sk u_1 ((p1) &&& (fr_st to dm dn ((255 : Int32))))) (cwV 1 hts (lw_V q159 q161 qs11 q27 q162) rfl rfl rfl (by decide +kernel) ⟨Nat.le_of_ble_eq_true rfl, Nat.le_of_ble_eq_true rfl⟩) (va_recv hK hP (ci := 0) (q0 := 0) rfl rfl) hK hP hD hS hA rfl hl.1 rfl (Nat.le_of_ble_eq_true rfl) dX0_someNext_12 ⟨Nat.le_refl _, Nat.le_refl _⟩ (fun r_2 u_2 H locs hw_2 hP hD hS => ?_)
  have hw_2 : r_2 = fr_bef to ((p1) &&& (fr_st to dm dn ((255 : Int32)))) 8 := hw_2
  subst hw_2
  have hP : va_P G vwCl (w0 h a d to mk dn dm md kd lf rt vl ht sk u_1) H := hP
  have hD : va_D A (w0 h a d to mk dn dm md kd lf rt vl ht sk u_1) := hD
  exact fr_reti u_1 hx hb hr hlocks hK hP hD hS rfl dX0_someNext_15
set_option maxHeartbeats 4000000 in
theorem met0_allUntil (l : Launch) (G : va_G) (h : Nat) (a : Nat → Nat) (d : ClassId) (sz : Nat) (to : Nat → Int32) (mk : Nat → Int32) (dn : Nat) (dm : Nat → Int32) (md : Nat) (kd : Nat → Int32) (lf : Nat → Int32) (rt : Nat → Int32) (vl : Nat → Int32) (ht : Nat) (sk : Nat → Int32) (wy : Nat → Int32) (p1 : Int32) (p2 : Int32) (hdn : dn ≤ 3) : fr_I l yX0_allUntil cX0_allUntil 7 (some .int) ({ frames := 4, cells := 0, slots := 0, locals := 96 } : Room) [.ref (h), .int (p1), .int (p2)] G d sz (w0 h a d to mk dn dm md kd lf rt vl ht sk wy) (fun (r : Int32) (u : Nat → Int32) => r = fr_au to (fr_st to dm dn) p1 p2) (fun (u : Nat → Int32) => (w0 h a d to mk dn dm md kd lf rt vl ht sk u)) := by
  refine fr_startI RX0 rfl (by decide +kernel) (Nat.le_of_ble_eq_true rfl) ?_
  intro p e s m below meth c A ls hx hb hr hlocks hml hown hts hA hK hP hD hS hl
  have hl : lv_has ls 7 [(0, .ref (h)), (1, .int (p1)), (2, .int (p2))] := hl
  refine lv_sipush (v := (255 : Int32)) hx hb dX0_allUntil_0 (by decide) ?_
  refine lv_iload_n hx hb dX0_allUntil_3 rfl (lv_at hl 2 rfl) ?_
  refine lv_iconst (v := (-1 : Int32)) hx hb dX0_allUntil_4 (by decide) ?_
  refine lv_ixor hx hb dX0_allUntil_5 ?_
  refine lv_iand hx hb dX0_allUntil_6 ?_
  refine lv_istore_n (lv' := [(3, .int (((255 : Int32)) &&& ((p2) ^^^ ((-1 : Int32))))), (0, .ref (h)), (1, .int (p1)), (2, .int (p2))]) hx hb dX0_allUntil_7 rfl hl (by decide) rfl (fun ls hl => ?_)
  refine lv_iload_n hx hb dX0_allUntil_8 rfl (lv_at hl 0 rfl) ?_
  refine lv_iload_n hx hb dX0_allUntil_9 rfl (lv_at hl 2 rfl) ?_
  refine lv_iconst (v := (-1 : Int32)) hx hb dX0_allUntil_10 (by decide) ?_
  refine lv_ixor hx hb dX0_allUntil_11 ?_
  refine lv_iand hx hb dX0_allUntil_12 ?_
  refine lv_istore (lv' := [(4, .int ((((255 : Int32)) &&& ((p2) ^^^ ((-1 : Int32)))) &&& ((p1) ^^^ ((-1 : Int32))))), (3, .int (((255 : Int32)) &&& ((p2) ^^^ ((-1 : Int32))))), (0, .ref (h)), (1, .int (p1)), (2, .int (p2))]) hx hb dX0_allUntil_13 hl (by decide) rfl (fun ls hl => ?_)
  refine lv_aload_n hx hb dX0_allUntil_15 rfl (lv_at hl 2 rfl) ?_
  refine lv_iload_n hx hb dX0_allUntil_16 rfl (lv_at hl 1 rfl) ?_
  refine fr_calli (As := [.int (((255 : Int32)) &&& ((p2) ^^^ ((-1 : Int32))))]) (rest := []) ⟨hx, hb, hml, hown, hts⟩ (met0_staying l G h a d _ to mk dn dm md kd lf rt vl ht sk wy (((255 : Int32)) &&& ((p2) ^^^ ((-1 : Int32)))) hdn) (cwV 1 hts (lw_V q139 q141 qs6 q27 q142) rfl rfl rfl (by decide +kernel) ⟨Nat.le_of_ble_eq_true rfl, Nat.le_of_ble_eq_true rfl⟩) (va_recv hK hP (ci := 0) (q0 := 0) rfl rfl) hK hP hD hS hA rfl hl.1 rfl (Nat.le_of_ble_eq_true rfl) dX0_allUntil_17 ⟨Nat.le_refl _, Nat.le_refl _⟩ (fun r_1 u_1 H locs hw_1 hP hD hS => ?_)
  have hw_1 : r_1 = fr_st to dm dn (((255 : Int32)) &&& ((p2) ^^^ ((-1 : Int32)))) := hw_1
  subst hw_1
  have hP : va_P G vwCl (w0 h a d to mk dn dm md kd lf rt vl ht sk u_1) H := hP
  have hD : va_D A (w0 h a d to mk dn dm md kd lf rt vl ht sk u_1) := hD
  refine lv_istore (lv' := [(5, .int (fr_st to dm dn (((255 : Int32)) &&& ((p2) ^^^ ((-1 : Int32)))))), (4, .int ((((255 : Int32)) &&& ((p2) ^^^ ((-1 : Int32)))) &&& ((p1) ^^^ ((-1 : Int32))))), (3, .int (((255 : Int32)) &&& ((p2) ^^^ ((-1 : Int32))))), (0, .ref (h)), (1, .int (p1)), (2, .int (p2))]) hx hb dX0_allUntil_20 hl (by decide) rfl (fun ls hl => ?_)
  refine lv_aload_n hx hb dX0_allUntil_22 rfl (lv_at hl 3 rfl) ?_
  refine lv_iload_n hx hb dX0_allUntil_23 rfl (lv_at hl 2 rfl) ?_
  refine lv_iload hx hb dX0_allUntil_24 (lv_at hl 1 rfl) ?_
  refine fr_calli (As := [.int (((255 : Int32)) &&& ((p2) ^^^ ((-1 : Int32)))), .int ((((255 : Int32)) &&& ((p2) ^^^ ((-1 : Int32)))) &&& ((p1) ^^^ ((-1 : Int32))))]) (rest := []) ⟨hx, hb, hml, hown, hts⟩ (met0_until l G h a d _ to mk dn dm md kd lf rt vl ht sk u_1 (((255 : Int32)) &&& ((p2) ^^^ ((-1 : Int32)))) ((((255 : Int32)) &&& ((p2) ^^^ ((-1 : Int32)))) &&& ((p1) ^^^ ((-1 : Int32)))) hdn) (cwV 2 hts (lw_V q163 q165 qs12 q27 q166) rfl rfl rfl (by decide +kernel) ⟨Nat.le_of_ble_eq_true rfl, Nat.le_of_ble_eq_true rfl⟩) (va_recv hK hP (ci := 0) (q0 := 0) rfl rfl) hK hP hD hS hA rfl hl.1 rfl (Nat.le_of_ble_eq_true rfl) dX0_allUntil_26 ⟨Nat.le_refl _, Nat.le_refl _⟩ (fun r_2 u_2 H locs hw_2 hP hD hS => ?_)
  have hw_2 : r_2 = fr_un to (fr_st to dm dn) (((255 : Int32)) &&& ((p2) ^^^ ((-1 : Int32)))) ((((255 : Int32)) &&& ((p2) ^^^ ((-1 : Int32)))) &&& ((p1) ^^^ ((-1 : Int32)))) := hw_2
  subst hw_2
  have hP : va_P G vwCl (w0 h a d to mk dn dm md kd lf rt vl ht sk u_2) H := hP
  have hD : va_D A (w0 h a d to mk dn dm md kd lf rt vl ht sk u_2) := hD
  refine lv_istore (lv' := [(6, .int (fr_un to (fr_st to dm dn) (((255 : Int32)) &&& ((p2) ^^^ ((-1 : Int32)))) ((((255 : Int32)) &&& ((p2) ^^^ ((-1 : Int32)))) &&& ((p1) ^^^ ((-1 : Int32)))))), (5, .int (fr_st to dm dn (((255 : Int32)) &&& ((p2) ^^^ ((-1 : Int32)))))), (4, .int ((((255 : Int32)) &&& ((p2) ^^^ ((-1 : Int32)))) &&& ((p1) ^^^ ((-1 : Int32))))), (3, .int (((255 : Int32)) &&& ((p2) ^^^ ((-1 : Int32))))), (0, .ref (h)), (1, .int (p1)), (2, .int (p2))]) hx hb dX0_allUntil_29 hl (by decide) rfl (fun ls hl => ?_)
  refine lv_sipush (v := (255 : Int32)) hx hb dX0_allUntil_31 (by decide) ?_
  refine lv_iload hx hb dX0_allUntil_34 (lv_at hl 1 rfl) ?_
  refine lv_iload hx hb dX0_allUntil_36 (lv_at hl 0 rfl) ?_
  refine lv_ior hx hb dX0_allUntil_38 ?_
  refine lv_iconst (v := (-1 : Int32)) hx hb dX0_allUntil_39 (by decide) ?_
  refine lv_ixor hx hb dX0_allUntil_40 ?_
  refine lv_iand hx hb dX0_allUntil_41 ?_
  exact fr_reti u_2 hx hb hr hlocks hK hP hD hS rfl dX0_allUntil_42
set_option maxHeartbeats 4000000 in
theorem met0_oneValue (l : Launch) (G : va_G) (h : Nat) (a : Nat → Nat) (d : ClassId) (sz : Nat) (to : Nat → Int32) (mk : Nat → Int32) (dn : Nat) (dm : Nat → Int32) (md : Nat) (kd : Nat → Int32) (lf : Nat → Int32) (rt : Nat → Int32) (vl : Nat → Int32) (ht : Nat) (sk : Nat → Int32) (wy : Nat → Int32) (p1 : Int32) (p2 : Int32) (hdn : dn ≤ 3) : fr_I l yX0_oneValue cX0_oneValue 4 (some .int) ({ frames := 4, cells := 0, slots := 0, locals := 96 } : Room) [.ref (h), .int (p1), .int (p2)] G d sz (w0 h a d to mk dn dm md kd lf rt vl ht sk wy) (fun (r : Int32) (u : Nat → Int32) => r = fr_o0 to (fr_st to dm dn) p1 p2) (fun (u : Nat → Int32) => (w0 h a d to mk dn dm md kd lf rt vl ht sk u)) := by
  refine fr_startI RX0 rfl (by decide +kernel) (Nat.le_of_ble_eq_true rfl) ?_
  intro p e s m below meth c A ls hx hb hr hlocks hml hown hts hA hK hP hD hS hl
  have hl : lv_has ls 4 [(0, .ref (h)), (1, .int (p1)), (2, .int (p2))] := hl
  refine lv_sipush (v := (255 : Int32)) hx hb dX0_oneValue_0 (by decide) ?_
  refine lv_iload_n hx hb dX0_oneValue_3 rfl (lv_at hl 2 rfl) ?_
  refine lv_iconst (v := (-1 : Int32)) hx hb dX0_oneValue_4 (by decide) ?_
  refine lv_ixor hx hb dX0_oneValue_5 ?_
  refine lv_iand hx hb dX0_oneValue_6 ?_
  refine lv_istore_n (lv' := [(3, .int (((255 : Int32)) &&& ((p2) ^^^ ((-1 : Int32))))), (0, .ref (h)), (1, .int (p1)), (2, .int (p2))]) hx hb dX0_oneValue_7 rfl hl (by decide) rfl (fun ls hl => ?_)
  refine lv_iload_n hx hb dX0_oneValue_8 rfl (lv_at hl 2 rfl) ?_
  refine lv_iconst (v := (1 : Int32)) hx hb dX0_oneValue_9 (by decide) ?_
  refine lv_icmp_ne (tgt := 15) hx hb dX0_oneValue_10 (by decide) (fun c_1 => ?_) (fun c_1 => ?_)
  · refine lv_iload_n hx hb dX0_oneValue_15 rfl (lv_at hl 2 rfl) ?_
    refine lv_iconst (v := (2 : Int32)) hx hb dX0_oneValue_16 (by decide) ?_
    refine lv_icmp_ne (tgt := 26) hx hb dX0_oneValue_17 (by decide) (fun c_2 => ?_) (fun c_2 => ?_)
    · refine lv_iload_n hx hb dX0_oneValue_26 rfl (lv_at hl 2 rfl) ?_
      refine lv_iconst (v := (3 : Int32)) hx hb dX0_oneValue_27 (by decide) ?_
      refine lv_icmp_ne (tgt := 40) hx hb dX0_oneValue_28 (by decide) (fun c_3 => ?_) (fun c_3 => ?_)
      · refine lv_iload_n hx hb dX0_oneValue_40 rfl (lv_at hl 2 rfl) ?_
        refine lv_iconst (v := (4 : Int32)) hx hb dX0_oneValue_41 (by decide) ?_
        refine lv_icmp_ne (tgt := 51) hx hb dX0_oneValue_42 (by decide) (fun c_4 => ?_) (fun c_4 => ?_)
        · refine lv_iload_n hx hb dX0_oneValue_51 rfl (lv_at hl 2 rfl) ?_
          refine lv_iconst (v := (5 : Int32)) hx hb dX0_oneValue_52 (by decide) ?_
          refine lv_icmp_ne (tgt := 68) hx hb dX0_oneValue_53 (by decide) (fun c_5 => ?_) (fun c_5 => ?_)
          · refine lv_iload_n hx hb dX0_oneValue_68 rfl (lv_at hl 2 rfl) ?_
            refine lv_bipush (v := (6 : Int32)) hx hb dX0_oneValue_69 (by decide) ?_
            refine lv_icmp_ne (tgt := 88) hx hb dX0_oneValue_71 (by decide) (fun c_6 => ?_) (fun c_6 => ?_)
            · refine lv_sipush (v := (255 : Int32)) hx hb dX0_oneValue_88 (by decide) ?_
              refine lv_aload_n hx hb dX0_oneValue_91 rfl (lv_at hl 1 rfl) ?_
              refine lv_sipush (v := (255 : Int32)) hx hb dX0_oneValue_92 (by decide) ?_
              refine lv_iload_n hx hb dX0_oneValue_95 rfl (lv_at hl 0 rfl) ?_
              refine fr_calli (As := [.int ((255 : Int32)), .int (((255 : Int32)) &&& ((p2) ^^^ ((-1 : Int32))))]) (rest := [.int ((255 : Int32))]) ⟨hx, hb, hml, hown, hts⟩ (met0_until l G h a d _ to mk dn dm md kd lf rt vl ht sk wy ((255 : Int32)) (((255 : Int32)) &&& ((p2) ^^^ ((-1 : Int32)))) hdn) (cwV 2 hts (lw_V q163 q165 qs12 q27 q166) rfl rfl rfl (by decide +kernel) ⟨Nat.le_of_ble_eq_true rfl, Nat.le_of_ble_eq_true rfl⟩) (va_recv hK hP (ci := 0) (q0 := 0) rfl rfl) hK hP hD hS hA rfl hl.1 rfl (Nat.le_of_ble_eq_true rfl) dX0_oneValue_96 ⟨Nat.le_refl _, Nat.le_refl _⟩ (fun r_7 u_7 H locs hw_7 hP hD hS => ?_)
              have hw_7 : r_7 = fr_un to (fr_st to dm dn) ((255 : Int32)) (((255 : Int32)) &&& ((p2) ^^^ ((-1 : Int32)))) := hw_7
              subst hw_7
              have hP : va_P G vwCl (w0 h a d to mk dn dm md kd lf rt vl ht sk u_7) H := hP
              have hD : va_D A (w0 h a d to mk dn dm md kd lf rt vl ht sk u_7) := hD
              refine lv_iconst (v := (-1 : Int32)) hx hb dX0_oneValue_99 (by decide) ?_
              refine lv_ixor hx hb dX0_oneValue_100 ?_
              refine lv_iand hx hb dX0_oneValue_101 ?_
              exact fr_reti u_7 hx hb hr hlocks hK hP hD hS (by rw [fr_o0, if_neg c_1, if_neg c_2, if_neg c_3, if_neg c_4, if_neg c_5, if_neg c_6]; first | done | rfl) dX0_oneValue_102
            · refine lv_sipush (v := (255 : Int32)) hx hb dX0_oneValue_74 (by decide) ?_
              refine lv_aload_n hx hb dX0_oneValue_77 rfl (lv_at hl 1 rfl) ?_
              refine lv_iload_n hx hb dX0_oneValue_78 rfl (lv_at hl 0 rfl) ?_
              refine fr_calli (As := [.int (((255 : Int32)) &&& ((p2) ^^^ ((-1 : Int32))))]) (rest := [.int ((255 : Int32))]) ⟨hx, hb, hml, hown, hts⟩ (met0_staying l G h a d _ to mk dn dm md kd lf rt vl ht sk wy (((255 : Int32)) &&& ((p2) ^^^ ((-1 : Int32)))) hdn) (cwV 1 hts (lw_V q139 q141 qs6 q27 q142) rfl rfl rfl (by decide +kernel) ⟨Nat.le_of_ble_eq_true rfl, Nat.le_of_ble_eq_true rfl⟩) (va_recv hK hP (ci := 0) (q0 := 0) rfl rfl) hK hP hD hS hA rfl hl.1 rfl (Nat.le_of_ble_eq_true rfl) dX0_oneValue_79 ⟨Nat.le_refl _, Nat.le_refl _⟩ (fun r_8 u_8 H locs hw_8 hP hD hS => ?_)
              have hw_8 : r_8 = fr_st to dm dn (((255 : Int32)) &&& ((p2) ^^^ ((-1 : Int32)))) := hw_8
              subst hw_8
              have hP : va_P G vwCl (w0 h a d to mk dn dm md kd lf rt vl ht sk u_8) H := hP
              have hD : va_D A (w0 h a d to mk dn dm md kd lf rt vl ht sk u_8) := hD
              refine lv_iconst (v := (-1 : Int32)) hx hb dX0_oneValue_82 (by decide) ?_
              refine lv_ixor hx hb dX0_oneValue_83 ?_
              refine lv_iand hx hb dX0_oneValue_84 ?_
              refine lv_goto (tgt := 102) hx hb dX0_oneValue_85 (by decide) ?_
              exact fr_reti u_8 hx hb hr hlocks hK hP hD hS (by rw [fr_o0, if_neg c_1, if_neg c_2, if_neg c_3, if_neg c_4, if_neg c_5, if_pos c_6]; first | done | rfl) dX0_oneValue_102
          · refine lv_sipush (v := (255 : Int32)) hx hb dX0_oneValue_56 (by decide) ?_
            refine lv_aload_n hx hb dX0_oneValue_59 rfl (lv_at hl 1 rfl) ?_
            refine lv_iload_n hx hb dX0_oneValue_60 rfl (lv_at hl 0 rfl) ?_
            refine fr_calli (As := [.int (((255 : Int32)) &&& ((p2) ^^^ ((-1 : Int32))))]) (rest := [.int ((255 : Int32))]) ⟨hx, hb, hml, hown, hts⟩ (met0_someNext l G h a d _ to mk dn dm md kd lf rt vl ht sk wy (((255 : Int32)) &&& ((p2) ^^^ ((-1 : Int32)))) hdn) (cwV 1 hts (lw_V q135 q137 qs5 q27 q138) rfl rfl rfl (by decide +kernel) ⟨Nat.le_of_ble_eq_true rfl, Nat.le_of_ble_eq_true rfl⟩) (va_recv hK hP (ci := 0) (q0 := 0) rfl rfl) hK hP hD hS hA rfl hl.1 rfl (Nat.le_of_ble_eq_true rfl) dX0_oneValue_61 ⟨Nat.le_refl _, Nat.le_refl _⟩ (fun r_9 u_9 H locs hw_9 hP hD hS => ?_)
            have hw_9 : r_9 = fr_sn to (fr_st to dm dn) (((255 : Int32)) &&& ((p2) ^^^ ((-1 : Int32)))) := hw_9
            subst hw_9
            have hP : va_P G vwCl (w0 h a d to mk dn dm md kd lf rt vl ht sk u_9) H := hP
            have hD : va_D A (w0 h a d to mk dn dm md kd lf rt vl ht sk u_9) := hD
            refine lv_iconst (v := (-1 : Int32)) hx hb dX0_oneValue_64 (by decide) ?_
            refine lv_ixor hx hb dX0_oneValue_65 ?_
            refine lv_iand hx hb dX0_oneValue_66 ?_
            exact fr_reti u_9 hx hb hr hlocks hK hP hD hS (by rw [fr_o0, if_neg c_1, if_neg c_2, if_neg c_3, if_neg c_4, if_pos c_5]; first | done | rfl) dX0_oneValue_67
        · refine lv_aload_n hx hb dX0_oneValue_45 rfl (lv_at hl 1 rfl) ?_
          refine lv_iload_n hx hb dX0_oneValue_46 rfl (lv_at hl 3 rfl) ?_
          refine fr_calli (As := [.int (p2)]) (rest := []) ⟨hx, hb, hml, hown, hts⟩ (met0_staying l G h a d _ to mk dn dm md kd lf rt vl ht sk wy p2 hdn) (cwV 1 hts (lw_V q139 q141 qs6 q27 q142) rfl rfl rfl (by decide +kernel) ⟨Nat.le_of_ble_eq_true rfl, Nat.le_of_ble_eq_true rfl⟩) (va_recv hK hP (ci := 0) (q0 := 0) rfl rfl) hK hP hD hS hA rfl hl.1 rfl (Nat.le_of_ble_eq_true rfl) dX0_oneValue_47 ⟨Nat.le_refl _, Nat.le_refl _⟩ (fun r_10 u_10 H locs hw_10 hP hD hS => ?_)
          have hw_10 : r_10 = fr_st to dm dn p2 := hw_10
          subst hw_10
          have hP : va_P G vwCl (w0 h a d to mk dn dm md kd lf rt vl ht sk u_10) H := hP
          have hD : va_D A (w0 h a d to mk dn dm md kd lf rt vl ht sk u_10) := hD
          exact fr_reti u_10 hx hb hr hlocks hK hP hD hS (by rw [fr_o0, if_neg c_1, if_neg c_2, if_neg c_3, if_pos c_4]; first | done | rfl) dX0_oneValue_50
      · refine lv_aload_n hx hb dX0_oneValue_31 rfl (lv_at hl 1 rfl) ?_
        refine lv_sipush (v := (255 : Int32)) hx hb dX0_oneValue_32 (by decide) ?_
        refine lv_iload_n hx hb dX0_oneValue_35 rfl (lv_at hl 3 rfl) ?_
        refine fr_calli (As := [.int ((255 : Int32)), .int (p2)]) (rest := []) ⟨hx, hb, hml, hown, hts⟩ (met0_until l G h a d _ to mk dn dm md kd lf rt vl ht sk wy ((255 : Int32)) p2 hdn) (cwV 2 hts (lw_V q163 q165 qs12 q27 q166) rfl rfl rfl (by decide +kernel) ⟨Nat.le_of_ble_eq_true rfl, Nat.le_of_ble_eq_true rfl⟩) (va_recv hK hP (ci := 0) (q0 := 0) rfl rfl) hK hP hD hS hA rfl hl.1 rfl (Nat.le_of_ble_eq_true rfl) dX0_oneValue_36 ⟨Nat.le_refl _, Nat.le_refl _⟩ (fun r_11 u_11 H locs hw_11 hP hD hS => ?_)
        have hw_11 : r_11 = fr_un to (fr_st to dm dn) ((255 : Int32)) p2 := hw_11
        subst hw_11
        have hP : va_P G vwCl (w0 h a d to mk dn dm md kd lf rt vl ht sk u_11) H := hP
        have hD : va_D A (w0 h a d to mk dn dm md kd lf rt vl ht sk u_11) := hD
        exact fr_reti u_11 hx hb hr hlocks hK hP hD hS (by rw [fr_o0, if_neg c_1, if_neg c_2, if_pos c_3]; first | done | rfl) dX0_oneValue_39
    · refine lv_aload_n hx hb dX0_oneValue_20 rfl (lv_at hl 1 rfl) ?_
      refine lv_iload_n hx hb dX0_oneValue_21 rfl (lv_at hl 3 rfl) ?_
      refine fr_calli (As := [.int (p2)]) (rest := []) ⟨hx, hb, hml, hown, hts⟩ (met0_someNext l G h a d _ to mk dn dm md kd lf rt vl ht sk wy p2 hdn) (cwV 1 hts (lw_V q135 q137 qs5 q27 q138) rfl rfl rfl (by decide +kernel) ⟨Nat.le_of_ble_eq_true rfl, Nat.le_of_ble_eq_true rfl⟩) (va_recv hK hP (ci := 0) (q0 := 0) rfl rfl) hK hP hD hS hA rfl hl.1 rfl (Nat.le_of_ble_eq_true rfl) dX0_oneValue_22 ⟨Nat.le_refl _, Nat.le_refl _⟩ (fun r_12 u_12 H locs hw_12 hP hD hS => ?_)
      have hw_12 : r_12 = fr_sn to (fr_st to dm dn) p2 := hw_12
      subst hw_12
      have hP : va_P G vwCl (w0 h a d to mk dn dm md kd lf rt vl ht sk u_12) H := hP
      have hD : va_D A (w0 h a d to mk dn dm md kd lf rt vl ht sk u_12) := hD
      exact fr_reti u_12 hx hb hr hlocks hK hP hD hS (by rw [fr_o0, if_neg c_1, if_pos c_2]; first | done | rfl) dX0_oneValue_25
  · refine lv_iload_n hx hb dX0_oneValue_13 rfl (lv_at hl 0 rfl) ?_
    exact fr_reti wy hx hb hr hlocks hK hP hD hS (by rw [fr_o0, if_pos c_1]; first | done | rfl) dX0_oneValue_14
set_option maxHeartbeats 4000000 in
theorem met0_twoValue (l : Launch) (G : va_G) (h : Nat) (a : Nat → Nat) (d : ClassId) (sz : Nat) (to : Nat → Int32) (mk : Nat → Int32) (dn : Nat) (dm : Nat → Int32) (md : Nat) (kd : Nat → Int32) (lf : Nat → Int32) (rt : Nat → Int32) (vl : Nat → Int32) (ht : Nat) (sk : Nat → Int32) (wy : Nat → Int32) (p1 : Int32) (p2 : Int32) (p3 : Int32) (hdn : dn ≤ 3) : fr_I l yX0_twoValue cX0_twoValue 4 (some .int) ({ frames := 5, cells := 0, slots := 0, locals := 122 } : Room) [.ref (h), .int (p1), .int (p2), .int (p3)] G d sz (w0 h a d to mk dn dm md kd lf rt vl ht sk wy) (fun (r : Int32) (u : Nat → Int32) => r = fr_t0 to (fr_st to dm dn) p1 p2 p3) (fun (u : Nat → Int32) => (w0 h a d to mk dn dm md kd lf rt vl ht sk u)) := by
  refine fr_startI RX0 rfl (by decide +kernel) (Nat.le_of_ble_eq_true rfl) ?_
  intro p e s m below meth c A ls hx hb hr hlocks hml hown hts hA hK hP hD hS hl
  have hl : lv_has ls 4 [(0, .ref (h)), (1, .int (p1)), (2, .int (p2)), (3, .int (p3))] := hl
  refine lv_iload_n hx hb dX0_twoValue_0 rfl (lv_at hl 1 rfl) ?_
  refine lv_bipush (v := (8 : Int32)) hx hb dX0_twoValue_1 (by decide) ?_
  refine lv_icmp_ne (tgt := 10) hx hb dX0_twoValue_3 (by decide) (fun c_1 => ?_) (fun c_1 => ?_)
  · refine lv_iload_n hx hb dX0_twoValue_10 rfl (lv_at hl 1 rfl) ?_
    refine lv_bipush (v := (9 : Int32)) hx hb dX0_twoValue_11 (by decide) ?_
    refine lv_icmp_ne (tgt := 20) hx hb dX0_twoValue_13 (by decide) (fun c_2 => ?_) (fun c_2 => ?_)
    · refine lv_iload_n hx hb dX0_twoValue_20 rfl (lv_at hl 1 rfl) ?_
      refine lv_bipush (v := (10 : Int32)) hx hb dX0_twoValue_21 (by decide) ?_
      refine lv_icmp_ne (tgt := 35) hx hb dX0_twoValue_23 (by decide) (fun c_3 => ?_) (fun c_3 => ?_)
      · refine lv_aload_n hx hb dX0_twoValue_35 rfl (lv_at hl 0 rfl) ?_
        refine lv_iload_n hx hb dX0_twoValue_36 rfl (lv_at hl 2 rfl) ?_
        refine lv_iload_n hx hb dX0_twoValue_37 rfl (lv_at hl 3 rfl) ?_
        refine fr_calli (As := [.int (p2), .int (p3)]) (rest := []) ⟨hx, hb, hml, hown, hts⟩ (met0_allUntil l G h a d _ to mk dn dm md kd lf rt vl ht sk wy p2 p3 hdn) (cwV 2 hts (lw_V q171 q173 qs14 q27 q174) rfl rfl rfl (by decide +kernel) ⟨Nat.le_of_ble_eq_true rfl, Nat.le_of_ble_eq_true rfl⟩) (va_recv hK hP (ci := 0) (q0 := 0) rfl rfl) hK hP hD hS hA rfl hl.1 rfl (Nat.le_of_ble_eq_true rfl) dX0_twoValue_38 ⟨Nat.le_refl _, Nat.le_refl _⟩ (fun r_4 u_4 H locs hw_4 hP hD hS => ?_)
        have hw_4 : r_4 = fr_au to (fr_st to dm dn) p2 p3 := hw_4
        subst hw_4
        have hP : va_P G vwCl (w0 h a d to mk dn dm md kd lf rt vl ht sk u_4) H := hP
        have hD : va_D A (w0 h a d to mk dn dm md kd lf rt vl ht sk u_4) := hD
        exact fr_reti u_4 hx hb hr hlocks hK hP hD hS (by rw [fr_t0, if_neg c_1, if_neg c_2, if_neg c_3]; first | done | rfl) dX0_twoValue_41
      · refine lv_aload_n hx hb dX0_twoValue_26 rfl (lv_at hl 0 rfl) ?_
        refine lv_iload_n hx hb dX0_twoValue_27 rfl (lv_at hl 2 rfl) ?_
        refine lv_iload_n hx hb dX0_twoValue_28 rfl (lv_at hl 3 rfl) ?_
        refine fr_calli (As := [.int (p2), .int (p3)]) (rest := []) ⟨hx, hb, hml, hown, hts⟩ (met0_until l G h a d _ to mk dn dm md kd lf rt vl ht sk wy p2 p3 hdn) (cwV 2 hts (lw_V q163 q165 qs12 q27 q166) rfl rfl rfl (by decide +kernel) ⟨Nat.le_of_ble_eq_true rfl, Nat.le_of_ble_eq_true rfl⟩) (va_recv hK hP (ci := 0) (q0 := 0) rfl rfl) hK hP hD hS hA rfl hl.1 rfl (Nat.le_of_ble_eq_true rfl) dX0_twoValue_29 ⟨Nat.le_refl _, Nat.le_refl _⟩ (fun r_5 u_5 H locs hw_5 hP hD hS => ?_)
        have hw_5 : r_5 = fr_un to (fr_st to dm dn) p2 p3 := hw_5
        subst hw_5
        have hP : va_P G vwCl (w0 h a d to mk dn dm md kd lf rt vl ht sk u_5) H := hP
        have hD : va_D A (w0 h a d to mk dn dm md kd lf rt vl ht sk u_5) := hD
        refine lv_goto (tgt := 41) hx hb dX0_twoValue_32 (by decide) ?_
        exact fr_reti u_5 hx hb hr hlocks hK hP hD hS (by rw [fr_t0, if_neg c_1, if_neg c_2, if_pos c_3]; first | done | rfl) dX0_twoValue_41
    · refine lv_iload_n hx hb dX0_twoValue_16 rfl (lv_at hl 2 rfl) ?_
      refine lv_iload_n hx hb dX0_twoValue_17 rfl (lv_at hl 3 rfl) ?_
      refine lv_ior hx hb dX0_twoValue_18 ?_
      exact fr_reti wy hx hb hr hlocks hK hP hD hS (by rw [fr_t0, if_neg c_1, if_pos c_2]; first | done | rfl) dX0_twoValue_19
  · refine lv_iload_n hx hb dX0_twoValue_6 rfl (lv_at hl 2 rfl) ?_
    refine lv_iload_n hx hb dX0_twoValue_7 rfl (lv_at hl 3 rfl) ?_
    refine lv_iand hx hb dX0_twoValue_8 ?_
    exact fr_reti wy hx hb hr hlocks hK hP hD hS (by rw [fr_t0, if_pos c_1]; first | done | rfl) dX0_twoValue_9
set_option maxHeartbeats 4000000 in
theorem met0_valueOf (l : Launch) (G : va_G) (h : Nat) (a : Nat → Nat) (d : ClassId) (sz : Nat) (to : Nat → Int32) (mk : Nat → Int32) (dn : Nat) (dm : Nat → Int32) (md : Nat) (kd : Nat → Int32) (lf : Nat → Int32) (rt : Nat → Int32) (vl : Nat → Int32) (ht : Nat) (sk : Nat → Int32) (wy : Nat → Int32) (k : Nat) (hdn : dn ≤ 3) (hk : k < 20) (hwf : ∀ i, i ≤ k → (kd i = 0 → vp_in (lf i) 4) ∧ (¬ kd i = 0 → vp_in (lf i) 20 ∧ vp_in (rt i) 20)) : fr_I l yX0_valueOf cX0_valueOf 4 (some .int) ({ frames := 6, cells := 0, slots := 0, locals := 145 } : Room) [.ref (h), .int (nI (k))] G d sz (w0 h a d to mk dn dm md kd lf rt vl ht sk wy) (fun (r : Int32) (u : Nat → Int32) => r = fr_v0 to mk (fr_st to dm dn) kd lf rt vl (k + 1) k) (fun (u : Nat → Int32) => (w0 h a d to mk dn dm md kd lf rt (fr_v0 to mk (fr_st to dm dn) kd lf rt vl (k + 1)) ht sk u)) := by
  refine fr_startI RX0 rfl (by decide +kernel) (Nat.le_of_ble_eq_true rfl) ?_
  intro p e s m below meth c A ls hx hb hr hlocks hml hown hts hA hK hP hD hS hl
  have hl : lv_has ls 4 [(0, .ref (h)), (1, .int (nI (k)))] := hl
  refine lv_iconst (v := (0 : Int32)) hx hb dX0_valueOf_0 (by decide) ?_
  refine lv_istore_n (lv' := [(2, .int ((0 : Int32))), (0, .ref (h)), (1, .int (nI (k)))]) hx hb dX0_valueOf_1 rfl hl (by decide) rfl (fun ls hl => ?_)
  refine fr_for (I := fun (i : Nat) (H : Heap) (locs : List Loc) (ls : Array Slot) => ∃ (wy1 : Nat → Int32), va_P G vwCl (w0 h a d to mk dn dm md kd lf rt (fr_v0 to mk (fr_st to dm dn) kd lf rt vl i) ht sk wy1) H ∧ va_D A (w0 h a d to mk dn dm md kd lf rt (fr_v0 to mk (fr_st to dm dn) kd lf rt vl i) ht sk wy1) ∧ va_S A s.heap H locs ∧ lv_has ls 4 [(2, .int (nI (i))), (0, .ref (h)), (1, .int (nI (k)))]) (k + 1) ?_ ?_ 0 (Nat.zero_le _) ⟨wy, hP, hD, hS, lv_sub hl [0, 1, 2] rfl⟩
  · intro H locs ls hI
    obtain ⟨wy1, hP, hD, hS, hl⟩ := hI
    refine lv_iload_n hx hb dX0_valueOf_2 rfl (lv_at hl 0 rfl) ?_
    refine lv_iload_n hx hb dX0_valueOf_3 rfl (lv_at hl 2 rfl) ?_
    refine lv_icmp_gt (tgt := 108) hx hb dX0_valueOf_4 (by decide) (fun _ => ?_) (fun q_ => absurd (nI_lt (Nat.lt_succ_self k) (by omega)) q_)
    refine lv_aload_n hx hb dX0_valueOf_108 rfl (lv_at hl 1 rfl) ?_
    refine va_get (D := G) (ci := 0) (v := .ref (a 8)) (C := RX0) (T := TX0) (N := 12) hx hb hts in_X0 hown hK hP 0 rfl rfl 8 (by decide) (hts _ q45) (fun _ h9 => h9) rfl dX0_valueOf_109 ?_
    refine lv_iload_n hx hb dX0_valueOf_112 rfl (lv_at hl 2 rfl) ?_
    refine fr_iald hx hb hK hP 7 0 rfl rfl (by omega) (by decide) dX0_valueOf_113 ?_
    exact fr_reti wy1 hx hb hr hlocks hK hP hD hS rfl dX0_valueOf_114
  · intro i hi ih_i H locs ls hI
    obtain ⟨wy1, hP, hD, hS, hl⟩ := hI
    refine lv_iload_n hx hb dX0_valueOf_2 rfl (lv_at hl 0 rfl) ?_
    refine lv_iload_n hx hb dX0_valueOf_3 rfl (lv_at hl 2 rfl) ?_
    refine lv_icmp_gt (tgt := 108) hx hb dX0_valueOf_4 (by decide) (fun q_ => absurd q_ (nI_nlt (by omega) (by omega))) (fun _ => ?_)
    refine lv_aload_n hx hb dX0_valueOf_7 rfl (lv_at hl 1 rfl) ?_
    refine va_get (D := G) (ci := 0) (v := .ref (a 5)) (C := RX0) (T := TX0) (N := 12) hx hb hts in_X0 hown hK hP 0 rfl rfl 5 (by decide) (hts _ q42) (fun _ h9 => h9) rfl dX0_valueOf_8 ?_
    refine lv_iload_n hx hb dX0_valueOf_11 rfl (lv_at hl 0 rfl) ?_
    refine fr_iald hx hb hK hP 4 0 rfl rfl (by omega) (by decide) dX0_valueOf_12 ?_
    refine lv_istore_n (lv' := [(3, .int (kd i)), (2, .int (nI (i))), (0, .ref (h)), (1, .int (nI (k)))]) hx hb dX0_valueOf_13 rfl hl (by decide) rfl (fun ls hl => ?_)
    refine lv_iload_n hx hb dX0_valueOf_14 rfl (lv_at hl 0 rfl) ?_
    refine lv_if_ne (tgt := 38) hx hb dX0_valueOf_15 (by decide) (fun c_1 => ?_) (fun c_1 => ?_)
    · refine lv_iload_n hx hb dX0_valueOf_38 rfl (lv_at hl 0 rfl) ?_
      refine lv_bipush (v := (8 : Int32)) hx hb dX0_valueOf_39 (by decide) ?_
      refine lv_icmp_ge (tgt := 69) hx hb dX0_valueOf_41 (by decide) (fun c_2 => ?_) (fun c_2 => ?_)
      · refine lv_aload_n hx hb dX0_valueOf_69 rfl (lv_at hl 2 rfl) ?_
        refine va_get (D := G) (ci := 0) (v := .ref (a 8)) (C := RX0) (T := TX0) (N := 12) hx hb hts in_X0 hown hK hP 0 rfl rfl 8 (by decide) (hts _ q45) (fun _ h9 => h9) rfl dX0_valueOf_70 ?_
        refine lv_iload_n hx hb dX0_valueOf_73 rfl (lv_at hl 1 rfl) ?_
        refine lv_aload_n hx hb dX0_valueOf_74 rfl (lv_at hl 2 rfl) ?_
        refine lv_iload_n hx hb dX0_valueOf_75 rfl (lv_at hl 0 rfl) ?_
        refine lv_aload_n hx hb dX0_valueOf_76 rfl (lv_at hl 2 rfl) ?_
        refine va_get (D := G) (ci := 0) (v := .ref (a 8)) (C := RX0) (T := TX0) (N := 12) hx hb hts in_X0 hown hK hP 0 rfl rfl 8 (by decide) (hts _ q45) (fun _ h9 => h9) rfl dX0_valueOf_77 ?_
        refine lv_aload_n hx hb dX0_valueOf_80 rfl (lv_at hl 2 rfl) ?_
        refine va_get (D := G) (ci := 0) (v := .ref (a 6)) (C := RX0) (T := TX0) (N := 12) hx hb hts in_X0 hown hK hP 0 rfl rfl 6 (by decide) (hts _ q43) (fun _ h9 => h9) rfl dX0_valueOf_81 ?_
        refine lv_iload_n hx hb dX0_valueOf_84 rfl (lv_at hl 1 rfl) ?_
        refine fr_iald hx hb hK hP 5 0 rfl rfl (by omega) (by decide) dX0_valueOf_85 ?_
        refine va_iald hx hb hK hP 7 0 rfl rfl ((hwf i (by omega)).2 c_1).1 dX0_valueOf_86 ?_
        refine lv_aload_n hx hb dX0_valueOf_87 rfl (lv_at hl 2 rfl) ?_
        refine va_get (D := G) (ci := 0) (v := .ref (a 8)) (C := RX0) (T := TX0) (N := 12) hx hb hts in_X0 hown hK hP 0 rfl rfl 8 (by decide) (hts _ q45) (fun _ h9 => h9) rfl dX0_valueOf_88 ?_
        refine lv_aload_n hx hb dX0_valueOf_91 rfl (lv_at hl 2 rfl) ?_
        refine va_get (D := G) (ci := 0) (v := .ref (a 7)) (C := RX0) (T := TX0) (N := 12) hx hb hts in_X0 hown hK hP 0 rfl rfl 7 (by decide) (hts _ q44) (fun _ h9 => h9) rfl dX0_valueOf_92 ?_
        refine lv_iload_n hx hb dX0_valueOf_95 rfl (lv_at hl 1 rfl) ?_
        refine fr_iald hx hb hK hP 6 0 rfl rfl (by omega) (by decide) dX0_valueOf_96 ?_
        refine va_iald hx hb hK hP 7 0 rfl rfl ((hwf i (by omega)).2 c_1).2 dX0_valueOf_97 ?_
        refine fr_calli (As := [.int (kd i), .int ((fr_v0 to mk (fr_st to dm dn) kd lf rt vl i) (lf i).toNatClampNeg), .int ((fr_v0 to mk (fr_st to dm dn) kd lf rt vl i) (rt i).toNatClampNeg)]) (rest := [.int (nI (i)), .ref (a 8)]) ⟨hx, hb, hml, hown, hts⟩ (met0_twoValue l G h a d _ to mk dn dm md kd lf rt (fr_v0 to mk (fr_st to dm dn) kd lf rt vl i) ht sk wy1 (kd i) ((fr_v0 to mk (fr_st to dm dn) kd lf rt vl i) (lf i).toNatClampNeg) ((fr_v0 to mk (fr_st to dm dn) kd lf rt vl i) (rt i).toNatClampNeg) hdn) (cwV 3 hts (lw_V q167 q169 qs13 q27 q170) rfl rfl rfl (by decide +kernel) ⟨Nat.le_of_ble_eq_true rfl, Nat.le_of_ble_eq_true rfl⟩) (va_recv hK hP (ci := 0) (q0 := 0) rfl rfl) hK hP hD hS hA rfl hl.1 rfl (Nat.le_of_ble_eq_true rfl) dX0_valueOf_98 ⟨Nat.le_refl _, Nat.le_refl _⟩ (fun r_3 u_3 H locs hw_3 hP hD hS => ?_)
        have hw_3 : r_3 = fr_t0 to (fr_st to dm dn) (kd i) ((fr_v0 to mk (fr_st to dm dn) kd lf rt vl i) (lf i).toNatClampNeg) ((fr_v0 to mk (fr_st to dm dn) kd lf rt vl i) (rt i).toNatClampNeg) := hw_3
        subst hw_3
        have hP : va_P G vwCl (w0 h a d to mk dn dm md kd lf rt (fr_v0 to mk (fr_st to dm dn) kd lf rt vl i) ht sk u_3) H := hP
        have hD : va_D A (w0 h a d to mk dn dm md kd lf rt (fr_v0 to mk (fr_st to dm dn) kd lf rt vl i) ht sk u_3) := hD
        refine fr_iast hx hb hK hP hD hS 7 0 rfl rfl (by omega) (by decide) dX0_valueOf_101 (fun H locs hP hD hS => ?_)
        have hP : va_P G vwCl (w0 h a d to mk dn dm md kd lf rt (upd (fr_v0 to mk (fr_st to dm dn) kd lf rt vl i) i (fr_t0 to (fr_st to dm dn) (kd i) ((fr_v0 to mk (fr_st to dm dn) kd lf rt vl i) (lf i).toNatClampNeg) ((fr_v0 to mk (fr_st to dm dn) kd lf rt vl i) (rt i).toNatClampNeg))) ht sk u_3) H := hP
        have hD : va_D A (w0 h a d to mk dn dm md kd lf rt (upd (fr_v0 to mk (fr_st to dm dn) kd lf rt vl i) i (fr_t0 to (fr_st to dm dn) (kd i) ((fr_v0 to mk (fr_st to dm dn) kd lf rt vl i) (lf i).toNatClampNeg) ((fr_v0 to mk (fr_st to dm dn) kd lf rt vl i) (rt i).toNatClampNeg))) ht sk u_3) := hD
        refine lv_iinc (v := nI (i + 1)) (lv' := [(2, .int (nI (i + 1))), (3, .int (kd i)), (0, .ref (h)), (1, .int (nI (k)))]) hx hb dX0_valueOf_102 hl (k := 1) rfl (nI_1 _) (by decide) rfl (fun ls hl => ?_)
        refine lv_goto (tgt := 2) hx hb dX0_valueOf_105 (by decide) ?_
        have e_1 : fr_v0 to mk (fr_st to dm dn) kd lf rt vl (i + 1) = upd (fr_v0 to mk (fr_st to dm dn) kd lf rt vl i) i (fr_t0 to (fr_st to dm dn) (kd i) ((fr_v0 to mk (fr_st to dm dn) kd lf rt vl i) (lf i).toNatClampNeg) ((fr_v0 to mk (fr_st to dm dn) kd lf rt vl i) (rt i).toNatClampNeg)) := (by rw [fr_v0, fr_e0, if_neg c_1, if_neg (fr_ge c_2)])
        exact ih_i _ _ _ ⟨u_3, (by rw [e_1]; exact hP), (by rw [e_1]; exact hD), hS, lv_sub hl [0, 2, 3] rfl⟩
      · refine lv_aload_n hx hb dX0_valueOf_44 rfl (lv_at hl 2 rfl) ?_
        refine va_get (D := G) (ci := 0) (v := .ref (a 8)) (C := RX0) (T := TX0) (N := 12) hx hb hts in_X0 hown hK hP 0 rfl rfl 8 (by decide) (hts _ q45) (fun _ h9 => h9) rfl dX0_valueOf_45 ?_
        refine lv_iload_n hx hb dX0_valueOf_48 rfl (lv_at hl 1 rfl) ?_
        refine lv_aload_n hx hb dX0_valueOf_49 rfl (lv_at hl 2 rfl) ?_
        refine lv_iload_n hx hb dX0_valueOf_50 rfl (lv_at hl 0 rfl) ?_
        refine lv_aload_n hx hb dX0_valueOf_51 rfl (lv_at hl 2 rfl) ?_
        refine va_get (D := G) (ci := 0) (v := .ref (a 8)) (C := RX0) (T := TX0) (N := 12) hx hb hts in_X0 hown hK hP 0 rfl rfl 8 (by decide) (hts _ q45) (fun _ h9 => h9) rfl dX0_valueOf_52 ?_
        refine lv_aload_n hx hb dX0_valueOf_55 rfl (lv_at hl 2 rfl) ?_
        refine va_get (D := G) (ci := 0) (v := .ref (a 6)) (C := RX0) (T := TX0) (N := 12) hx hb hts in_X0 hown hK hP 0 rfl rfl 6 (by decide) (hts _ q43) (fun _ h9 => h9) rfl dX0_valueOf_56 ?_
        refine lv_iload_n hx hb dX0_valueOf_59 rfl (lv_at hl 1 rfl) ?_
        refine fr_iald hx hb hK hP 5 0 rfl rfl (by omega) (by decide) dX0_valueOf_60 ?_
        refine va_iald hx hb hK hP 7 0 rfl rfl ((hwf i (by omega)).2 c_1).1 dX0_valueOf_61 ?_
        refine fr_calli (As := [.int (kd i), .int ((fr_v0 to mk (fr_st to dm dn) kd lf rt vl i) (lf i).toNatClampNeg)]) (rest := [.int (nI (i)), .ref (a 8)]) ⟨hx, hb, hml, hown, hts⟩ (met0_oneValue l G h a d _ to mk dn dm md kd lf rt (fr_v0 to mk (fr_st to dm dn) kd lf rt vl i) ht sk wy1 (kd i) ((fr_v0 to mk (fr_st to dm dn) kd lf rt vl i) (lf i).toNatClampNeg) hdn) (cwV 2 hts (lw_V q131 q133 qs4 q27 q134) rfl rfl rfl (by decide +kernel) ⟨Nat.le_of_ble_eq_true rfl, Nat.le_of_ble_eq_true rfl⟩) (va_recv hK hP (ci := 0) (q0 := 0) rfl rfl) hK hP hD hS hA rfl hl.1 rfl (Nat.le_of_ble_eq_true rfl) dX0_valueOf_62 ⟨Nat.le_refl _, Nat.le_refl _⟩ (fun r_4 u_4 H locs hw_4 hP hD hS => ?_)
        have hw_4 : r_4 = fr_o0 to (fr_st to dm dn) (kd i) ((fr_v0 to mk (fr_st to dm dn) kd lf rt vl i) (lf i).toNatClampNeg) := hw_4
        subst hw_4
        have hP : va_P G vwCl (w0 h a d to mk dn dm md kd lf rt (fr_v0 to mk (fr_st to dm dn) kd lf rt vl i) ht sk u_4) H := hP
        have hD : va_D A (w0 h a d to mk dn dm md kd lf rt (fr_v0 to mk (fr_st to dm dn) kd lf rt vl i) ht sk u_4) := hD
        refine fr_iast hx hb hK hP hD hS 7 0 rfl rfl (by omega) (by decide) dX0_valueOf_65 (fun H locs hP hD hS => ?_)
        have hP : va_P G vwCl (w0 h a d to mk dn dm md kd lf rt (upd (fr_v0 to mk (fr_st to dm dn) kd lf rt vl i) i (fr_o0 to (fr_st to dm dn) (kd i) ((fr_v0 to mk (fr_st to dm dn) kd lf rt vl i) (lf i).toNatClampNeg))) ht sk u_4) H := hP
        have hD : va_D A (w0 h a d to mk dn dm md kd lf rt (upd (fr_v0 to mk (fr_st to dm dn) kd lf rt vl i) i (fr_o0 to (fr_st to dm dn) (kd i) ((fr_v0 to mk (fr_st to dm dn) kd lf rt vl i) (lf i).toNatClampNeg))) ht sk u_4) := hD
        refine lv_goto (tgt := 102) hx hb dX0_valueOf_66 (by decide) ?_
        refine lv_iinc (v := nI (i + 1)) (lv' := [(2, .int (nI (i + 1))), (3, .int (kd i)), (0, .ref (h)), (1, .int (nI (k)))]) hx hb dX0_valueOf_102 hl (k := 1) rfl (nI_1 _) (by decide) rfl (fun ls hl => ?_)
        refine lv_goto (tgt := 2) hx hb dX0_valueOf_105 (by decide) ?_
        have e_1 : fr_v0 to mk (fr_st to dm dn) kd lf rt vl (i + 1) = upd (fr_v0 to mk (fr_st to dm dn) kd lf rt vl i) i (fr_o0 to (fr_st to dm dn) (kd i) ((fr_v0 to mk (fr_st to dm dn) kd lf rt vl i) (lf i).toNatClampNeg)) := (by rw [fr_v0, fr_e0, if_neg c_1, if_pos (fr_nle c_2)])
        exact ih_i _ _ _ ⟨u_4, (by rw [e_1]; exact hP), (by rw [e_1]; exact hD), hS, lv_sub hl [0, 2, 3] rfl⟩
    · refine lv_aload_n hx hb dX0_valueOf_18 rfl (lv_at hl 2 rfl) ?_
      refine va_get (D := G) (ci := 0) (v := .ref (a 8)) (C := RX0) (T := TX0) (N := 12) hx hb hts in_X0 hown hK hP 0 rfl rfl 8 (by decide) (hts _ q45) (fun _ h9 => h9) rfl dX0_valueOf_19 ?_
      refine lv_iload_n hx hb dX0_valueOf_22 rfl (lv_at hl 1 rfl) ?_
      refine lv_aload_n hx hb dX0_valueOf_23 rfl (lv_at hl 2 rfl) ?_
      refine va_get (D := G) (ci := 0) (v := .ref (a 1)) (C := RX0) (T := TX0) (N := 12) hx hb hts in_X0 hown hK hP 0 rfl rfl 1 (by decide) (hts _ q38) (fun _ h9 => h9) rfl dX0_valueOf_24 ?_
      refine lv_aload_n hx hb dX0_valueOf_27 rfl (lv_at hl 2 rfl) ?_
      refine va_get (D := G) (ci := 0) (v := .ref (a 6)) (C := RX0) (T := TX0) (N := 12) hx hb hts in_X0 hown hK hP 0 rfl rfl 6 (by decide) (hts _ q43) (fun _ h9 => h9) rfl dX0_valueOf_28 ?_
      refine lv_iload_n hx hb dX0_valueOf_31 rfl (lv_at hl 1 rfl) ?_
      refine fr_iald hx hb hK hP 5 0 rfl rfl (by omega) (by decide) dX0_valueOf_32 ?_
      refine va_iald hx hb hK hP 2 0 rfl rfl ((hwf i (by omega)).1 c_1) dX0_valueOf_33 ?_
      refine fr_iast hx hb hK hP hD hS 7 0 rfl rfl (by omega) (by decide) dX0_valueOf_34 (fun H locs hP hD hS => ?_)
      have hP : va_P G vwCl (w0 h a d to mk dn dm md kd lf rt (upd (fr_v0 to mk (fr_st to dm dn) kd lf rt vl i) i (mk (lf i).toNatClampNeg)) ht sk wy1) H := hP
      have hD : va_D A (w0 h a d to mk dn dm md kd lf rt (upd (fr_v0 to mk (fr_st to dm dn) kd lf rt vl i) i (mk (lf i).toNatClampNeg)) ht sk wy1) := hD
      refine lv_goto (tgt := 102) hx hb dX0_valueOf_35 (by decide) ?_
      refine lv_iinc (v := nI (i + 1)) (lv' := [(2, .int (nI (i + 1))), (3, .int (kd i)), (0, .ref (h)), (1, .int (nI (k)))]) hx hb dX0_valueOf_102 hl (k := 1) rfl (nI_1 _) (by decide) rfl (fun ls hl => ?_)
      refine lv_goto (tgt := 2) hx hb dX0_valueOf_105 (by decide) ?_
      have e_1 : fr_v0 to mk (fr_st to dm dn) kd lf rt vl (i + 1) = upd (fr_v0 to mk (fr_st to dm dn) kd lf rt vl i) i (mk (lf i).toNatClampNeg) := (by rw [fr_v0, fr_e0, if_pos c_1])
      exact ih_i _ _ _ ⟨wy1, (by rw [e_1]; exact hP), (by rw [e_1]; exact hD), hS, lv_sub hl [0, 2, 3] rfl⟩
end
section
/-! FairRuns: holds .. knots -/
set_option maxRecDepth 100000
set_option maxHeartbeats 4000000 in
theorem met0_holds (l : Launch) (G : va_G) (h : Nat) (a : Nat → Nat) (d : ClassId) (sz : Nat) (to : Nat → Int32) (mk : Nat → Int32) (dn : Nat) (dm : Nat → Int32) (md : Nat) (kd : Nat → Int32) (lf : Nat → Int32) (rt : Nat → Int32) (vl : Nat → Int32) (ht : Nat) (sk : Nat → Int32) (wy : Nat → Int32) (hdn : dn ≤ 3) (hmd : md ≤ 20) (hht : ht ≤ 6) (hsk : ∀ j, j < ht → ∃ k, k < md ∧ sk j = nI k) (hwf : ∀ i, i < md → (kd i = 0 → vp_in (lf i) 4) ∧ (¬ kd i = 0 → vp_in (lf i) 20 ∧ vp_in (rt i) 20)) : fr_I l yX0_holds cX0_holds 1 (some .int) ({ frames := 7, cells := 0, slots := 0, locals := 168 } : Room) [.ref (h)] G d sz (w0 h a d to mk dn dm md kd lf rt vl ht sk wy) (fun (r : Int32) (u : (Nat → Int32) × (Nat → Int32)) => r = if ht = 0 then -4 else fr_v0 to mk (fr_st to dm dn) kd lf rt vl ((sk (ht - 1)).toNatClampNeg + 1) (sk (ht - 1)).toNatClampNeg) (fun (u : (Nat → Int32) × (Nat → Int32)) => (w0 h a d to mk dn dm md kd lf rt (u.1) ht sk (u.2))) := by
  refine fr_startI RX0 rfl (by decide +kernel) (Nat.le_of_ble_eq_true rfl) ?_
  intro p e s m below meth c A ls hx hb hr hlocks hml hown hts hA hK hP hD hS hl
  have hl : lv_has ls 1 [(0, .ref (h))] := hl
  refine lv_aload_n hx hb dX0_holds_0 rfl (lv_at hl 0 rfl) ?_
  refine va_get (D := G) (ci := 0) (v := .int (nI (ht))) (C := RX0) (T := TX0) (N := 12) hx hb hts in_X0 hown hK hP 0 rfl rfl 9 (by decide) (hts _ q46) (fun _ h9 => h9) rfl dX0_holds_1 ?_
  refine lv_if_ne (tgt := 12) hx hb dX0_holds_4 (by decide) (fun c_1 => ?_) (fun c_1 => ?_)
  · have h0 : ht ≠ 0 := fun q => c_1 (by rw [q]; rfl)
    obtain ⟨k0, hk0, ek0⟩ := hsk (ht - 1) (by omega)
    refine lv_aload_n hx hb dX0_holds_12 rfl (lv_at hl 0 rfl) ?_
    refine lv_aload_n hx hb dX0_holds_13 rfl (lv_at hl 0 rfl) ?_
    refine va_get (D := G) (ci := 0) (v := .ref (a 10)) (C := RX0) (T := TX0) (N := 12) hx hb hts in_X0 hown hK hP 0 rfl rfl 10 (by decide) (hts _ q47) (fun _ h9 => h9) rfl dX0_holds_14 ?_
    refine lv_aload_n hx hb dX0_holds_17 rfl (lv_at hl 0 rfl) ?_
    refine va_get (D := G) (ci := 0) (v := .int (nI (ht))) (C := RX0) (T := TX0) (N := 12) hx hb hts in_X0 hown hK hP 0 rfl rfl 9 (by decide) (hts _ q46) (fun _ h9 => h9) rfl dX0_holds_18 ?_
    refine lv_iconst (v := (1 : Int32)) hx hb dX0_holds_21 (by decide) ?_
    refine lv_isub hx hb dX0_holds_22 ?_
    refine fr_top (pk_sub (a := ht) (b := 1) (by omega)) ?_
    refine fr_iald hx hb hK hP 8 0 rfl rfl (by omega) (by decide) dX0_holds_23 ?_
    refine fr_top ek0 ?_
    refine fr_calli (As := [.int (nI (k0))]) (rest := []) ⟨hx, hb, hml, hown, hts⟩ (met0_valueOf l G h a d _ to mk dn dm md kd lf rt vl ht sk wy k0 hdn (by omega) (fun i hi => hwf i (by omega))) (cwV 1 hts (lw_V q127 q129 qs3 q27 q130) rfl rfl rfl (by decide +kernel) ⟨Nat.le_of_ble_eq_true rfl, Nat.le_of_ble_eq_true rfl⟩) (va_recv hK hP (ci := 0) (q0 := 0) rfl rfl) hK hP hD hS hA rfl hl.1 rfl (Nat.le_of_ble_eq_true rfl) dX0_holds_24 ⟨Nat.le_refl _, Nat.le_refl _⟩ (fun r_2 u_2 H locs hw_2 hP hD hS => ?_)
    have hw_2 : r_2 = fr_v0 to mk (fr_st to dm dn) kd lf rt vl (k0 + 1) k0 := hw_2
    subst hw_2
    have hP : va_P G vwCl (w0 h a d to mk dn dm md kd lf rt (fr_v0 to mk (fr_st to dm dn) kd lf rt vl (k0 + 1)) ht sk u_2) H := hP
    have hD : va_D A (w0 h a d to mk dn dm md kd lf rt (fr_v0 to mk (fr_st to dm dn) kd lf rt vl (k0 + 1)) ht sk u_2) := hD
    exact fr_reti (fr_v0 to mk (fr_st to dm dn) kd lf rt vl (k0 + 1), u_2) hx hb hr hlocks hK hP hD hS (by rw [if_neg h0, ek0, nI_clamp (by omega)]) dX0_holds_27
  · refine lv_bipush (v := (-4 : Int32)) hx hb dX0_holds_7 (by decide) ?_
    refine lv_goto (tgt := 27) hx hb dX0_holds_9 (by decide) ?_
    exact fr_reti (vl, wy) hx hb hr hlocks hK hP hD hS (by rw [if_pos ((nI_eq (a := ht) (b := 0) (by omega) (by decide)).mp c_1)]) dX0_holds_27
set_option maxHeartbeats 4000000 in
theorem met0_alike (l : Launch) (G : va_G) (h : Nat) (a : Nat → Nat) (d : ClassId) (sz : Nat) (to : Nat → Int32) (mk : Nat → Int32) (dn : Nat) (dm : Nat → Int32) (md : Nat) (kd : Nat → Int32) (lf : Nat → Int32) (rt : Nat → Int32) (vl : Nat → Int32) (ht : Nat) (sk : Nat → Int32) (wy : Nat → Int32) (hdn : dn ≤ 3) (hmd : md ≤ 20) (hht : ht ≤ 6) (hsk : ∀ j, j < ht → ∃ k, k < md ∧ sk j = nI k) (hwf : ∀ i, i < md → (kd i = 0 → vp_in (lf i) 4) ∧ (¬ kd i = 0 → vp_in (lf i) 20 ∧ vp_in (rt i) 20)) : fr_I l yX0_alike cX0_alike 3 (some .boolean) ({ frames := 7, cells := 0, slots := 0, locals := 168 } : Room) [.ref (h)] G d sz (w0 h a d to mk dn dm md kd lf rt vl ht sk wy) (fun (r : Int32) (u : (Nat → Int32) × (Nat → Int32)) => r = fr_b (decide (2 ≤ ht) && decide (fr_v0 to mk (fr_st to dm dn) kd lf rt vl md (sk (ht - 1)).toNatClampNeg = fr_v0 to mk (fr_st to dm dn) kd lf rt vl md (sk (ht - 2)).toNatClampNeg))) (fun (u : (Nat → Int32) × (Nat → Int32)) => (w0 h a d to mk dn dm md kd lf rt (u.1) ht sk (u.2))) := by
  refine fr_startI RX0 rfl (by decide +kernel) (Nat.le_of_ble_eq_true rfl) ?_
  intro p e s m below meth c A ls hx hb hr hlocks hml hown hts hA hK hP hD hS hl
  have hl : lv_has ls 3 [(0, .ref (h))] := hl
  refine lv_aload_n hx hb dX0_alike_0 rfl (lv_at hl 0 rfl) ?_
  refine va_get (D := G) (ci := 0) (v := .int (nI (ht))) (C := RX0) (T := TX0) (N := 12) hx hb hts in_X0 hown hK hP 0 rfl rfl 9 (by decide) (hts _ q46) (fun _ h9 => h9) rfl dX0_alike_1 ?_
  refine lv_iconst (v := (2 : Int32)) hx hb dX0_alike_4 (by decide) ?_
  refine lv_icmp_ge (tgt := 10) hx hb dX0_alike_5 (by decide) (fun c_1 => ?_) (fun c_1 => ?_)
  · have h2 : 2 ≤ ht := (nI_leI (a := 2) (b := ht) (by decide) (by omega)).mp c_1
    obtain ⟨ka, hka, eka⟩ := hsk (ht - 1) (by omega)
    obtain ⟨kb, hkb, ekb⟩ := hsk (ht - 2) (by omega)
    have em : md - 1 + 1 = md := by omega
    refine lv_aload_n hx hb dX0_alike_10 rfl (lv_at hl 0 rfl) ?_
    refine va_get (D := G) (ci := 0) (v := .ref (a 10)) (C := RX0) (T := TX0) (N := 12) hx hb hts in_X0 hown hK hP 0 rfl rfl 10 (by decide) (hts _ q47) (fun _ h9 => h9) rfl dX0_alike_11 ?_
    refine lv_aload_n hx hb dX0_alike_14 rfl (lv_at hl 0 rfl) ?_
    refine va_get (D := G) (ci := 0) (v := .int (nI (ht))) (C := RX0) (T := TX0) (N := 12) hx hb hts in_X0 hown hK hP 0 rfl rfl 9 (by decide) (hts _ q46) (fun _ h9 => h9) rfl dX0_alike_15 ?_
    refine lv_iconst (v := (1 : Int32)) hx hb dX0_alike_18 (by decide) ?_
    refine lv_isub hx hb dX0_alike_19 ?_
    refine fr_top (pk_sub (a := ht) (b := 1) (by omega)) ?_
    refine fr_iald hx hb hK hP 8 0 rfl rfl (by omega) (by decide) dX0_alike_20 ?_
    refine fr_top eka ?_
    refine lv_istore_n (lv' := [(1, .int (nI (ka))), (0, .ref (h))]) hx hb dX0_alike_21 rfl hl (by decide) rfl (fun ls hl => ?_)
    refine lv_aload_n hx hb dX0_alike_22 rfl (lv_at hl 1 rfl) ?_
    refine va_get (D := G) (ci := 0) (v := .ref (a 10)) (C := RX0) (T := TX0) (N := 12) hx hb hts in_X0 hown hK hP 0 rfl rfl 10 (by decide) (hts _ q47) (fun _ h9 => h9) rfl dX0_alike_23 ?_
    refine lv_aload_n hx hb dX0_alike_26 rfl (lv_at hl 1 rfl) ?_
    refine va_get (D := G) (ci := 0) (v := .int (nI (ht))) (C := RX0) (T := TX0) (N := 12) hx hb hts in_X0 hown hK hP 0 rfl rfl 9 (by decide) (hts _ q46) (fun _ h9 => h9) rfl dX0_alike_27 ?_
    refine lv_iconst (v := (2 : Int32)) hx hb dX0_alike_30 (by decide) ?_
    refine lv_isub hx hb dX0_alike_31 ?_
    refine fr_top (pk_sub (a := ht) (b := 2) (by omega)) ?_
    refine fr_iald hx hb hK hP 8 0 rfl rfl (by omega) (by decide) dX0_alike_32 ?_
    refine fr_top ekb ?_
    refine lv_istore_n (lv' := [(2, .int (nI (kb))), (1, .int (nI (ka))), (0, .ref (h))]) hx hb dX0_alike_33 rfl hl (by decide) rfl (fun ls hl => ?_)
    refine lv_aload_n hx hb dX0_alike_34 rfl (lv_at hl 2 rfl) ?_
    refine lv_aload_n hx hb dX0_alike_35 rfl (lv_at hl 2 rfl) ?_
    refine va_get (D := G) (ci := 0) (v := .int (nI (md))) (C := RX0) (T := TX0) (N := 12) hx hb hts in_X0 hown hK hP 0 rfl rfl 4 (by decide) (hts _ q41) (fun _ h9 => h9) rfl dX0_alike_36 ?_
    refine lv_iconst (v := (1 : Int32)) hx hb dX0_alike_39 (by decide) ?_
    refine lv_isub hx hb dX0_alike_40 ?_
    refine fr_top (pk_sub (a := md) (b := 1) (by omega)) ?_
    refine fr_calli (As := [.int (nI (md - 1))]) (rest := []) ⟨hx, hb, hml, hown, hts⟩ (met0_valueOf l G h a d _ to mk dn dm md kd lf rt vl ht sk wy (md - 1) hdn (by omega) (fun i hi => hwf i (by omega))) (cwV 1 hts (lw_V q127 q129 qs3 q27 q130) rfl rfl rfl (by decide +kernel) ⟨Nat.le_of_ble_eq_true rfl, Nat.le_of_ble_eq_true rfl⟩) (va_recv hK hP (ci := 0) (q0 := 0) rfl rfl) hK hP hD hS hA rfl hl.1 rfl (Nat.le_of_ble_eq_true rfl) dX0_alike_41 ⟨Nat.le_refl _, Nat.le_refl _⟩ (fun r_2 u_2 H locs hw_2 hP hD hS => ?_)
    have hw_2 : r_2 = fr_v0 to mk (fr_st to dm dn) kd lf rt vl ((md - 1) + 1) (md - 1) := hw_2
    subst hw_2
    have hP : va_P G vwCl (w0 h a d to mk dn dm md kd lf rt (fr_v0 to mk (fr_st to dm dn) kd lf rt vl ((md - 1) + 1)) ht sk u_2) H := hP
    have hD : va_D A (w0 h a d to mk dn dm md kd lf rt (fr_v0 to mk (fr_st to dm dn) kd lf rt vl ((md - 1) + 1)) ht sk u_2) := hD
    refine lv_pop hx hb dX0_alike_44 rfl ?_
    refine lv_aload_n hx hb dX0_alike_45 rfl (lv_at hl 2 rfl) ?_
    refine va_get (D := G) (ci := 0) (v := .ref (a 8)) (C := RX0) (T := TX0) (N := 12) hx hb hts in_X0 hown hK hP 0 rfl rfl 8 (by decide) (hts _ q45) (fun _ h9 => h9) rfl dX0_alike_46 ?_
    refine lv_iload_n hx hb dX0_alike_49 rfl (lv_at hl 1 rfl) ?_
    refine fr_iald hx hb hK hP 7 0 rfl rfl (by omega) (by decide) dX0_alike_50 ?_
    refine lv_aload_n hx hb dX0_alike_51 rfl (lv_at hl 2 rfl) ?_
    refine va_get (D := G) (ci := 0) (v := .ref (a 8)) (C := RX0) (T := TX0) (N := 12) hx hb hts in_X0 hown hK hP 0 rfl rfl 8 (by decide) (hts _ q45) (fun _ h9 => h9) rfl dX0_alike_52 ?_
    refine lv_iload_n hx hb dX0_alike_55 rfl (lv_at hl 0 rfl) ?_
    refine fr_iald hx hb hK hP 7 0 rfl rfl (by omega) (by decide) dX0_alike_56 ?_
    refine lv_icmp_ne (tgt := 64) hx hb dX0_alike_57 (by decide) (fun c_3 => ?_) (fun c_3 => ?_)
    · refine lv_iconst (v := (0 : Int32)) hx hb dX0_alike_64 (by decide) ?_
      exact fr_retz (fr_v0 to mk (fr_st to dm dn) kd lf rt vl ((md - 1) + 1), u_2) hx hb hr hlocks hK hP hD hS (Or.inl rfl) (by rw [em] at c_3; rw [eka, ekb, nI_clamp (by omega), nI_clamp (by omega), decide_eq_true h2, decide_eq_false c_3]; rfl) dX0_alike_65
    · refine lv_iconst (v := (1 : Int32)) hx hb dX0_alike_60 (by decide) ?_
      refine lv_goto (tgt := 65) hx hb dX0_alike_61 (by decide) ?_
      exact fr_retz (fr_v0 to mk (fr_st to dm dn) kd lf rt vl ((md - 1) + 1), u_2) hx hb hr hlocks hK hP hD hS (Or.inr rfl) (by rw [em] at c_3; rw [eka, ekb, nI_clamp (by omega), nI_clamp (by omega), decide_eq_true h2, decide_eq_true c_3]; rfl) dX0_alike_65
  · refine lv_iconst (v := (0 : Int32)) hx hb dX0_alike_8 (by decide) ?_
    exact fr_retz (vl, wy) hx hb hr hlocks hK hP hD hS (Or.inl rfl) (by rw [decide_eq_false (p := 2 ≤ ht) (fun q => c_1 (nI_le (a := 2) q (by omega)))]; rfl) dX0_alike_9
set_option maxHeartbeats 4000000 in
theorem met0_fair (l : Launch) (G : va_G) (h : Nat) (a : Nat → Nat) (d : ClassId) (sz : Nat) (to : Nat → Int32) (mk : Nat → Int32) (dn : Nat) (dm : Nat → Int32) (md : Nat) (kd : Nat → Int32) (lf : Nat → Int32) (rt : Nat → Int32) (vl : Nat → Int32) (ht : Nat) (sk : Nat → Int32) (wy : Nat → Int32) (hdn : dn ≤ 3) : fr_I l yX0_fair cX0_fair 1 (some .int) ({ frames := 3, cells := 0, slots := 0, locals := 73 } : Room) [.ref (h)] G d sz (w0 h a d to mk dn dm md kd lf rt vl ht sk wy) (fun (r : Int32) (u : Nat → Int32) => r = fr_st to dm dn 255) (fun (u : Nat → Int32) => (w0 h a d to mk dn dm md kd lf rt vl ht sk u)) := by
  refine fr_startI RX0 rfl (by decide +kernel) (Nat.le_of_ble_eq_true rfl) ?_
  intro p e s m below meth c A ls hx hb hr hlocks hml hown hts hA hK hP hD hS hl
  have hl : lv_has ls 1 [(0, .ref (h))] := hl
  refine lv_aload_n hx hb dX0_fair_0 rfl (lv_at hl 0 rfl) ?_
  refine lv_sipush (v := (255 : Int32)) hx hb dX0_fair_1 (by decide) ?_
  refine fr_calli (As := [.int ((255 : Int32))]) (rest := []) ⟨hx, hb, hml, hown, hts⟩ (met0_staying l G h a d _ to mk dn dm md kd lf rt vl ht sk wy ((255 : Int32)) hdn) (cwV 1 hts (lw_V q139 q141 qs6 q27 q142) rfl rfl rfl (by decide +kernel) ⟨Nat.le_of_ble_eq_true rfl, Nat.le_of_ble_eq_true rfl⟩) (va_recv hK hP (ci := 0) (q0 := 0) rfl rfl) hK hP hD hS hA rfl hl.1 rfl (Nat.le_of_ble_eq_true rfl) dX0_fair_4 ⟨Nat.le_refl _, Nat.le_refl _⟩ (fun r_1 u_1 H locs hw_1 hP hD hS => ?_)
  have hw_1 : r_1 = fr_st to dm dn ((255 : Int32)) := hw_1
  subst hw_1
  have hP : va_P G vwCl (w0 h a d to mk dn dm md kd lf rt vl ht sk u_1) H := hP
  have hD : va_D A (w0 h a d to mk dn dm md kd lf rt vl ht sk u_1) := hD
  exact fr_reti u_1 hx hb hr hlocks hK hP hD hS rfl dX0_fair_7
set_option maxHeartbeats 4000000 in
theorem met0_reach (l : Launch) (G : va_G) (h : Nat) (a : Nat → Nat) (d : ClassId) (sz : Nat) (to : Nat → Int32) (mk : Nat → Int32) (dn : Nat) (dm : Nat → Int32) (md : Nat) (kd : Nat → Int32) (lf : Nat → Int32) (rt : Nat → Int32) (vl : Nat → Int32) (ht : Nat) (sk : Nat → Int32) (wy : Nat → Int32) (p1 : Int32) : fr_I l yX0_reach cX0_reach 2 (some .int) ({ frames := 1, cells := 0, slots := 0, locals := 23 } : Room) [.ref (h), .int (p1)] G d sz (w0 h a d to mk dn dm md kd lf rt vl ht sk wy) (fun (r : Int32) (u : Nat → Int32) => r = if fr_in 8 p1 then fr_ways to 255 (fun _ => 0) p1.toNatClampNeg ||| ((1 : Int32) <<< (p1 &&& 31)) else -1) (fun (u : Nat → Int32) => (w0 h a d to mk dn dm md kd lf rt vl ht sk u)) := by
  refine fr_startI RX0 rfl (by decide +kernel) (Nat.le_of_ble_eq_true rfl) ?_
  intro p e s m below meth c A ls hx hb hr hlocks hml hown hts hA hK hP hD hS hl
  have hl : lv_has ls 2 [(0, .ref (h)), (1, .int (p1))] := hl
  refine lv_aload_n hx hb dX0_reach_0 rfl (lv_at hl 0 rfl) ?_
  refine lv_iload_n hx hb dX0_reach_1 rfl (lv_at hl 1 rfl) ?_
  refine fr_calli (As := [.int (p1)]) (rest := []) ⟨hx, hb, hml, hown, hts⟩ (met0_badState l G h a d _ to mk dn dm md kd lf rt vl ht sk wy p1) (cwV 1 hts (lw_V q79 q81 qs0 q27 q82) rfl rfl rfl (by decide +kernel) ⟨Nat.le_of_ble_eq_true rfl, Nat.le_of_ble_eq_true rfl⟩) (va_recv hK hP (ci := 0) (q0 := 0) rfl rfl) hK hP hD hS hA rfl hl.1 rfl (Nat.le_of_ble_eq_true rfl) dX0_reach_2 ⟨Nat.le_refl _, Nat.le_refl _⟩ (fun r_1 u_1 H locs hw_1 hP hD hS => ?_)
  have hw_1 : r_1 = fr_b (!fr_in 8 p1) := hw_1
  subst hw_1
  have hP : va_P G vwCl (w0 h a d to mk dn dm md kd lf rt vl ht sk wy) H := hP
  have hD : va_D A (w0 h a d to mk dn dm md kd lf rt vl ht sk wy) := hD
  refine lv_if_eq (tgt := 10) hx hb dX0_reach_5 (by decide) (fun c_2 => ?_) (fun c_2 => ?_)
  · have h8 : fr_in 8 p1 = true := fr_nb_eq c_2
    refine lv_aload_n hx hb dX0_reach_10 rfl (lv_at hl 0 rfl) ?_
    refine lv_sipush (v := (255 : Int32)) hx hb dX0_reach_11 (by decide) ?_
    refine fr_callv (As := [.int ((255 : Int32))]) (rest := []) ⟨hx, hb, hml, hown, hts⟩ (met0_findWays l G h a d _ to mk dn dm md kd lf rt vl ht sk wy ((255 : Int32))) (cwV 1 hts (lw_V q143 q145 qs7 q27 q146) rfl rfl rfl (by decide +kernel) ⟨Nat.le_of_ble_eq_true rfl, Nat.le_of_ble_eq_true rfl⟩) (va_recv hK hP (ci := 0) (q0 := 0) rfl rfl) hK hP hD hS hA rfl hl.1 rfl (Nat.le_of_ble_eq_true rfl) dX0_reach_14 ⟨Nat.le_refl _, Nat.le_refl _⟩ (fun u_3 H locs hw_3 hP hD hS => ?_)
    have hP : va_P G vwCl (w0 h a d to mk dn dm md kd lf rt vl ht sk (fr_ways to ((255 : Int32)) wy)) H := hP
    have hD : va_D A (w0 h a d to mk dn dm md kd lf rt vl ht sk (fr_ways to ((255 : Int32)) wy)) := hD
    refine lv_aload_n hx hb dX0_reach_17 rfl (lv_at hl 0 rfl) ?_
    refine va_get (D := G) (ci := 0) (v := .ref (a 11)) (C := RX0) (T := TX0) (N := 12) hx hb hts in_X0 hown hK hP 0 rfl rfl 11 (by decide) (hts _ q48) (fun _ h9 => h9) rfl dX0_reach_18 ?_
    refine lv_iload_n hx hb dX0_reach_21 rfl (lv_at hl 1 rfl) ?_
    refine va_iald hx hb hK hP 9 0 rfl rfl (fr_in_vp h8) dX0_reach_22 ?_
    refine lv_iconst (v := (1 : Int32)) hx hb dX0_reach_23 (by decide) ?_
    refine lv_iload_n hx hb dX0_reach_24 rfl (lv_at hl 1 rfl) ?_
    refine lv_ishl hx hb dX0_reach_25 ?_
    refine lv_ior hx hb dX0_reach_26 ?_
    exact fr_reti (fr_ways to ((255 : Int32)) wy) hx hb hr hlocks hK hP hD hS (by rw [if_pos h8, fr_ways_ag to 255 wy _ (fr_in_lt h8)]) dX0_reach_27
  · refine lv_iconst (v := (-1 : Int32)) hx hb dX0_reach_8 (by decide) ?_
    exact fr_reti wy hx hb hr hlocks hK hP hD hS (by rw [fr_nb_ne c_2]; rfl) dX0_reach_9
set_option maxHeartbeats 4000000 in
theorem met0_steps (l : Launch) (G : va_G) (h : Nat) (a : Nat → Nat) (d : ClassId) (sz : Nat) (to : Nat → Int32) (mk : Nat → Int32) (dn : Nat) (dm : Nat → Int32) (md : Nat) (kd : Nat → Int32) (lf : Nat → Int32) (rt : Nat → Int32) (vl : Nat → Int32) (ht : Nat) (sk : Nat → Int32) (wy : Nat → Int32) (p1 : Int32) (hdn : dn ≤ 3) (hmd : md ≤ 20) (hht : ht ≤ 6) (hsk : ∀ j, j < ht → ∃ k, k < md ∧ sk j = nI k) (hwf : ∀ i, i < md → (kd i = 0 → vp_in (lf i) 4) ∧ (¬ kd i = 0 → vp_in (lf i) 20 ∧ vp_in (rt i) 20)) : fr_I l yX0_steps cX0_steps 5 (some .int) ({ frames := 7, cells := 0, slots := 0, locals := 168 } : Room) [.ref (h), .int (p1)] G d sz (w0 h a d to mk dn dm md kd lf rt vl ht sk wy) (fun (r : Int32) (u : (Nat → Int32) × (Nat → Int32)) => r = if fr_in 8 p1 then (if ht = 0 then -4 else fr_p0 to p1 9 0 (fr_v0 to mk (fr_st to dm dn) kd lf rt vl ((sk (ht - 1)).toNatClampNeg + 1) (sk (ht - 1)).toNatClampNeg)) else -1) (fun (u : (Nat → Int32) × (Nat → Int32)) => (w0 h a d to mk dn dm md kd lf rt (u.1) ht sk (u.2))) := by
  refine fr_startI RX0 rfl (by decide +kernel) (Nat.le_of_ble_eq_true rfl) ?_
  intro p e s m below meth c A ls hx hb hr hlocks hml hown hts hA hK hP hD hS hl
  have hl : lv_has ls 5 [(0, .ref (h)), (1, .int (p1))] := hl
  refine lv_aload_n hx hb dX0_steps_0 rfl (lv_at hl 0 rfl) ?_
  refine lv_iload_n hx hb dX0_steps_1 rfl (lv_at hl 1 rfl) ?_
  refine fr_calli (As := [.int (p1)]) (rest := []) ⟨hx, hb, hml, hown, hts⟩ (met0_badState l G h a d _ to mk dn dm md kd lf rt vl ht sk wy p1) (cwV 1 hts (lw_V q79 q81 qs0 q27 q82) rfl rfl rfl (by decide +kernel) ⟨Nat.le_of_ble_eq_true rfl, Nat.le_of_ble_eq_true rfl⟩) (va_recv hK hP (ci := 0) (q0 := 0) rfl rfl) hK hP hD hS hA rfl hl.1 rfl (Nat.le_of_ble_eq_true rfl) dX0_steps_2 ⟨Nat.le_refl _, Nat.le_refl _⟩ (fun r_1 u_1 H locs hw_1 hP hD hS => ?_)
  have hw_1 : r_1 = fr_b (!fr_in 8 p1) := hw_1
  subst hw_1
  have hP : va_P G vwCl (w0 h a d to mk dn dm md kd lf rt vl ht sk wy) H := hP
  have hD : va_D A (w0 h a d to mk dn dm md kd lf rt vl ht sk wy) := hD
  refine lv_if_eq (tgt := 10) hx hb dX0_steps_5 (by decide) (fun c_2 => ?_) (fun c_2 => ?_)
  · have h8 : fr_in 8 p1 = true := fr_nb_eq c_2
    refine lv_aload_n hx hb dX0_steps_10 rfl (lv_at hl 0 rfl) ?_
    refine va_get (D := G) (ci := 0) (v := .int (nI (ht))) (C := RX0) (T := TX0) (N := 12) hx hb hts in_X0 hown hK hP 0 rfl rfl 9 (by decide) (hts _ q46) (fun _ h9 => h9) rfl dX0_steps_11 ?_
    refine lv_if_ne (tgt := 20) hx hb dX0_steps_14 (by decide) (fun c_3 => ?_) (fun c_3 => ?_)
    · have h0 : ht ≠ 0 := fun q => c_3 (by rw [q]; rfl)
      obtain ⟨k0, hk0, ek0⟩ := hsk (ht - 1) (by omega)
      refine lv_aload_n hx hb dX0_steps_20 rfl (lv_at hl 0 rfl) ?_
      refine lv_aload_n hx hb dX0_steps_21 rfl (lv_at hl 0 rfl) ?_
      refine va_get (D := G) (ci := 0) (v := .ref (a 10)) (C := RX0) (T := TX0) (N := 12) hx hb hts in_X0 hown hK hP 0 rfl rfl 10 (by decide) (hts _ q47) (fun _ h9 => h9) rfl dX0_steps_22 ?_
      refine lv_aload_n hx hb dX0_steps_25 rfl (lv_at hl 0 rfl) ?_
      refine va_get (D := G) (ci := 0) (v := .int (nI (ht))) (C := RX0) (T := TX0) (N := 12) hx hb hts in_X0 hown hK hP 0 rfl rfl 9 (by decide) (hts _ q46) (fun _ h9 => h9) rfl dX0_steps_26 ?_
      refine lv_iconst (v := (1 : Int32)) hx hb dX0_steps_29 (by decide) ?_
      refine lv_isub hx hb dX0_steps_30 ?_
      refine fr_top (pk_sub (a := ht) (b := 1) (by omega)) ?_
      refine fr_iald hx hb hK hP 8 0 rfl rfl (by omega) (by decide) dX0_steps_31 ?_
      refine fr_top ek0 ?_
      refine fr_calli (As := [.int (nI (k0))]) (rest := []) ⟨hx, hb, hml, hown, hts⟩ (met0_valueOf l G h a d _ to mk dn dm md kd lf rt vl ht sk wy k0 hdn (by omega) (fun i hi => hwf i (by omega))) (cwV 1 hts (lw_V q127 q129 qs3 q27 q130) rfl rfl rfl (by decide +kernel) ⟨Nat.le_of_ble_eq_true rfl, Nat.le_of_ble_eq_true rfl⟩) (va_recv hK hP (ci := 0) (q0 := 0) rfl rfl) hK hP hD hS hA rfl hl.1 rfl (Nat.le_of_ble_eq_true rfl) dX0_steps_32 ⟨Nat.le_refl _, Nat.le_refl _⟩ (fun r_4 u_4 H locs hw_4 hP hD hS => ?_)
      have hw_4 : r_4 = fr_v0 to mk (fr_st to dm dn) kd lf rt vl (k0 + 1) k0 := hw_4
      subst hw_4
      have hP : va_P G vwCl (w0 h a d to mk dn dm md kd lf rt (fr_v0 to mk (fr_st to dm dn) kd lf rt vl (k0 + 1)) ht sk u_4) H := hP
      have hD : va_D A (w0 h a d to mk dn dm md kd lf rt (fr_v0 to mk (fr_st to dm dn) kd lf rt vl (k0 + 1)) ht sk u_4) := hD
      refine lv_istore_n (lv' := [(2, .int (fr_v0 to mk (fr_st to dm dn) kd lf rt vl (k0 + 1) k0)), (0, .ref (h)), (1, .int (p1))]) hx hb dX0_steps_35 rfl hl (by decide) rfl (fun ls hl => ?_)
      refine lv_iconst (v := (0 : Int32)) hx hb dX0_steps_36 (by decide) ?_
      refine lv_istore_n (lv' := [(3, .int ((0 : Int32))), (2, .int (fr_v0 to mk (fr_st to dm dn) kd lf rt vl (k0 + 1) k0)), (0, .ref (h)), (1, .int (p1))]) hx hb dX0_steps_37 rfl hl (by decide) rfl (fun ls hl => ?_)
      refine fr_for (I := fun (i : Nat) (H : Heap) (locs : List Loc) (ls : Array Slot) => ∃ (x : Int32), (fr_p0 to p1 9 0 (fr_v0 to mk (fr_st to dm dn) kd lf rt vl (k0 + 1) k0) = fr_p0 to p1 (9 - i) i x) ∧ va_P G vwCl (w0 h a d to mk dn dm md kd lf rt (fr_v0 to mk (fr_st to dm dn) kd lf rt vl (k0 + 1)) ht sk u_4) H ∧ va_D A (w0 h a d to mk dn dm md kd lf rt (fr_v0 to mk (fr_st to dm dn) kd lf rt vl (k0 + 1)) ht sk u_4) ∧ va_S A s.heap H locs ∧ lv_has ls 5 [(3, .int (nI (i))), (2, .int (x)), (0, .ref (h)), (1, .int (p1))]) 9 ?_ ?_ 0 (Nat.zero_le _) ⟨((fr_v0 to mk (fr_st to dm dn) kd lf rt vl (k0 + 1) k0)), rfl, hP, hD, hS, lv_sub hl [0, 1, 2, 3] rfl⟩
      · intro H locs ls hI
        obtain ⟨x, hq, hP, hD, hS, hl⟩ := hI
        refine lv_iload_n hx hb dX0_steps_38 rfl (lv_at hl 0 rfl) ?_
        refine lv_bipush (v := (8 : Int32)) hx hb dX0_steps_39 (by decide) ?_
        refine lv_icmp_gt (tgt := 73) hx hb dX0_steps_41 (by decide) (fun _ => ?_) (fun q_ => absurd (nI_lt (a := 8) (b := 9) (by decide) (by decide)) q_)
        refine lv_bipush (v := (-4 : Int32)) hx hb dX0_steps_73 (by decide) ?_
        exact fr_reti (fr_v0 to mk (fr_st to dm dn) kd lf rt vl (k0 + 1), u_4) hx hb hr hlocks hK hP hD hS (by rw [if_pos h8, if_neg h0, ek0, nI_clamp (by omega), hq]; rfl) dX0_steps_75
      · intro i hi ih_i H locs ls hI
        obtain ⟨x, hq, hP, hD, hS, hl⟩ := hI
        refine lv_iload_n hx hb dX0_steps_38 rfl (lv_at hl 0 rfl) ?_
        refine lv_bipush (v := (8 : Int32)) hx hb dX0_steps_39 (by decide) ?_
        refine lv_icmp_gt (tgt := 73) hx hb dX0_steps_41 (by decide) (fun q_ => absurd q_ (nI_nlt (a := 8) (by omega) (by decide))) (fun _ => ?_)
        refine lv_iload_n hx hb dX0_steps_44 rfl (lv_at hl 1 rfl) ?_
        refine lv_iload_n hx hb dX0_steps_45 rfl (lv_at hl 3 rfl) ?_
        refine lv_ishr hx hb dX0_steps_46 ?_
        refine lv_iconst (v := (1 : Int32)) hx hb dX0_steps_47 (by decide) ?_
        refine lv_iand hx hb dX0_steps_48 ?_
        refine lv_iconst (v := (1 : Int32)) hx hb dX0_steps_49 (by decide) ?_
        refine lv_icmp_ne (tgt := 55) hx hb dX0_steps_50 (by decide) (fun c_5 => ?_) (fun c_5 => ?_)
        · refine lv_aload_n hx hb dX0_steps_55 rfl (lv_at hl 2 rfl) ?_
          refine lv_iload_n hx hb dX0_steps_56 rfl (lv_at hl 1 rfl) ?_
          refine fr_calli (As := [.int (x)]) (rest := []) ⟨hx, hb, hml, hown, hts⟩ (met0_before l G h a d _ to mk dn dm md kd lf rt (fr_v0 to mk (fr_st to dm dn) kd lf rt vl (k0 + 1)) ht sk u_4 x) (cwV 1 hts (lw_V q159 q161 qs11 q27 q162) rfl rfl rfl (by decide +kernel) ⟨Nat.le_of_ble_eq_true rfl, Nat.le_of_ble_eq_true rfl⟩) (va_recv hK hP (ci := 0) (q0 := 0) rfl rfl) hK hP hD hS hA rfl hl.1 rfl (Nat.le_of_ble_eq_true rfl) dX0_steps_57 ⟨Nat.le_refl _, Nat.le_refl _⟩ (fun r_6 u_6 H locs hw_6 hP hD hS => ?_)
          have hw_6 : r_6 = fr_bef to x 8 := hw_6
          subst hw_6
          have hP : va_P G vwCl (w0 h a d to mk dn dm md kd lf rt (fr_v0 to mk (fr_st to dm dn) kd lf rt vl (k0 + 1)) ht sk u_4) H := hP
          have hD : va_D A (w0 h a d to mk dn dm md kd lf rt (fr_v0 to mk (fr_st to dm dn) kd lf rt vl (k0 + 1)) ht sk u_4) := hD
          refine lv_istore (lv' := [(4, .int (fr_bef to x 8)), (3, .int (nI (i))), (2, .int (x)), (0, .ref (h)), (1, .int (p1))]) hx hb dX0_steps_60 hl (by decide) rfl (fun ls hl => ?_)
          refine lv_iload_n hx hb dX0_steps_62 rfl (lv_at hl 2 rfl) ?_
          refine lv_iload hx hb dX0_steps_63 (lv_at hl 0 rfl) ?_
          refine lv_ior hx hb dX0_steps_65 ?_
          refine lv_istore_n (lv' := [(2, .int ((x) ||| (fr_bef to x 8))), (4, .int (fr_bef to x 8)), (3, .int (nI (i))), (0, .ref (h)), (1, .int (p1))]) hx hb dX0_steps_66 rfl hl (by decide) rfl (fun ls hl => ?_)
          refine lv_iinc (v := nI (i + 1)) (lv' := [(3, .int (nI (i + 1))), (2, .int ((x) ||| (fr_bef to x 8))), (4, .int (fr_bef to x 8)), (0, .ref (h)), (1, .int (p1))]) hx hb dX0_steps_67 hl (k := 2) rfl (nI_1 _) (by decide) rfl (fun ls hl => ?_)
          refine lv_goto (tgt := 38) hx hb dX0_steps_70 (by decide) ?_
          exact ih_i _ _ _ ⟨((x) ||| (fr_bef to x 8)), (by rw [hq, show 9 - i = (9 - (i + 1)) + 1 by omega, fr_p0, if_neg c_5]), hP, hD, hS, lv_sub hl [0, 1, 3, 4] rfl⟩
        · refine lv_iload_n hx hb dX0_steps_53 rfl (lv_at hl 0 rfl) ?_
          exact fr_reti (fr_v0 to mk (fr_st to dm dn) kd lf rt vl (k0 + 1), u_4) hx hb hr hlocks hK hP hD hS (by rw [if_pos h8, if_neg h0, ek0, nI_clamp (by omega), hq, show 9 - i = (8 - i) + 1 by omega, fr_p0, if_pos c_5]) dX0_steps_54
    · refine lv_bipush (v := (-4 : Int32)) hx hb dX0_steps_17 (by decide) ?_
      exact fr_reti (vl, wy) hx hb hr hlocks hK hP hD hS (by rw [if_pos h8, if_pos ((nI_eq (a := ht) (b := 0) (by omega) (by decide)).mp c_3)]) dX0_steps_19
  · refine lv_iconst (v := (-1 : Int32)) hx hb dX0_steps_8 (by decide) ?_
    exact fr_reti (vl, wy) hx hb hr hlocks hK hP hD hS (by rw [fr_nb_ne c_2]; rfl) dX0_steps_9
set_option maxHeartbeats 4000000 in
theorem met0_knots (l : Launch) (G : va_G) (h : Nat) (a : Nat → Nat) (d : ClassId) (sz : Nat) (to : Nat → Int32) (mk : Nat → Int32) (dn : Nat) (dm : Nat → Int32) (md : Nat) (kd : Nat → Int32) (lf : Nat → Int32) (rt : Nat → Int32) (vl : Nat → Int32) (ht : Nat) (sk : Nat → Int32) (wy : Nat → Int32) : fr_I l yX0_knots cX0_knots 5 (some .int) ({ frames := 1, cells := 0, slots := 0, locals := 23 } : Room) [.ref (h)] G d sz (w0 h a d to mk dn dm md kd lf rt vl ht sk wy) (fun (r : Int32) (u : Nat → Int32) => r = nI (fr_k0 (fr_ways to 255 (fun _ => 0)) 8).1) (fun (u : Nat → Int32) => (w0 h a d to mk dn dm md kd lf rt vl ht sk u)) := by
  refine fr_startI RX0 rfl (by decide +kernel) (Nat.le_of_ble_eq_true rfl) ?_
  intro p e s m below meth c A ls hx hb hr hlocks hml hown hts hA hK hP hD hS hl
  have hl : lv_has ls 5 [(0, .ref (h))] := hl
  refine lv_aload_n hx hb dX0_knots_0 rfl (lv_at hl 0 rfl) ?_
  refine lv_sipush (v := (255 : Int32)) hx hb dX0_knots_1 (by decide) ?_
  refine fr_callv (As := [.int ((255 : Int32))]) (rest := []) ⟨hx, hb, hml, hown, hts⟩ (met0_findWays l G h a d _ to mk dn dm md kd lf rt vl ht sk wy ((255 : Int32))) (cwV 1 hts (lw_V q143 q145 qs7 q27 q146) rfl rfl rfl (by decide +kernel) ⟨Nat.le_of_ble_eq_true rfl, Nat.le_of_ble_eq_true rfl⟩) (va_recv hK hP (ci := 0) (q0 := 0) rfl rfl) hK hP hD hS hA rfl hl.1 rfl (Nat.le_of_ble_eq_true rfl) dX0_knots_4 ⟨Nat.le_refl _, Nat.le_refl _⟩ (fun u_1 H locs hw_1 hP hD hS => ?_)
  have hP : va_P G vwCl (w0 h a d to mk dn dm md kd lf rt vl ht sk (fr_ways to ((255 : Int32)) wy)) H := hP
  have hD : va_D A (w0 h a d to mk dn dm md kd lf rt vl ht sk (fr_ways to ((255 : Int32)) wy)) := hD
  refine lv_iconst (v := (0 : Int32)) hx hb dX0_knots_7 (by decide) ?_
  refine lv_istore_n (lv' := [(1, .int ((0 : Int32))), (0, .ref (h))]) hx hb dX0_knots_8 rfl hl (by decide) rfl (fun ls hl => ?_)
  refine lv_iconst (v := (0 : Int32)) hx hb dX0_knots_9 (by decide) ?_
  refine lv_istore_n (lv' := [(2, .int ((0 : Int32))), (1, .int ((0 : Int32))), (0, .ref (h))]) hx hb dX0_knots_10 rfl hl (by decide) rfl (fun ls hl => ?_)
  refine lv_iconst (v := (0 : Int32)) hx hb dX0_knots_11 (by decide) ?_
  refine lv_istore_n (lv' := [(3, .int ((0 : Int32))), (2, .int ((0 : Int32))), (1, .int ((0 : Int32))), (0, .ref (h))]) hx hb dX0_knots_12 rfl hl (by decide) rfl (fun ls hl => ?_)
  refine fr_for (I := fun (i : Nat) (H : Heap) (locs : List Loc) (ls : Array Slot) => va_P G vwCl (w0 h a d to mk dn dm md kd lf rt vl ht sk (fr_ways to ((255 : Int32)) wy)) H ∧ va_D A (w0 h a d to mk dn dm md kd lf rt vl ht sk (fr_ways to ((255 : Int32)) wy)) ∧ va_S A s.heap H locs ∧ lv_has ls 5 [(3, .int (nI (i))), (1, .int (nI ((fr_k0 (fr_ways to 255 wy) i).1))), (2, .int ((fr_k0 (fr_ways to 255 wy) i).2)), (0, .ref (h))]) 8 ?_ ?_ 0 (Nat.zero_le _) ⟨hP, hD, hS, lv_sub hl [0, 2, 1, 3] rfl⟩
  · intro H locs ls hI
    obtain ⟨hP, hD, hS, hl⟩ := hI
    refine lv_iload_n hx hb dX0_knots_13 rfl (lv_at hl 0 rfl) ?_
    refine lv_bipush (v := (8 : Int32)) hx hb dX0_knots_14 (by decide) ?_
    refine lv_icmp_ge (tgt := 53) hx hb dX0_knots_16 (by decide) (fun _ => ?_) (fun q_ => absurd (nI_le (Nat.le_refl 8) (by decide)) q_)
    refine lv_iload_n hx hb dX0_knots_53 rfl (lv_at hl 1 rfl) ?_
    exact fr_reti (fr_ways to 255 wy) hx hb hr hlocks hK hP hD hS (by rw [fr_k0_ag _ _ (fr_ways_ag to 255 wy) 8 (Nat.le_refl 8)]) dX0_knots_54
  · intro i hi ih_i H locs ls hI
    obtain ⟨hP, hD, hS, hl⟩ := hI
    refine lv_iload_n hx hb dX0_knots_13 rfl (lv_at hl 0 rfl) ?_
    refine lv_bipush (v := (8 : Int32)) hx hb dX0_knots_14 (by decide) ?_
    refine lv_icmp_ge (tgt := 53) hx hb dX0_knots_16 (by decide) (fun q_ => absurd q_ (nI_ge hi (by decide))) (fun _ => ?_)
    refine lv_aload_n hx hb dX0_knots_19 rfl (lv_at hl 3 rfl) ?_
    refine lv_iload_n hx hb dX0_knots_20 rfl (lv_at hl 0 rfl) ?_
    refine fr_calli (As := [.int (nI (i))]) (rest := []) ⟨hx, hb, hml, hown, hts⟩ (met0_knotOf l G h a d _ to mk dn dm md kd lf rt vl ht sk (fr_ways to ((255 : Int32)) wy) i hi) (cwV 1 hts (lw_V q147 q149 qs8 q27 q150) rfl rfl rfl (by decide +kernel) ⟨Nat.le_of_ble_eq_true rfl, Nat.le_of_ble_eq_true rfl⟩) (va_recv hK hP (ci := 0) (q0 := 0) rfl rfl) hK hP hD hS hA rfl hl.1 rfl (Nat.le_of_ble_eq_true rfl) dX0_knots_21 ⟨Nat.le_refl _, Nat.le_refl _⟩ (fun r_2 u_2 H locs hw_2 hP hD hS => ?_)
    have hw_2 : r_2 = fr_kn (fr_ways to ((255 : Int32)) wy) i 8 := hw_2
    subst hw_2
    have hP : va_P G vwCl (w0 h a d to mk dn dm md kd lf rt vl ht sk (fr_ways to ((255 : Int32)) wy)) H := hP
    have hD : va_D A (w0 h a d to mk dn dm md kd lf rt vl ht sk (fr_ways to ((255 : Int32)) wy)) := hD
    refine lv_istore (lv' := [(4, .int (fr_kn (fr_ways to ((255 : Int32)) wy) i 8)), (3, .int (nI (i))), (1, .int (nI ((fr_k0 (fr_ways to 255 wy) i).1))), (2, .int ((fr_k0 (fr_ways to 255 wy) i).2)), (0, .ref (h))]) hx hb dX0_knots_24 hl (by decide) rfl (fun ls hl => ?_)
    refine lv_iload hx hb dX0_knots_26 (lv_at hl 0 rfl) ?_
    refine lv_if_eq (tgt := 42) hx hb dX0_knots_28 (by decide) (fun c_3 => ?_) (fun c_3 => ?_)
    · refine lv_iload_n hx hb dX0_knots_42 rfl (lv_at hl 3 rfl) ?_
      refine lv_iload hx hb dX0_knots_43 (lv_at hl 0 rfl) ?_
      refine lv_ior hx hb dX0_knots_45 ?_
      refine lv_istore_n (lv' := [(2, .int (((fr_k0 (fr_ways to 255 wy) i).2) ||| (fr_kn (fr_ways to ((255 : Int32)) wy) i 8))), (4, .int (fr_kn (fr_ways to ((255 : Int32)) wy) i 8)), (3, .int (nI (i))), (1, .int (nI ((fr_k0 (fr_ways to 255 wy) i).1))), (0, .ref (h))]) hx hb dX0_knots_46 rfl hl (by decide) rfl (fun ls hl => ?_)
      refine lv_iinc (v := nI (i + 1)) (lv' := [(3, .int (nI (i + 1))), (2, .int (((fr_k0 (fr_ways to 255 wy) i).2) ||| (fr_kn (fr_ways to ((255 : Int32)) wy) i 8))), (4, .int (fr_kn (fr_ways to ((255 : Int32)) wy) i 8)), (1, .int (nI ((fr_k0 (fr_ways to 255 wy) i).1))), (0, .ref (h))]) hx hb dX0_knots_47 hl (k := 2) rfl (nI_1 _) (by decide) rfl (fun ls hl => ?_)
      refine lv_goto (tgt := 13) hx hb dX0_knots_50 (by decide) ?_
      have e_1 : nI ((fr_k0 (fr_ways to 255 wy) (i + 1)).1) = nI ((fr_k0 (fr_ways to 255 wy) i).1) := (by rw [fr_k0]; dsimp only; rw [if_pos c_3])
      have e_2 : (fr_k0 (fr_ways to 255 wy) (i + 1)).2 = ((fr_k0 (fr_ways to 255 wy) i).2) ||| (fr_kn (fr_ways to ((255 : Int32)) wy) i 8) := rfl
      exact ih_i _ _ _ ⟨hP, hD, hS, (by rw [e_1, e_2]; exact lv_sub hl [0, 3, 1, 4] rfl)⟩
    · refine lv_iload_n hx hb dX0_knots_31 rfl (lv_at hl 3 rfl) ?_
      refine lv_iload_n hx hb dX0_knots_32 rfl (lv_at hl 1 rfl) ?_
      refine lv_ishr hx hb dX0_knots_33 ?_
      refine lv_iconst (v := (1 : Int32)) hx hb dX0_knots_34 (by decide) ?_
      refine lv_iand hx hb dX0_knots_35 ?_
      refine lv_if_ne (tgt := 42) hx hb dX0_knots_36 (by decide) (fun c_4 => ?_) (fun c_4 => ?_)
      · refine lv_iload_n hx hb dX0_knots_42 rfl (lv_at hl 3 rfl) ?_
        refine lv_iload hx hb dX0_knots_43 (lv_at hl 0 rfl) ?_
        refine lv_ior hx hb dX0_knots_45 ?_
        refine lv_istore_n (lv' := [(2, .int (((fr_k0 (fr_ways to 255 wy) i).2) ||| (fr_kn (fr_ways to ((255 : Int32)) wy) i 8))), (4, .int (fr_kn (fr_ways to ((255 : Int32)) wy) i 8)), (3, .int (nI (i))), (1, .int (nI ((fr_k0 (fr_ways to 255 wy) i).1))), (0, .ref (h))]) hx hb dX0_knots_46 rfl hl (by decide) rfl (fun ls hl => ?_)
        refine lv_iinc (v := nI (i + 1)) (lv' := [(3, .int (nI (i + 1))), (2, .int (((fr_k0 (fr_ways to 255 wy) i).2) ||| (fr_kn (fr_ways to ((255 : Int32)) wy) i 8))), (4, .int (fr_kn (fr_ways to ((255 : Int32)) wy) i 8)), (1, .int (nI ((fr_k0 (fr_ways to 255 wy) i).1))), (0, .ref (h))]) hx hb dX0_knots_47 hl (k := 2) rfl (nI_1 _) (by decide) rfl (fun ls hl => ?_)
        refine lv_goto (tgt := 13) hx hb dX0_knots_50 (by decide) ?_
        have e_1 : nI ((fr_k0 (fr_ways to 255 wy) (i + 1)).1) = nI ((fr_k0 (fr_ways to 255 wy) i).1) := (by rw [fr_k0]; dsimp only; rw [if_neg c_3, if_neg c_4])
        have e_2 : (fr_k0 (fr_ways to 255 wy) (i + 1)).2 = ((fr_k0 (fr_ways to 255 wy) i).2) ||| (fr_kn (fr_ways to ((255 : Int32)) wy) i 8) := rfl
        exact ih_i _ _ _ ⟨hP, hD, hS, (by rw [e_1, e_2]; exact lv_sub hl [0, 3, 1, 4] rfl)⟩
      · refine lv_iinc (v := nI (((fr_k0 (fr_ways to 255 wy) i).1) + 1)) (lv' := [(1, .int (nI (((fr_k0 (fr_ways to 255 wy) i).1) + 1))), (4, .int (fr_kn (fr_ways to ((255 : Int32)) wy) i 8)), (3, .int (nI (i))), (2, .int ((fr_k0 (fr_ways to 255 wy) i).2)), (0, .ref (h))]) hx hb dX0_knots_39 hl (k := 2) rfl (nI_1 _) (by decide) rfl (fun ls hl => ?_)
        refine lv_iload_n hx hb dX0_knots_42 rfl (lv_at hl 3 rfl) ?_
        refine lv_iload hx hb dX0_knots_43 (lv_at hl 1 rfl) ?_
        refine lv_ior hx hb dX0_knots_45 ?_
        refine lv_istore_n (lv' := [(2, .int (((fr_k0 (fr_ways to 255 wy) i).2) ||| (fr_kn (fr_ways to ((255 : Int32)) wy) i 8))), (1, .int (nI (((fr_k0 (fr_ways to 255 wy) i).1) + 1))), (4, .int (fr_kn (fr_ways to ((255 : Int32)) wy) i 8)), (3, .int (nI (i))), (0, .ref (h))]) hx hb dX0_knots_46 rfl hl (by decide) rfl (fun ls hl => ?_)
        refine lv_iinc (v := nI (i + 1)) (lv' := [(3, .int (nI (i + 1))), (2, .int (((fr_k0 (fr_ways to 255 wy) i).2) ||| (fr_kn (fr_ways to ((255 : Int32)) wy) i 8))), (1, .int (nI (((fr_k0 (fr_ways to 255 wy) i).1) + 1))), (4, .int (fr_kn (fr_ways to ((255 : Int32)) wy) i 8)), (0, .ref (h))]) hx hb dX0_knots_47 hl (k := 3) rfl (nI_1 _) (by decide) rfl (fun ls hl => ?_)
        refine lv_goto (tgt := 13) hx hb dX0_knots_50 (by decide) ?_
        have e_1 : nI ((fr_k0 (fr_ways to 255 wy) (i + 1)).1) = nI (((fr_k0 (fr_ways to 255 wy) i).1) + 1) := (by rw [fr_k0]; dsimp only; rw [if_neg c_3, if_pos c_4])
        have e_2 : (fr_k0 (fr_ways to 255 wy) (i + 1)).2 = ((fr_k0 (fr_ways to 255 wy) i).2) ||| (fr_kn (fr_ways to ((255 : Int32)) wy) i 8) := rfl
        exact ih_i _ _ _ ⟨hP, hD, hS, (by rw [e_1, e_2]; exact lv_sub hl [0, 2, 1, 4] rfl)⟩
end
section
/-! FairRuns: arcs .. depth -/
set_option maxRecDepth 100000
set_option maxHeartbeats 4000000 in
theorem met0_arcs (l : Launch) (G : va_G) (h : Nat) (a : Nat → Nat) (d : ClassId) (sz : Nat) (to : Nat → Int32) (mk : Nat → Int32) (dn : Nat) (dm : Nat → Int32) (md : Nat) (kd : Nat → Int32) (lf : Nat → Int32) (rt : Nat → Int32) (vl : Nat → Int32) (ht : Nat) (sk : Nat → Int32) (wy : Nat → Int32) (p1 : Int32) (p2 : Int32) : fr_I l yX0_arcs cX0_arcs 4 (some .int) ({ frames := 1, cells := 0, slots := 0, locals := 21 } : Room) [.ref (h), .int (p1), .int (p2)] G d sz (w0 h a d to mk dn dm md kd lf rt vl ht sk wy) (fun (r : Int32) (u : Unit) => r = (fr_arcs 8 to p1 p2).1) (fun (u : Unit) => (w0 h a d ((fr_arcs 8 to p1 p2).2) mk dn dm md kd lf rt vl ht sk wy)) := by
  refine fr_startI RX0 rfl (by decide +kernel) (Nat.le_of_ble_eq_true rfl) ?_
  intro p e s m below meth c A ls hx hb hr hlocks hml hown hts hA hK hP hD hS hl
  have hl : lv_has ls 4 [(0, .ref (h)), (1, .int (p1)), (2, .int (p2))] := hl
  refine lv_aload_n hx hb dX0_arcs_0 rfl (lv_at hl 0 rfl) ?_
  refine lv_iload_n hx hb dX0_arcs_1 rfl (lv_at hl 1 rfl) ?_
  refine fr_calli (As := [.int (p1)]) (rest := []) ⟨hx, hb, hml, hown, hts⟩ (met0_badState l G h a d _ to mk dn dm md kd lf rt vl ht sk wy p1) (cwV 1 hts (lw_V q79 q81 qs0 q27 q82) rfl rfl rfl (by decide +kernel) ⟨Nat.le_of_ble_eq_true rfl, Nat.le_of_ble_eq_true rfl⟩) (va_recv hK hP (ci := 0) (q0 := 0) rfl rfl) hK hP hD hS hA rfl hl.1 rfl (Nat.le_of_ble_eq_true rfl) dX0_arcs_2 ⟨Nat.le_refl _, Nat.le_refl _⟩ (fun r_1 u_1 H locs hw_1 hP hD hS => ?_)
  have hw_1 : r_1 = fr_b (!fr_in 8 p1) := hw_1
  subst hw_1
  have hP : va_P G vwCl (w0 h a d to mk dn dm md kd lf rt vl ht sk wy) H := hP
  have hD : va_D A (w0 h a d to mk dn dm md kd lf rt vl ht sk wy) := hD
  refine lv_if_ne (tgt := 16) hx hb dX0_arcs_5 (by decide) (fun c_2 => ?_) (fun c_2 => ?_)
  · refine lv_iconst (v := (-1 : Int32)) hx hb dX0_arcs_16 (by decide) ?_
    have ew_1 : ((fr_arcs 8 to p1 p2).2) = to := (congrArg Prod.snd (fr_arcs_1 (fr_nb_ne c_2)))
    exact fr_reti () hx hb hr hlocks hK (by rw [ew_1]; exact hP) (by rw [ew_1]; exact hD) hS (congrArg Prod.fst (fr_arcs_1 (fr_nb_ne c_2))).symm dX0_arcs_17
  · refine lv_aload_n hx hb dX0_arcs_8 rfl (lv_at hl 0 rfl) ?_
    refine lv_iload_n hx hb dX0_arcs_9 rfl (lv_at hl 2 rfl) ?_
    refine fr_calli (As := [.int (p2)]) (rest := []) ⟨hx, hb, hml, hown, hts⟩ (met0_badSet l G h a d _ to mk dn dm md kd lf rt vl ht sk wy p2) (cwV 1 hts (lw_V q83 q85 qs1 q27 q86) rfl rfl rfl (by decide +kernel) ⟨Nat.le_of_ble_eq_true rfl, Nat.le_of_ble_eq_true rfl⟩) (va_recv hK hP (ci := 0) (q0 := 0) rfl rfl) hK hP hD hS hA rfl hl.1 rfl (Nat.le_of_ble_eq_true rfl) dX0_arcs_10 ⟨Nat.le_refl _, Nat.le_refl _⟩ (fun r_3 u_3 H locs hw_3 hP hD hS => ?_)
    have hw_3 : r_3 = fr_b (!fr_in 256 p2) := hw_3
    subst hw_3
    have hP : va_P G vwCl (w0 h a d to mk dn dm md kd lf rt vl ht sk wy) H := hP
    have hD : va_D A (w0 h a d to mk dn dm md kd lf rt vl ht sk wy) := hD
    refine lv_if_eq (tgt := 18) hx hb dX0_arcs_13 (by decide) (fun c_4 => ?_) (fun c_4 => ?_)
    · refine lv_aload_n hx hb dX0_arcs_18 rfl (lv_at hl 0 rfl) ?_
      refine va_get (D := G) (ci := 0) (v := .ref (a 0)) (C := RX0) (T := TX0) (N := 12) hx hb hts in_X0 hown hK hP 0 rfl rfl 0 (by decide) (hts _ q37) (fun _ h9 => h9) rfl dX0_arcs_19 ?_
      refine lv_iload_n hx hb dX0_arcs_22 rfl (lv_at hl 1 rfl) ?_
      refine va_iald hx hb hK hP 1 0 rfl rfl (fr_in_vp (fr_nb_eq c_2)) dX0_arcs_23 ?_
      refine lv_istore_n (lv' := [(3, .int (to (p1).toNatClampNeg)), (0, .ref (h)), (1, .int (p1)), (2, .int (p2))]) hx hb dX0_arcs_24 rfl hl (by decide) rfl (fun ls hl => ?_)
      refine lv_aload_n hx hb dX0_arcs_25 rfl (lv_at hl 1 rfl) ?_
      refine va_get (D := G) (ci := 0) (v := .ref (a 0)) (C := RX0) (T := TX0) (N := 12) hx hb hts in_X0 hown hK hP 0 rfl rfl 0 (by decide) (hts _ q37) (fun _ h9 => h9) rfl dX0_arcs_26 ?_
      refine lv_iload_n hx hb dX0_arcs_29 rfl (lv_at hl 2 rfl) ?_
      refine lv_iload_n hx hb dX0_arcs_30 rfl (lv_at hl 3 rfl) ?_
      refine va_iast hx hb hK hP hD hS 1 0 rfl rfl (fr_in_vp (fr_nb_eq c_2)) dX0_arcs_31 (fun H locs hP hD hS => ?_)
      have hP : va_P G vwCl (w0 h a d (upd to (p1).toNatClampNeg (p2)) mk dn dm md kd lf rt vl ht sk wy) H := hP
      have hD : va_D A (w0 h a d (upd to (p1).toNatClampNeg (p2)) mk dn dm md kd lf rt vl ht sk wy) := hD
      refine lv_iload_n hx hb dX0_arcs_32 rfl (lv_at hl 0 rfl) ?_
      have ew_1 : ((fr_arcs 8 to p1 p2).2) = (upd to (p1).toNatClampNeg (p2)) := (congrArg Prod.snd (fr_arcs_0 (fr_nb_eq c_2) (fr_nb_eq c_4)))
      exact fr_reti () hx hb hr hlocks hK (by rw [ew_1]; exact hP) (by rw [ew_1]; exact hD) hS (congrArg Prod.fst (fr_arcs_0 (fr_nb_eq c_2) (fr_nb_eq c_4))).symm dX0_arcs_33
    · refine lv_iconst (v := (-1 : Int32)) hx hb dX0_arcs_16 (by decide) ?_
      have ew_1 : ((fr_arcs 8 to p1 p2).2) = to := (congrArg Prod.snd (fr_arcs_2 (fr_nb_ne c_4)))
      exact fr_reti () hx hb hr hlocks hK (by rw [ew_1]; exact hP) (by rw [ew_1]; exact hD) hS (congrArg Prod.fst (fr_arcs_2 (fr_nb_ne c_4))).symm dX0_arcs_17
set_option maxHeartbeats 4000000 in
theorem met0_mark (l : Launch) (G : va_G) (h : Nat) (a : Nat → Nat) (d : ClassId) (sz : Nat) (to : Nat → Int32) (mk : Nat → Int32) (dn : Nat) (dm : Nat → Int32) (md : Nat) (kd : Nat → Int32) (lf : Nat → Int32) (rt : Nat → Int32) (vl : Nat → Int32) (ht : Nat) (sk : Nat → Int32) (wy : Nat → Int32) (p1 : Int32) (p2 : Int32) : fr_I l yX0_mark cX0_mark 4 (some .int) ({ frames := 1, cells := 0, slots := 0, locals := 21 } : Room) [.ref (h), .int (p1), .int (p2)] G d sz (w0 h a d to mk dn dm md kd lf rt vl ht sk wy) (fun (r : Int32) (u : Unit) => r = (fr_arcs 4 mk p1 p2).1) (fun (u : Unit) => (w0 h a d to ((fr_arcs 4 mk p1 p2).2) dn dm md kd lf rt vl ht sk wy)) := by
  refine fr_startI RX0 rfl (by decide +kernel) (Nat.le_of_ble_eq_true rfl) ?_
  intro p e s m below meth c A ls hx hb hr hlocks hml hown hts hA hK hP hD hS hl
  have hl : lv_has ls 4 [(0, .ref (h)), (1, .int (p1)), (2, .int (p2))] := hl
  refine lv_iload_n hx hb dX0_mark_0 rfl (lv_at hl 1 rfl) ?_
  refine lv_if_lt (tgt := 17) hx hb dX0_mark_1 (by decide) (fun c_1 => ?_) (fun c_1 => ?_)
  · refine lv_iconst (v := (-1 : Int32)) hx hb dX0_mark_17 (by decide) ?_
    have ew_1 : ((fr_arcs 4 mk p1 p2).2) = mk := (congrArg Prod.snd (fr_arcs_1 (fr_in_neg c_1)))
    exact fr_reti () hx hb hr hlocks hK (by rw [ew_1]; exact hP) (by rw [ew_1]; exact hD) hS (congrArg Prod.fst (fr_arcs_1 (fr_in_neg c_1))).symm dX0_mark_18
  · refine lv_iload_n hx hb dX0_mark_4 rfl (lv_at hl 1 rfl) ?_
    refine lv_iconst (v := (3 : Int32)) hx hb dX0_mark_5 (by decide) ?_
    refine lv_icmp_gt (tgt := 17) hx hb dX0_mark_6 (by decide) (fun c_2 => ?_) (fun c_2 => ?_)
    · refine lv_iconst (v := (-1 : Int32)) hx hb dX0_mark_17 (by decide) ?_
      have ew_1 : ((fr_arcs 4 mk p1 p2).2) = mk := (congrArg Prod.snd (fr_arcs_1 (fr_in_big' (n := 4) (y := 3) rfl c_2)))
      exact fr_reti () hx hb hr hlocks hK (by rw [ew_1]; exact hP) (by rw [ew_1]; exact hD) hS (congrArg Prod.fst (fr_arcs_1 (fr_in_big' (n := 4) (y := 3) rfl c_2))).symm dX0_mark_18
    · refine lv_aload_n hx hb dX0_mark_9 rfl (lv_at hl 0 rfl) ?_
      refine lv_iload_n hx hb dX0_mark_10 rfl (lv_at hl 2 rfl) ?_
      refine fr_calli (As := [.int (p2)]) (rest := []) ⟨hx, hb, hml, hown, hts⟩ (met0_badSet l G h a d _ to mk dn dm md kd lf rt vl ht sk wy p2) (cwV 1 hts (lw_V q83 q85 qs1 q27 q86) rfl rfl rfl (by decide +kernel) ⟨Nat.le_of_ble_eq_true rfl, Nat.le_of_ble_eq_true rfl⟩) (va_recv hK hP (ci := 0) (q0 := 0) rfl rfl) hK hP hD hS hA rfl hl.1 rfl (Nat.le_of_ble_eq_true rfl) dX0_mark_11 ⟨Nat.le_refl _, Nat.le_refl _⟩ (fun r_3 u_3 H locs hw_3 hP hD hS => ?_)
      have hw_3 : r_3 = fr_b (!fr_in 256 p2) := hw_3
      subst hw_3
      have hP : va_P G vwCl (w0 h a d to mk dn dm md kd lf rt vl ht sk wy) H := hP
      have hD : va_D A (w0 h a d to mk dn dm md kd lf rt vl ht sk wy) := hD
      refine lv_if_eq (tgt := 19) hx hb dX0_mark_14 (by decide) (fun c_4 => ?_) (fun c_4 => ?_)
      · refine lv_aload_n hx hb dX0_mark_19 rfl (lv_at hl 0 rfl) ?_
        refine va_get (D := G) (ci := 0) (v := .ref (a 1)) (C := RX0) (T := TX0) (N := 12) hx hb hts in_X0 hown hK hP 0 rfl rfl 1 (by decide) (hts _ q38) (fun _ h9 => h9) rfl dX0_mark_20 ?_
        refine lv_iload_n hx hb dX0_mark_23 rfl (lv_at hl 1 rfl) ?_
        refine va_iald hx hb hK hP 2 0 rfl rfl (fr_in_vp (fr_in_t' (n := 4) (y := 3) rfl c_1 (fr_nlt c_2))) dX0_mark_24 ?_
        refine lv_istore_n (lv' := [(3, .int (mk (p1).toNatClampNeg)), (0, .ref (h)), (1, .int (p1)), (2, .int (p2))]) hx hb dX0_mark_25 rfl hl (by decide) rfl (fun ls hl => ?_)
        refine lv_aload_n hx hb dX0_mark_26 rfl (lv_at hl 1 rfl) ?_
        refine va_get (D := G) (ci := 0) (v := .ref (a 1)) (C := RX0) (T := TX0) (N := 12) hx hb hts in_X0 hown hK hP 0 rfl rfl 1 (by decide) (hts _ q38) (fun _ h9 => h9) rfl dX0_mark_27 ?_
        refine lv_iload_n hx hb dX0_mark_30 rfl (lv_at hl 2 rfl) ?_
        refine lv_iload_n hx hb dX0_mark_31 rfl (lv_at hl 3 rfl) ?_
        refine va_iast hx hb hK hP hD hS 2 0 rfl rfl (fr_in_vp (fr_in_t' (n := 4) (y := 3) rfl c_1 (fr_nlt c_2))) dX0_mark_32 (fun H locs hP hD hS => ?_)
        have hP : va_P G vwCl (w0 h a d to (upd mk (p1).toNatClampNeg (p2)) dn dm md kd lf rt vl ht sk wy) H := hP
        have hD : va_D A (w0 h a d to (upd mk (p1).toNatClampNeg (p2)) dn dm md kd lf rt vl ht sk wy) := hD
        refine lv_iload_n hx hb dX0_mark_33 rfl (lv_at hl 0 rfl) ?_
        have ew_1 : ((fr_arcs 4 mk p1 p2).2) = (upd mk (p1).toNatClampNeg (p2)) := (congrArg Prod.snd (fr_arcs_0 (fr_in_t' (n := 4) (y := 3) rfl c_1 (fr_nlt c_2)) (fr_nb_eq c_4)))
        exact fr_reti () hx hb hr hlocks hK (by rw [ew_1]; exact hP) (by rw [ew_1]; exact hD) hS (congrArg Prod.fst (fr_arcs_0 (fr_in_t' (n := 4) (y := 3) rfl c_1 (fr_nlt c_2)) (fr_nb_eq c_4))).symm dX0_mark_34
      · refine lv_iconst (v := (-1 : Int32)) hx hb dX0_mark_17 (by decide) ?_
        have ew_1 : ((fr_arcs 4 mk p1 p2).2) = mk := (congrArg Prod.snd (fr_arcs_2 (fr_nb_ne c_4)))
        exact fr_reti () hx hb hr hlocks hK (by rw [ew_1]; exact hP) (by rw [ew_1]; exact hD) hS (congrArg Prod.fst (fr_arcs_2 (fr_nb_ne c_4))).symm dX0_mark_18
set_option maxHeartbeats 4000000 in
theorem met0_demand (l : Launch) (G : va_G) (h : Nat) (a : Nat → Nat) (d : ClassId) (sz : Nat) (to : Nat → Int32) (mk : Nat → Int32) (dn : Nat) (dm : Nat → Int32) (md : Nat) (kd : Nat → Int32) (lf : Nat → Int32) (rt : Nat → Int32) (vl : Nat → Int32) (ht : Nat) (sk : Nat → Int32) (wy : Nat → Int32) (p1 : Int32) (hdn : dn ≤ 3) : fr_I l yX0_demand cX0_demand 2 (some .int) ({ frames := 1, cells := 0, slots := 0, locals := 21 } : Room) [.ref (h), .int (p1)] G d sz (w0 h a d to mk dn dm md kd lf rt vl ht sk wy) (fun (r : Int32) (u : Unit) => r = (fr_dem dn dm p1).1) (fun (u : Unit) => (w0 h a d to mk ((fr_dem dn dm p1).2.1) ((fr_dem dn dm p1).2.2) md kd lf rt vl ht sk wy)) := by
  refine fr_startI RX0 rfl (by decide +kernel) (Nat.le_of_ble_eq_true rfl) ?_
  intro p e s m below meth c A ls hx hb hr hlocks hml hown hts hA hK hP hD hS hl
  have hl : lv_has ls 2 [(0, .ref (h)), (1, .int (p1))] := hl
  refine lv_aload_n hx hb dX0_demand_0 rfl (lv_at hl 0 rfl) ?_
  refine lv_iload_n hx hb dX0_demand_1 rfl (lv_at hl 1 rfl) ?_
  refine fr_calli (As := [.int (p1)]) (rest := []) ⟨hx, hb, hml, hown, hts⟩ (met0_badSet l G h a d _ to mk dn dm md kd lf rt vl ht sk wy p1) (cwV 1 hts (lw_V q83 q85 qs1 q27 q86) rfl rfl rfl (by decide +kernel) ⟨Nat.le_of_ble_eq_true rfl, Nat.le_of_ble_eq_true rfl⟩) (va_recv hK hP (ci := 0) (q0 := 0) rfl rfl) hK hP hD hS hA rfl hl.1 rfl (Nat.le_of_ble_eq_true rfl) dX0_demand_2 ⟨Nat.le_refl _, Nat.le_refl _⟩ (fun r_1 u_1 H locs hw_1 hP hD hS => ?_)
  have hw_1 : r_1 = fr_b (!fr_in 256 p1) := hw_1
  subst hw_1
  have hP : va_P G vwCl (w0 h a d to mk dn dm md kd lf rt vl ht sk wy) H := hP
  have hD : va_D A (w0 h a d to mk dn dm md kd lf rt vl ht sk wy) := hD
  refine lv_if_eq (tgt := 10) hx hb dX0_demand_5 (by decide) (fun c_2 => ?_) (fun c_2 => ?_)
  · refine lv_aload_n hx hb dX0_demand_10 rfl (lv_at hl 0 rfl) ?_
    refine va_get (D := G) (ci := 0) (v := .int (nI (dn))) (C := RX0) (T := TX0) (N := 12) hx hb hts in_X0 hown hK hP 0 rfl rfl 2 (by decide) (hts _ q39) (fun _ h9 => h9) rfl dX0_demand_11 ?_
    refine lv_iconst (v := (3 : Int32)) hx hb dX0_demand_14 (by decide) ?_
    refine lv_icmp_ne (tgt := 21) hx hb dX0_demand_15 (by decide) (fun c_3 => ?_) (fun c_3 => ?_)
    · have hd3 : dn ≠ 3 := fun q => c_3 (by rw [q]; rfl)
      refine lv_aload_n hx hb dX0_demand_21 rfl (lv_at hl 0 rfl) ?_
      refine va_get (D := G) (ci := 0) (v := .ref (a 3)) (C := RX0) (T := TX0) (N := 12) hx hb hts in_X0 hown hK hP 0 rfl rfl 3 (by decide) (hts _ q40) (fun _ h9 => h9) rfl dX0_demand_22 ?_
      refine lv_aload_n hx hb dX0_demand_25 rfl (lv_at hl 0 rfl) ?_
      refine va_get (D := G) (ci := 0) (v := .int (nI (dn))) (C := RX0) (T := TX0) (N := 12) hx hb hts in_X0 hown hK hP 0 rfl rfl 2 (by decide) (hts _ q39) (fun _ h9 => h9) rfl dX0_demand_26 ?_
      refine lv_iload_n hx hb dX0_demand_29 rfl (lv_at hl 1 rfl) ?_
      refine fr_iast hx hb hK hP hD hS 3 0 rfl rfl (by omega) (by decide) dX0_demand_30 (fun H locs hP hD hS => ?_)
      have hP : va_P G vwCl (w0 h a d to mk dn (upd dm dn (p1)) md kd lf rt vl ht sk wy) H := hP
      have hD : va_D A (w0 h a d to mk dn (upd dm dn (p1)) md kd lf rt vl ht sk wy) := hD
      refine lv_aload_n hx hb dX0_demand_31 rfl (lv_at hl 0 rfl) ?_
      refine lv_dup hx hb dX0_demand_32 rfl ?_
      refine va_get (D := G) (ci := 0) (v := .int (nI (dn))) (C := RX0) (T := TX0) (N := 12) hx hb hts in_X0 hown hK hP 0 rfl rfl 2 (by decide) (hts _ q39) (fun _ h9 => h9) rfl dX0_demand_33 ?_
      refine lv_iconst (v := (1 : Int32)) hx hb dX0_demand_36 (by decide) ?_
      refine lv_iadd hx hb dX0_demand_37 ?_
      refine fr_top (nI_add dn 1) ?_
      refine va_put (D := G) (ci := 0) (v := .int (nI (dn + 1))) (ty := .int) (C := RX0) (T := TX0) (N := 12) hx hb hts in_X0 tyX0 tyX0_ok nmX0 hown hK hP hD hS 0 rfl rfl 2 (by decide) (hts _ q39) (fun _ h9 => h9) rfl (by decide +kernel) rfl rfl (Nat.le_of_ble_eq_true rfl) dX0_demand_38 (fun H locs hP hD hS => ?_)
      have hP : va_P G vwCl (w0 h a d to mk (dn + 1) (upd dm dn (p1)) md kd lf rt vl ht sk wy) H := hP
      have hD : va_D A (w0 h a d to mk (dn + 1) (upd dm dn (p1)) md kd lf rt vl ht sk wy) := hD
      refine lv_aload_n hx hb dX0_demand_41 rfl (lv_at hl 0 rfl) ?_
      refine va_get (D := G) (ci := 0) (v := .int (nI (dn + 1))) (C := RX0) (T := TX0) (N := 12) hx hb hts in_X0 hown hK hP 0 rfl rfl 2 (by decide) (hts _ q39) (fun _ h9 => h9) rfl dX0_demand_42 ?_
      have ew_1 : ((fr_dem dn dm p1).2.1) = (dn + 1) := (congrArg (fun z => z.2.1) (fr_dem_0 (fr_nb_eq c_2) hd3))
      have ew_2 : ((fr_dem dn dm p1).2.2) = (upd dm dn (p1)) := (congrArg (fun z => z.2.2) (fr_dem_0 (fr_nb_eq c_2) hd3))
      exact fr_reti () hx hb hr hlocks hK (by rw [ew_1, ew_2]; exact hP) (by rw [ew_1, ew_2]; exact hD) hS (congrArg Prod.fst (fr_dem_0 (fr_nb_eq c_2) hd3)).symm dX0_demand_45
    · refine lv_bipush (v := (-2 : Int32)) hx hb dX0_demand_18 (by decide) ?_
      have ew_1 : ((fr_dem dn dm p1).2.1) = dn := (congrArg (fun z => z.2.1) (fr_dem_2 (fr_nb_eq c_2) ((nI_eq (a := dn) (b := 3) (by omega) (by decide)).mp c_3)))
      have ew_2 : ((fr_dem dn dm p1).2.2) = dm := (congrArg (fun z => z.2.2) (fr_dem_2 (fr_nb_eq c_2) ((nI_eq (a := dn) (b := 3) (by omega) (by decide)).mp c_3)))
      exact fr_reti () hx hb hr hlocks hK (by rw [ew_1, ew_2]; exact hP) (by rw [ew_1, ew_2]; exact hD) hS (congrArg Prod.fst (fr_dem_2 (fr_nb_eq c_2) ((nI_eq (a := dn) (b := 3) (by omega) (by decide)).mp c_3))).symm dX0_demand_20
  · refine lv_iconst (v := (-1 : Int32)) hx hb dX0_demand_8 (by decide) ?_
    have ew_1 : ((fr_dem dn dm p1).2.1) = dn := (congrArg (fun z => z.2.1) (fr_dem_1 (fr_nb_ne c_2)))
    have ew_2 : ((fr_dem dn dm p1).2.2) = dm := (congrArg (fun z => z.2.2) (fr_dem_1 (fr_nb_ne c_2)))
    exact fr_reti () hx hb hr hlocks hK (by rw [ew_1, ew_2]; exact hP) (by rw [ew_1, ew_2]; exact hD) hS (congrArg Prod.fst (fr_dem_1 (fr_nb_ne c_2))).symm dX0_demand_9
set_option maxHeartbeats 4000000 in
theorem met0_undemand (l : Launch) (G : va_G) (h : Nat) (a : Nat → Nat) (d : ClassId) (sz : Nat) (to : Nat → Int32) (mk : Nat → Int32) (dn : Nat) (dm : Nat → Int32) (md : Nat) (kd : Nat → Int32) (lf : Nat → Int32) (rt : Nat → Int32) (vl : Nat → Int32) (ht : Nat) (sk : Nat → Int32) (wy : Nat → Int32) (hdn : dn ≤ 3) : fr_I l yX0_undemand cX0_undemand 1 (some .int) ({ frames := 0, cells := 0, slots := 0, locals := 0 } : Room) [.ref (h)] G d sz (w0 h a d to mk dn dm md kd lf rt vl ht sk wy) (fun (r : Int32) (u : Unit) => r = (fr_und dn dm).1) (fun (u : Unit) => (w0 h a d to mk ((fr_und dn dm).2) dm md kd lf rt vl ht sk wy)) := by
  refine fr_startI RX0 rfl (by decide +kernel) (Nat.le_of_ble_eq_true rfl) ?_
  intro p e s m below meth c A ls hx hb hr hlocks hml hown hts hA hK hP hD hS hl
  have hl : lv_has ls 1 [(0, .ref (h))] := hl
  refine lv_aload_n hx hb dX0_undemand_0 rfl (lv_at hl 0 rfl) ?_
  refine va_get (D := G) (ci := 0) (v := .int (nI (dn))) (C := RX0) (T := TX0) (N := 12) hx hb hts in_X0 hown hK hP 0 rfl rfl 2 (by decide) (hts _ q39) (fun _ h9 => h9) rfl dX0_undemand_1 ?_
  refine lv_if_ne (tgt := 10) hx hb dX0_undemand_4 (by decide) (fun c_1 => ?_) (fun c_1 => ?_)
  · have hd0 : dn ≠ 0 := fun q => c_1 (by rw [q]; rfl)
    refine lv_aload_n hx hb dX0_undemand_10 rfl (lv_at hl 0 rfl) ?_
    refine lv_dup hx hb dX0_undemand_11 rfl ?_
    refine va_get (D := G) (ci := 0) (v := .int (nI (dn))) (C := RX0) (T := TX0) (N := 12) hx hb hts in_X0 hown hK hP 0 rfl rfl 2 (by decide) (hts _ q39) (fun _ h9 => h9) rfl dX0_undemand_12 ?_
    refine lv_iconst (v := (1 : Int32)) hx hb dX0_undemand_15 (by decide) ?_
    refine lv_isub hx hb dX0_undemand_16 ?_
    refine fr_top (pk_sub (a := dn) (b := 1) (by omega)) ?_
    refine va_put (D := G) (ci := 0) (v := .int (nI (dn - 1))) (ty := .int) (C := RX0) (T := TX0) (N := 12) hx hb hts in_X0 tyX0 tyX0_ok nmX0 hown hK hP hD hS 0 rfl rfl 2 (by decide) (hts _ q39) (fun _ h9 => h9) rfl (by decide +kernel) rfl rfl (Nat.le_of_ble_eq_true rfl) dX0_undemand_17 (fun H locs hP hD hS => ?_)
    have hP : va_P G vwCl (w0 h a d to mk (dn - 1) dm md kd lf rt vl ht sk wy) H := hP
    have hD : va_D A (w0 h a d to mk (dn - 1) dm md kd lf rt vl ht sk wy) := hD
    refine lv_aload_n hx hb dX0_undemand_20 rfl (lv_at hl 0 rfl) ?_
    refine va_get (D := G) (ci := 0) (v := .ref (a 3)) (C := RX0) (T := TX0) (N := 12) hx hb hts in_X0 hown hK hP 0 rfl rfl 3 (by decide) (hts _ q40) (fun _ h9 => h9) rfl dX0_undemand_21 ?_
    refine lv_aload_n hx hb dX0_undemand_24 rfl (lv_at hl 0 rfl) ?_
    refine va_get (D := G) (ci := 0) (v := .int (nI (dn - 1))) (C := RX0) (T := TX0) (N := 12) hx hb hts in_X0 hown hK hP 0 rfl rfl 2 (by decide) (hts _ q39) (fun _ h9 => h9) rfl dX0_undemand_25 ?_
    refine fr_iald hx hb hK hP 3 0 rfl rfl (by omega) (by decide) dX0_undemand_28 ?_
    have ew_1 : ((fr_und dn dm).2) = (dn - 1) := (congrArg Prod.snd (fr_und_0 hd0))
    exact fr_reti () hx hb hr hlocks hK (by rw [ew_1]; exact hP) (by rw [ew_1]; exact hD) hS (congrArg Prod.fst (fr_und_0 hd0)).symm dX0_undemand_29
  · refine lv_bipush (v := (-4 : Int32)) hx hb dX0_undemand_7 (by decide) ?_
    have ew_1 : ((fr_und dn dm).2) = dn := (congrArg Prod.snd (fr_und_1 ((nI_eq (a := dn) (b := 0) (by omega) (by decide)).mp c_1)))
    exact fr_reti () hx hb hr hlocks hK (by rw [ew_1]; exact hP) (by rw [ew_1]; exact hD) hS (congrArg Prod.fst (fr_und_1 ((nI_eq (a := dn) (b := 0) (by omega) (by decide)).mp c_1))).symm dX0_undemand_9
set_option maxHeartbeats 4000000 in
theorem met0_make (l : Launch) (G : va_G) (h : Nat) (a : Nat → Nat) (d : ClassId) (sz : Nat) (to : Nat → Int32) (mk : Nat → Int32) (dn : Nat) (dm : Nat → Int32) (md : Nat) (kd : Nat → Int32) (lf : Nat → Int32) (rt : Nat → Int32) (vl : Nat → Int32) (ht : Nat) (sk : Nat → Int32) (wy : Nat → Int32) (p1 : Int32) (p2 : Int32) (p3 : Int32) (hmd : md < 20) : fr_I l yX0_make cX0_make 4 (some .int) ({ frames := 0, cells := 0, slots := 0, locals := 0 } : Room) [.ref (h), .int (p1), .int (p2), .int (p3)] G d sz (w0 h a d to mk dn dm md kd lf rt vl ht sk wy) (fun (r : Int32) (u : Unit) => r = nI md) (fun (u : Unit) => (w0 h a d to mk dn dm (md + 1) (upd kd md p1) (upd lf md p2) (upd rt md p3) vl ht sk wy)) := by
  refine fr_startI RX0 rfl (by decide +kernel) (Nat.le_of_ble_eq_true rfl) ?_
  intro p e s m below meth c A ls hx hb hr hlocks hml hown hts hA hK hP hD hS hl
  have hl : lv_has ls 4 [(0, .ref (h)), (1, .int (p1)), (2, .int (p2)), (3, .int (p3))] := hl
  refine lv_aload_n hx hb dX0_make_0 rfl (lv_at hl 0 rfl) ?_
  refine va_get (D := G) (ci := 0) (v := .ref (a 5)) (C := RX0) (T := TX0) (N := 12) hx hb hts in_X0 hown hK hP 0 rfl rfl 5 (by decide) (hts _ q42) (fun _ h9 => h9) rfl dX0_make_1 ?_
  refine lv_aload_n hx hb dX0_make_4 rfl (lv_at hl 0 rfl) ?_
  refine va_get (D := G) (ci := 0) (v := .int (nI (md))) (C := RX0) (T := TX0) (N := 12) hx hb hts in_X0 hown hK hP 0 rfl rfl 4 (by decide) (hts _ q41) (fun _ h9 => h9) rfl dX0_make_5 ?_
  refine lv_iload_n hx hb dX0_make_8 rfl (lv_at hl 1 rfl) ?_
  refine fr_iast hx hb hK hP hD hS 4 0 rfl rfl (by omega) (by decide) dX0_make_9 (fun H locs hP hD hS => ?_)
  have hP : va_P G vwCl (w0 h a d to mk dn dm md (upd kd md (p1)) lf rt vl ht sk wy) H := hP
  have hD : va_D A (w0 h a d to mk dn dm md (upd kd md (p1)) lf rt vl ht sk wy) := hD
  refine lv_aload_n hx hb dX0_make_10 rfl (lv_at hl 0 rfl) ?_
  refine va_get (D := G) (ci := 0) (v := .ref (a 6)) (C := RX0) (T := TX0) (N := 12) hx hb hts in_X0 hown hK hP 0 rfl rfl 6 (by decide) (hts _ q43) (fun _ h9 => h9) rfl dX0_make_11 ?_
  refine lv_aload_n hx hb dX0_make_14 rfl (lv_at hl 0 rfl) ?_
  refine va_get (D := G) (ci := 0) (v := .int (nI (md))) (C := RX0) (T := TX0) (N := 12) hx hb hts in_X0 hown hK hP 0 rfl rfl 4 (by decide) (hts _ q41) (fun _ h9 => h9) rfl dX0_make_15 ?_
  refine lv_iload_n hx hb dX0_make_18 rfl (lv_at hl 2 rfl) ?_
  refine fr_iast hx hb hK hP hD hS 5 0 rfl rfl (by omega) (by decide) dX0_make_19 (fun H locs hP hD hS => ?_)
  have hP : va_P G vwCl (w0 h a d to mk dn dm md (upd kd md (p1)) (upd lf md (p2)) rt vl ht sk wy) H := hP
  have hD : va_D A (w0 h a d to mk dn dm md (upd kd md (p1)) (upd lf md (p2)) rt vl ht sk wy) := hD
  refine lv_aload_n hx hb dX0_make_20 rfl (lv_at hl 0 rfl) ?_
  refine va_get (D := G) (ci := 0) (v := .ref (a 7)) (C := RX0) (T := TX0) (N := 12) hx hb hts in_X0 hown hK hP 0 rfl rfl 7 (by decide) (hts _ q44) (fun _ h9 => h9) rfl dX0_make_21 ?_
  refine lv_aload_n hx hb dX0_make_24 rfl (lv_at hl 0 rfl) ?_
  refine va_get (D := G) (ci := 0) (v := .int (nI (md))) (C := RX0) (T := TX0) (N := 12) hx hb hts in_X0 hown hK hP 0 rfl rfl 4 (by decide) (hts _ q41) (fun _ h9 => h9) rfl dX0_make_25 ?_
  refine lv_iload_n hx hb dX0_make_28 rfl (lv_at hl 3 rfl) ?_
  refine fr_iast hx hb hK hP hD hS 6 0 rfl rfl (by omega) (by decide) dX0_make_29 (fun H locs hP hD hS => ?_)
  have hP : va_P G vwCl (w0 h a d to mk dn dm md (upd kd md (p1)) (upd lf md (p2)) (upd rt md (p3)) vl ht sk wy) H := hP
  have hD : va_D A (w0 h a d to mk dn dm md (upd kd md (p1)) (upd lf md (p2)) (upd rt md (p3)) vl ht sk wy) := hD
  refine lv_aload_n hx hb dX0_make_30 rfl (lv_at hl 0 rfl) ?_
  refine lv_dup hx hb dX0_make_31 rfl ?_
  refine va_get (D := G) (ci := 0) (v := .int (nI (md))) (C := RX0) (T := TX0) (N := 12) hx hb hts in_X0 hown hK hP 0 rfl rfl 4 (by decide) (hts _ q41) (fun _ h9 => h9) rfl dX0_make_32 ?_
  refine lv_iconst (v := (1 : Int32)) hx hb dX0_make_35 (by decide) ?_
  refine lv_iadd hx hb dX0_make_36 ?_
  refine fr_top (nI_add md 1) ?_
  refine va_put (D := G) (ci := 0) (v := .int (nI (md + 1))) (ty := .int) (C := RX0) (T := TX0) (N := 12) hx hb hts in_X0 tyX0 tyX0_ok nmX0 hown hK hP hD hS 0 rfl rfl 4 (by decide) (hts _ q41) (fun _ h9 => h9) rfl (by decide +kernel) rfl rfl (Nat.le_of_ble_eq_true rfl) dX0_make_37 (fun H locs hP hD hS => ?_)
  have hP : va_P G vwCl (w0 h a d to mk dn dm (md + 1) (upd kd md (p1)) (upd lf md (p2)) (upd rt md (p3)) vl ht sk wy) H := hP
  have hD : va_D A (w0 h a d to mk dn dm (md + 1) (upd kd md (p1)) (upd lf md (p2)) (upd rt md (p3)) vl ht sk wy) := hD
  refine lv_aload_n hx hb dX0_make_40 rfl (lv_at hl 0 rfl) ?_
  refine va_get (D := G) (ci := 0) (v := .int (nI (md + 1))) (C := RX0) (T := TX0) (N := 12) hx hb hts in_X0 hown hK hP 0 rfl rfl 4 (by decide) (hts _ q41) (fun _ h9 => h9) rfl dX0_make_41 ?_
  refine lv_iconst (v := (1 : Int32)) hx hb dX0_make_44 (by decide) ?_
  refine lv_isub hx hb dX0_make_45 ?_
  refine fr_top (pk_sub (a := (md + 1)) (b := 1) (by omega)) ?_
  exact fr_reti () hx hb hr hlocks hK hP hD hS rfl dX0_make_46
set_option maxHeartbeats 4000000 in
theorem met0_push (l : Launch) (G : va_G) (h : Nat) (a : Nat → Nat) (d : ClassId) (sz : Nat) (to : Nat → Int32) (mk : Nat → Int32) (dn : Nat) (dm : Nat → Int32) (md : Nat) (kd : Nat → Int32) (lf : Nat → Int32) (rt : Nat → Int32) (vl : Nat → Int32) (ht : Nat) (sk : Nat → Int32) (wy : Nat → Int32) (p1 : Int32) (hmd : md ≤ 20) (hht : ht ≤ 6) : fr_I l yX0_push cX0_push 2 (some .int) ({ frames := 1, cells := 0, slots := 0, locals := 23 } : Room) [.ref (h), .int (p1)] G d sz (w0 h a d to mk dn dm md kd lf rt vl ht sk wy) (fun (r : Int32) (u : Unit) => r = fr_puR p1 md ht) (fun (u : Unit) => (w0 h a d to mk dn dm (if fr_puO p1 md ht then md + 1 else md) (if fr_puO p1 md ht then upd kd md 0 else kd) (if fr_puO p1 md ht then upd lf md p1 else lf) (if fr_puO p1 md ht then upd rt md 0 else rt) vl (if fr_puO p1 md ht then ht + 1 else ht) (if fr_puO p1 md ht then upd sk ht (nI md) else sk) wy)) := by
  refine fr_startI RX0 rfl (by decide +kernel) (Nat.le_of_ble_eq_true rfl) ?_
  intro p e s m below meth c A ls hx hb hr hlocks hml hown hts hA hK hP hD hS hl
  have hl : lv_has ls 2 [(0, .ref (h)), (1, .int (p1))] := hl
  refine lv_iload_n hx hb dX0_push_0 rfl (lv_at hl 1 rfl) ?_
  refine lv_if_lt (tgt := 9) hx hb dX0_push_1 (by decide) (fun c_1 => ?_) (fun c_1 => ?_)
  · refine lv_iconst (v := (-1 : Int32)) hx hb dX0_push_9 (by decide) ?_
    have ew_1 : (if fr_puO p1 md ht then md + 1 else md) = md := (if_neg (fr_puO_1 (Or.inl (fr_in_neg c_1))))
    have ew_2 : (if fr_puO p1 md ht then upd kd md 0 else kd) = kd := (if_neg (fr_puO_1 (Or.inl (fr_in_neg c_1))))
    have ew_3 : (if fr_puO p1 md ht then upd lf md p1 else lf) = lf := (if_neg (fr_puO_1 (Or.inl (fr_in_neg c_1))))
    have ew_4 : (if fr_puO p1 md ht then upd rt md 0 else rt) = rt := (if_neg (fr_puO_1 (Or.inl (fr_in_neg c_1))))
    have ew_5 : (if fr_puO p1 md ht then ht + 1 else ht) = ht := (if_neg (fr_puO_1 (Or.inl (fr_in_neg c_1))))
    have ew_6 : (if fr_puO p1 md ht then upd sk ht (nI md) else sk) = sk := (if_neg (fr_puO_1 (Or.inl (fr_in_neg c_1))))
    exact fr_reti () hx hb hr hlocks hK (by rw [ew_1, ew_2, ew_3, ew_4, ew_5, ew_6]; exact hP) (by rw [ew_1, ew_2, ew_3, ew_4, ew_5, ew_6]; exact hD) hS (by rw [fr_puR, (fr_in_neg c_1)]; rfl) dX0_push_10
  · refine lv_iload_n hx hb dX0_push_4 rfl (lv_at hl 1 rfl) ?_
    refine lv_iconst (v := (3 : Int32)) hx hb dX0_push_5 (by decide) ?_
    refine lv_icmp_le (tgt := 11) hx hb dX0_push_6 (by decide) (fun c_2 => ?_) (fun c_2 => ?_)
    · refine lv_aload_n hx hb dX0_push_11 rfl (lv_at hl 0 rfl) ?_
      refine va_get (D := G) (ci := 0) (v := .int (nI (ht))) (C := RX0) (T := TX0) (N := 12) hx hb hts in_X0 hown hK hP 0 rfl rfl 9 (by decide) (hts _ q46) (fun _ h9 => h9) rfl dX0_push_12 ?_
      refine lv_bipush (v := (6 : Int32)) hx hb dX0_push_15 (by decide) ?_
      refine lv_icmp_eq (tgt := 29) hx hb dX0_push_17 (by decide) (fun c_3 => ?_) (fun c_3 => ?_)
      · refine lv_bipush (v := (-2 : Int32)) hx hb dX0_push_29 (by decide) ?_
        have ew_1 : (if fr_puO p1 md ht then md + 1 else md) = md := (if_neg (fr_puO_1 (Or.inr (Or.inl ((nI_eq (a := ht) (b := 6) (by omega) (by decide)).mp c_3)))))
        have ew_2 : (if fr_puO p1 md ht then upd kd md 0 else kd) = kd := (if_neg (fr_puO_1 (Or.inr (Or.inl ((nI_eq (a := ht) (b := 6) (by omega) (by decide)).mp c_3)))))
        have ew_3 : (if fr_puO p1 md ht then upd lf md p1 else lf) = lf := (if_neg (fr_puO_1 (Or.inr (Or.inl ((nI_eq (a := ht) (b := 6) (by omega) (by decide)).mp c_3)))))
        have ew_4 : (if fr_puO p1 md ht then upd rt md 0 else rt) = rt := (if_neg (fr_puO_1 (Or.inr (Or.inl ((nI_eq (a := ht) (b := 6) (by omega) (by decide)).mp c_3)))))
        have ew_5 : (if fr_puO p1 md ht then ht + 1 else ht) = ht := (if_neg (fr_puO_1 (Or.inr (Or.inl ((nI_eq (a := ht) (b := 6) (by omega) (by decide)).mp c_3)))))
        have ew_6 : (if fr_puO p1 md ht then upd sk ht (nI md) else sk) = sk := (if_neg (fr_puO_1 (Or.inr (Or.inl ((nI_eq (a := ht) (b := 6) (by omega) (by decide)).mp c_3)))))
        exact fr_reti () hx hb hr hlocks hK (by rw [ew_1, ew_2, ew_3, ew_4, ew_5, ew_6]; exact hP) (by rw [ew_1, ew_2, ew_3, ew_4, ew_5, ew_6]; exact hD) hS (by rw [fr_puR, (fr_in_t' (n := 4) (y := 3) rfl c_1 c_2), if_pos rfl, if_pos ((nI_eq (a := ht) (b := 6) (by omega) (by decide)).mp c_3)]) dX0_push_31
      · refine lv_aload_n hx hb dX0_push_20 rfl (lv_at hl 0 rfl) ?_
        refine va_get (D := G) (ci := 0) (v := .int (nI (md))) (C := RX0) (T := TX0) (N := 12) hx hb hts in_X0 hown hK hP 0 rfl rfl 4 (by decide) (hts _ q41) (fun _ h9 => h9) rfl dX0_push_21 ?_
        refine lv_bipush (v := (20 : Int32)) hx hb dX0_push_24 (by decide) ?_
        refine lv_icmp_ne (tgt := 32) hx hb dX0_push_26 (by decide) (fun c_4 => ?_) (fun c_4 => ?_)
        · have h6 : ht ≠ 6 := fun q => c_3 (by rw [q]; rfl)
          have h20 : md ≠ 20 := fun q => c_4 (by rw [q]; rfl)
          have hm : md < 20 := by omega
          refine lv_aload_n hx hb dX0_push_32 rfl (lv_at hl 0 rfl) ?_
          refine va_get (D := G) (ci := 0) (v := .ref (a 10)) (C := RX0) (T := TX0) (N := 12) hx hb hts in_X0 hown hK hP 0 rfl rfl 10 (by decide) (hts _ q47) (fun _ h9 => h9) rfl dX0_push_33 ?_
          refine lv_aload_n hx hb dX0_push_36 rfl (lv_at hl 0 rfl) ?_
          refine va_get (D := G) (ci := 0) (v := .int (nI (ht))) (C := RX0) (T := TX0) (N := 12) hx hb hts in_X0 hown hK hP 0 rfl rfl 9 (by decide) (hts _ q46) (fun _ h9 => h9) rfl dX0_push_37 ?_
          refine lv_aload_n hx hb dX0_push_40 rfl (lv_at hl 0 rfl) ?_
          refine lv_iconst (v := (0 : Int32)) hx hb dX0_push_41 (by decide) ?_
          refine lv_iload_n hx hb dX0_push_42 rfl (lv_at hl 1 rfl) ?_
          refine lv_iconst (v := (0 : Int32)) hx hb dX0_push_43 (by decide) ?_
          refine fr_calli (As := [.int ((0 : Int32)), .int (p1), .int ((0 : Int32))]) (rest := [.int (nI (ht)), .ref (a 10)]) ⟨hx, hb, hml, hown, hts⟩ (met0_make l G h a d _ to mk dn dm md kd lf rt vl ht sk wy ((0 : Int32)) p1 ((0 : Int32)) hm) (cwV 3 hts (lw_V q103 q105 qs2 q27 q106) rfl rfl rfl (by decide +kernel) ⟨Nat.le_of_ble_eq_true rfl, Nat.le_of_ble_eq_true rfl⟩) (va_recv hK hP (ci := 0) (q0 := 0) rfl rfl) hK hP hD hS hA rfl hl.1 rfl (Nat.le_of_ble_eq_true rfl) dX0_push_44 ⟨Nat.le_refl _, Nat.le_refl _⟩ (fun r_5 u_5 H locs hw_5 hP hD hS => ?_)
          have hw_5 : r_5 = nI md := hw_5
          subst hw_5
          have hP : va_P G vwCl (w0 h a d to mk dn dm (md + 1) (upd kd md ((0 : Int32))) (upd lf md p1) (upd rt md ((0 : Int32))) vl ht sk wy) H := hP
          have hD : va_D A (w0 h a d to mk dn dm (md + 1) (upd kd md ((0 : Int32))) (upd lf md p1) (upd rt md ((0 : Int32))) vl ht sk wy) := hD
          refine fr_top rfl ?_
          refine fr_iast hx hb hK hP hD hS 8 0 rfl rfl (by omega) (by decide) dX0_push_47 (fun H locs hP hD hS => ?_)
          have hP : va_P G vwCl (w0 h a d to mk dn dm (md + 1) (upd kd md ((0 : Int32))) (upd lf md p1) (upd rt md ((0 : Int32))) vl ht (upd sk ht (nI (md))) wy) H := hP
          have hD : va_D A (w0 h a d to mk dn dm (md + 1) (upd kd md ((0 : Int32))) (upd lf md p1) (upd rt md ((0 : Int32))) vl ht (upd sk ht (nI (md))) wy) := hD
          refine lv_aload_n hx hb dX0_push_48 rfl (lv_at hl 0 rfl) ?_
          refine lv_dup hx hb dX0_push_49 rfl ?_
          refine va_get (D := G) (ci := 0) (v := .int (nI (ht))) (C := RX0) (T := TX0) (N := 12) hx hb hts in_X0 hown hK hP 0 rfl rfl 9 (by decide) (hts _ q46) (fun _ h9 => h9) rfl dX0_push_50 ?_
          refine lv_iconst (v := (1 : Int32)) hx hb dX0_push_53 (by decide) ?_
          refine lv_iadd hx hb dX0_push_54 ?_
          refine fr_top (nI_add ht 1) ?_
          refine va_put (D := G) (ci := 0) (v := .int (nI (ht + 1))) (ty := .int) (C := RX0) (T := TX0) (N := 12) hx hb hts in_X0 tyX0 tyX0_ok nmX0 hown hK hP hD hS 0 rfl rfl 9 (by decide) (hts _ q46) (fun _ h9 => h9) rfl (by decide +kernel) rfl rfl (Nat.le_of_ble_eq_true rfl) dX0_push_55 (fun H locs hP hD hS => ?_)
          have hP : va_P G vwCl (w0 h a d to mk dn dm (md + 1) (upd kd md ((0 : Int32))) (upd lf md p1) (upd rt md ((0 : Int32))) vl (ht + 1) (upd sk ht (nI (md))) wy) H := hP
          have hD : va_D A (w0 h a d to mk dn dm (md + 1) (upd kd md ((0 : Int32))) (upd lf md p1) (upd rt md ((0 : Int32))) vl (ht + 1) (upd sk ht (nI (md))) wy) := hD
          refine lv_aload_n hx hb dX0_push_58 rfl (lv_at hl 0 rfl) ?_
          refine va_get (D := G) (ci := 0) (v := .int (nI (ht + 1))) (C := RX0) (T := TX0) (N := 12) hx hb hts in_X0 hown hK hP 0 rfl rfl 9 (by decide) (hts _ q46) (fun _ h9 => h9) rfl dX0_push_59 ?_
          have ew_1 : (if fr_puO p1 md ht then md + 1 else md) = (md + 1) := (if_pos (fr_puO_0 (fr_in_t' (n := 4) (y := 3) rfl c_1 c_2) h6 h20))
          have ew_2 : (if fr_puO p1 md ht then upd kd md 0 else kd) = (upd kd md ((0 : Int32))) := (if_pos (fr_puO_0 (fr_in_t' (n := 4) (y := 3) rfl c_1 c_2) h6 h20))
          have ew_3 : (if fr_puO p1 md ht then upd lf md p1 else lf) = (upd lf md p1) := (if_pos (fr_puO_0 (fr_in_t' (n := 4) (y := 3) rfl c_1 c_2) h6 h20))
          have ew_4 : (if fr_puO p1 md ht then upd rt md 0 else rt) = (upd rt md ((0 : Int32))) := (if_pos (fr_puO_0 (fr_in_t' (n := 4) (y := 3) rfl c_1 c_2) h6 h20))
          have ew_5 : (if fr_puO p1 md ht then ht + 1 else ht) = (ht + 1) := (if_pos (fr_puO_0 (fr_in_t' (n := 4) (y := 3) rfl c_1 c_2) h6 h20))
          have ew_6 : (if fr_puO p1 md ht then upd sk ht (nI md) else sk) = (upd sk ht (nI (md))) := (if_pos (fr_puO_0 (fr_in_t' (n := 4) (y := 3) rfl c_1 c_2) h6 h20))
          exact fr_reti () hx hb hr hlocks hK (by rw [ew_1, ew_2, ew_3, ew_4, ew_5, ew_6]; exact hP) (by rw [ew_1, ew_2, ew_3, ew_4, ew_5, ew_6]; exact hD) hS (by rw [fr_puR, (fr_in_t' (n := 4) (y := 3) rfl c_1 c_2), if_pos rfl, if_neg h6, if_neg h20]) dX0_push_62
        · refine lv_bipush (v := (-2 : Int32)) hx hb dX0_push_29 (by decide) ?_
          have ew_1 : (if fr_puO p1 md ht then md + 1 else md) = md := (if_neg (fr_puO_1 (Or.inr (Or.inr ((nI_eq (a := md) (b := 20) (by omega) (by decide)).mp c_4)))))
          have ew_2 : (if fr_puO p1 md ht then upd kd md 0 else kd) = kd := (if_neg (fr_puO_1 (Or.inr (Or.inr ((nI_eq (a := md) (b := 20) (by omega) (by decide)).mp c_4)))))
          have ew_3 : (if fr_puO p1 md ht then upd lf md p1 else lf) = lf := (if_neg (fr_puO_1 (Or.inr (Or.inr ((nI_eq (a := md) (b := 20) (by omega) (by decide)).mp c_4)))))
          have ew_4 : (if fr_puO p1 md ht then upd rt md 0 else rt) = rt := (if_neg (fr_puO_1 (Or.inr (Or.inr ((nI_eq (a := md) (b := 20) (by omega) (by decide)).mp c_4)))))
          have ew_5 : (if fr_puO p1 md ht then ht + 1 else ht) = ht := (if_neg (fr_puO_1 (Or.inr (Or.inr ((nI_eq (a := md) (b := 20) (by omega) (by decide)).mp c_4)))))
          have ew_6 : (if fr_puO p1 md ht then upd sk ht (nI md) else sk) = sk := (if_neg (fr_puO_1 (Or.inr (Or.inr ((nI_eq (a := md) (b := 20) (by omega) (by decide)).mp c_4)))))
          exact fr_reti () hx hb hr hlocks hK (by rw [ew_1, ew_2, ew_3, ew_4, ew_5, ew_6]; exact hP) (by rw [ew_1, ew_2, ew_3, ew_4, ew_5, ew_6]; exact hD) hS (by rw [fr_puR, (fr_in_t' (n := 4) (y := 3) rfl c_1 c_2), if_pos rfl, if_neg (fun q => c_3 (by rw [q]; rfl)), if_pos ((nI_eq (a := md) (b := 20) (by omega) (by decide)).mp c_4)]) dX0_push_31
    · refine lv_iconst (v := (-1 : Int32)) hx hb dX0_push_9 (by decide) ?_
      have ew_1 : (if fr_puO p1 md ht then md + 1 else md) = md := (if_neg (fr_puO_1 (Or.inl (fr_in_big' (n := 4) (y := 3) rfl (fr_nle c_2)))))
      have ew_2 : (if fr_puO p1 md ht then upd kd md 0 else kd) = kd := (if_neg (fr_puO_1 (Or.inl (fr_in_big' (n := 4) (y := 3) rfl (fr_nle c_2)))))
      have ew_3 : (if fr_puO p1 md ht then upd lf md p1 else lf) = lf := (if_neg (fr_puO_1 (Or.inl (fr_in_big' (n := 4) (y := 3) rfl (fr_nle c_2)))))
      have ew_4 : (if fr_puO p1 md ht then upd rt md 0 else rt) = rt := (if_neg (fr_puO_1 (Or.inl (fr_in_big' (n := 4) (y := 3) rfl (fr_nle c_2)))))
      have ew_5 : (if fr_puO p1 md ht then ht + 1 else ht) = ht := (if_neg (fr_puO_1 (Or.inl (fr_in_big' (n := 4) (y := 3) rfl (fr_nle c_2)))))
      have ew_6 : (if fr_puO p1 md ht then upd sk ht (nI md) else sk) = sk := (if_neg (fr_puO_1 (Or.inl (fr_in_big' (n := 4) (y := 3) rfl (fr_nle c_2)))))
      exact fr_reti () hx hb hr hlocks hK (by rw [ew_1, ew_2, ew_3, ew_4, ew_5, ew_6]; exact hP) (by rw [ew_1, ew_2, ew_3, ew_4, ew_5, ew_6]; exact hD) hS (by rw [fr_puR, (fr_in_big' (n := 4) (y := 3) rfl (fr_nle c_2))]; rfl) dX0_push_10
set_option maxHeartbeats 4000000 in
theorem met0_one (l : Launch) (G : va_G) (h : Nat) (a : Nat → Nat) (d : ClassId) (sz : Nat) (to : Nat → Int32) (mk : Nat → Int32) (dn : Nat) (dm : Nat → Int32) (md : Nat) (kd : Nat → Int32) (lf : Nat → Int32) (rt : Nat → Int32) (vl : Nat → Int32) (ht : Nat) (sk : Nat → Int32) (wy : Nat → Int32) (p1 : Int32) (hmd : md ≤ 20) (hht : ht ≤ 6) : fr_I l yX0_one cX0_one 2 (some .int) ({ frames := 1, cells := 0, slots := 0, locals := 23 } : Room) [.ref (h), .int (p1)] G d sz (w0 h a d to mk dn dm md kd lf rt vl ht sk wy) (fun (r : Int32) (u : Unit) => r = fr_onR p1 md ht) (fun (u : Unit) => (w0 h a d to mk dn dm (if fr_onO p1 md ht then md + 1 else md) (if fr_onO p1 md ht then upd kd md (1 + p1) else kd) (if fr_onO p1 md ht then upd lf md (sk (ht - 1)) else lf) (if fr_onO p1 md ht then upd rt md 0 else rt) vl ht (if fr_onO p1 md ht then upd sk (ht - 1) (nI md) else sk) wy)) := by
  refine fr_startI RX0 rfl (by decide +kernel) (Nat.le_of_ble_eq_true rfl) ?_
  intro p e s m below meth c A ls hx hb hr hlocks hml hown hts hA hK hP hD hS hl
  have hl : lv_has ls 2 [(0, .ref (h)), (1, .int (p1))] := hl
  refine lv_iload_n hx hb dX0_one_0 rfl (lv_at hl 1 rfl) ?_
  refine lv_if_lt (tgt := 10) hx hb dX0_one_1 (by decide) (fun c_1 => ?_) (fun c_1 => ?_)
  · refine lv_iconst (v := (-1 : Int32)) hx hb dX0_one_10 (by decide) ?_
    have ew_1 : (if fr_onO p1 md ht then md + 1 else md) = md := (if_neg (fr_onO_1 (Or.inl (fr_in_neg c_1))))
    have ew_2 : (if fr_onO p1 md ht then upd kd md (1 + p1) else kd) = kd := (if_neg (fr_onO_1 (Or.inl (fr_in_neg c_1))))
    have ew_3 : (if fr_onO p1 md ht then upd lf md (sk (ht - 1)) else lf) = lf := (if_neg (fr_onO_1 (Or.inl (fr_in_neg c_1))))
    have ew_4 : (if fr_onO p1 md ht then upd rt md 0 else rt) = rt := (if_neg (fr_onO_1 (Or.inl (fr_in_neg c_1))))
    have ew_5 : (if fr_onO p1 md ht then upd sk (ht - 1) (nI md) else sk) = sk := (if_neg (fr_onO_1 (Or.inl (fr_in_neg c_1))))
    exact fr_reti () hx hb hr hlocks hK (by rw [ew_1, ew_2, ew_3, ew_4, ew_5]; exact hP) (by rw [ew_1, ew_2, ew_3, ew_4, ew_5]; exact hD) hS (by rw [fr_onR, (fr_in_neg c_1)]; rfl) dX0_one_11
  · refine lv_iload_n hx hb dX0_one_4 rfl (lv_at hl 1 rfl) ?_
    refine lv_bipush (v := (6 : Int32)) hx hb dX0_one_5 (by decide) ?_
    refine lv_icmp_le (tgt := 12) hx hb dX0_one_7 (by decide) (fun c_2 => ?_) (fun c_2 => ?_)
    · refine lv_aload_n hx hb dX0_one_12 rfl (lv_at hl 0 rfl) ?_
      refine va_get (D := G) (ci := 0) (v := .int (nI (ht))) (C := RX0) (T := TX0) (N := 12) hx hb hts in_X0 hown hK hP 0 rfl rfl 9 (by decide) (hts _ q46) (fun _ h9 => h9) rfl dX0_one_13 ?_
      refine lv_if_ne (tgt := 22) hx hb dX0_one_16 (by decide) (fun c_3 => ?_) (fun c_3 => ?_)
      · have h0 : ht ≠ 0 := fun q => c_3 (by rw [q]; rfl)
        refine lv_aload_n hx hb dX0_one_22 rfl (lv_at hl 0 rfl) ?_
        refine va_get (D := G) (ci := 0) (v := .int (nI (md))) (C := RX0) (T := TX0) (N := 12) hx hb hts in_X0 hown hK hP 0 rfl rfl 4 (by decide) (hts _ q41) (fun _ h9 => h9) rfl dX0_one_23 ?_
        refine lv_bipush (v := (20 : Int32)) hx hb dX0_one_26 (by decide) ?_
        refine lv_icmp_ne (tgt := 34) hx hb dX0_one_28 (by decide) (fun c_4 => ?_) (fun c_4 => ?_)
        · have h20 : md ≠ 20 := fun q => c_4 (by rw [q]; rfl)
          have hm : md < 20 := by omega
          refine lv_aload_n hx hb dX0_one_34 rfl (lv_at hl 0 rfl) ?_
          refine va_get (D := G) (ci := 0) (v := .ref (a 10)) (C := RX0) (T := TX0) (N := 12) hx hb hts in_X0 hown hK hP 0 rfl rfl 10 (by decide) (hts _ q47) (fun _ h9 => h9) rfl dX0_one_35 ?_
          refine lv_aload_n hx hb dX0_one_38 rfl (lv_at hl 0 rfl) ?_
          refine va_get (D := G) (ci := 0) (v := .int (nI (ht))) (C := RX0) (T := TX0) (N := 12) hx hb hts in_X0 hown hK hP 0 rfl rfl 9 (by decide) (hts _ q46) (fun _ h9 => h9) rfl dX0_one_39 ?_
          refine lv_iconst (v := (1 : Int32)) hx hb dX0_one_42 (by decide) ?_
          refine lv_isub hx hb dX0_one_43 ?_
          refine fr_top (pk_sub (a := ht) (b := 1) (by omega)) ?_
          refine lv_aload_n hx hb dX0_one_44 rfl (lv_at hl 0 rfl) ?_
          refine lv_iconst (v := (1 : Int32)) hx hb dX0_one_45 (by decide) ?_
          refine lv_iload_n hx hb dX0_one_46 rfl (lv_at hl 1 rfl) ?_
          refine lv_iadd hx hb dX0_one_47 ?_
          refine lv_aload_n hx hb dX0_one_48 rfl (lv_at hl 0 rfl) ?_
          refine va_get (D := G) (ci := 0) (v := .ref (a 10)) (C := RX0) (T := TX0) (N := 12) hx hb hts in_X0 hown hK hP 0 rfl rfl 10 (by decide) (hts _ q47) (fun _ h9 => h9) rfl dX0_one_49 ?_
          refine lv_aload_n hx hb dX0_one_52 rfl (lv_at hl 0 rfl) ?_
          refine va_get (D := G) (ci := 0) (v := .int (nI (ht))) (C := RX0) (T := TX0) (N := 12) hx hb hts in_X0 hown hK hP 0 rfl rfl 9 (by decide) (hts _ q46) (fun _ h9 => h9) rfl dX0_one_53 ?_
          refine lv_iconst (v := (1 : Int32)) hx hb dX0_one_56 (by decide) ?_
          refine lv_isub hx hb dX0_one_57 ?_
          refine fr_top (pk_sub (a := ht) (b := 1) (by omega)) ?_
          refine fr_iald hx hb hK hP 8 0 rfl rfl (by omega) (by decide) dX0_one_58 ?_
          refine lv_iconst (v := (0 : Int32)) hx hb dX0_one_59 (by decide) ?_
          refine fr_calli (As := [.int (((1 : Int32)) + (p1)), .int (sk (ht - 1)), .int ((0 : Int32))]) (rest := [.int (nI (ht - 1)), .ref (a 10)]) ⟨hx, hb, hml, hown, hts⟩ (met0_make l G h a d _ to mk dn dm md kd lf rt vl ht sk wy (((1 : Int32)) + (p1)) (sk (ht - 1)) ((0 : Int32)) hm) (cwV 3 hts (lw_V q103 q105 qs2 q27 q106) rfl rfl rfl (by decide +kernel) ⟨Nat.le_of_ble_eq_true rfl, Nat.le_of_ble_eq_true rfl⟩) (va_recv hK hP (ci := 0) (q0 := 0) rfl rfl) hK hP hD hS hA rfl hl.1 rfl (Nat.le_of_ble_eq_true rfl) dX0_one_60 ⟨Nat.le_refl _, Nat.le_refl _⟩ (fun r_5 u_5 H locs hw_5 hP hD hS => ?_)
          have hw_5 : r_5 = nI md := hw_5
          subst hw_5
          have hP : va_P G vwCl (w0 h a d to mk dn dm (md + 1) (upd kd md (((1 : Int32)) + (p1))) (upd lf md (sk (ht - 1))) (upd rt md ((0 : Int32))) vl ht sk wy) H := hP
          have hD : va_D A (w0 h a d to mk dn dm (md + 1) (upd kd md (((1 : Int32)) + (p1))) (upd lf md (sk (ht - 1))) (upd rt md ((0 : Int32))) vl ht sk wy) := hD
          refine fr_top rfl ?_
          refine fr_iast hx hb hK hP hD hS 8 0 rfl rfl (by omega) (by decide) dX0_one_63 (fun H locs hP hD hS => ?_)
          have hP : va_P G vwCl (w0 h a d to mk dn dm (md + 1) (upd kd md (((1 : Int32)) + (p1))) (upd lf md (sk (ht - 1))) (upd rt md ((0 : Int32))) vl ht (upd sk (ht - 1) (nI (md))) wy) H := hP
          have hD : va_D A (w0 h a d to mk dn dm (md + 1) (upd kd md (((1 : Int32)) + (p1))) (upd lf md (sk (ht - 1))) (upd rt md ((0 : Int32))) vl ht (upd sk (ht - 1) (nI (md))) wy) := hD
          refine lv_aload_n hx hb dX0_one_64 rfl (lv_at hl 0 rfl) ?_
          refine va_get (D := G) (ci := 0) (v := .int (nI (ht))) (C := RX0) (T := TX0) (N := 12) hx hb hts in_X0 hown hK hP 0 rfl rfl 9 (by decide) (hts _ q46) (fun _ h9 => h9) rfl dX0_one_65 ?_
          have ew_1 : (if fr_onO p1 md ht then md + 1 else md) = (md + 1) := (if_pos (fr_onO_0 (fr_in_t' (n := 7) (y := 6) rfl c_1 c_2) h0 h20))
          have ew_2 : (if fr_onO p1 md ht then upd kd md (1 + p1) else kd) = (upd kd md (((1 : Int32)) + (p1))) := (if_pos (fr_onO_0 (fr_in_t' (n := 7) (y := 6) rfl c_1 c_2) h0 h20))
          have ew_3 : (if fr_onO p1 md ht then upd lf md (sk (ht - 1)) else lf) = (upd lf md (sk (ht - 1))) := (if_pos (fr_onO_0 (fr_in_t' (n := 7) (y := 6) rfl c_1 c_2) h0 h20))
          have ew_4 : (if fr_onO p1 md ht then upd rt md 0 else rt) = (upd rt md ((0 : Int32))) := (if_pos (fr_onO_0 (fr_in_t' (n := 7) (y := 6) rfl c_1 c_2) h0 h20))
          have ew_5 : (if fr_onO p1 md ht then upd sk (ht - 1) (nI md) else sk) = (upd sk (ht - 1) (nI (md))) := (if_pos (fr_onO_0 (fr_in_t' (n := 7) (y := 6) rfl c_1 c_2) h0 h20))
          exact fr_reti () hx hb hr hlocks hK (by rw [ew_1, ew_2, ew_3, ew_4, ew_5]; exact hP) (by rw [ew_1, ew_2, ew_3, ew_4, ew_5]; exact hD) hS (by rw [fr_onR, (fr_in_t' (n := 7) (y := 6) rfl c_1 c_2), if_pos rfl, if_neg h0, if_neg h20]) dX0_one_68
        · refine lv_bipush (v := (-2 : Int32)) hx hb dX0_one_31 (by decide) ?_
          have ew_1 : (if fr_onO p1 md ht then md + 1 else md) = md := (if_neg (fr_onO_1 (Or.inr (Or.inr ((nI_eq (a := md) (b := 20) (by omega) (by decide)).mp c_4)))))
          have ew_2 : (if fr_onO p1 md ht then upd kd md (1 + p1) else kd) = kd := (if_neg (fr_onO_1 (Or.inr (Or.inr ((nI_eq (a := md) (b := 20) (by omega) (by decide)).mp c_4)))))
          have ew_3 : (if fr_onO p1 md ht then upd lf md (sk (ht - 1)) else lf) = lf := (if_neg (fr_onO_1 (Or.inr (Or.inr ((nI_eq (a := md) (b := 20) (by omega) (by decide)).mp c_4)))))
          have ew_4 : (if fr_onO p1 md ht then upd rt md 0 else rt) = rt := (if_neg (fr_onO_1 (Or.inr (Or.inr ((nI_eq (a := md) (b := 20) (by omega) (by decide)).mp c_4)))))
          have ew_5 : (if fr_onO p1 md ht then upd sk (ht - 1) (nI md) else sk) = sk := (if_neg (fr_onO_1 (Or.inr (Or.inr ((nI_eq (a := md) (b := 20) (by omega) (by decide)).mp c_4)))))
          exact fr_reti () hx hb hr hlocks hK (by rw [ew_1, ew_2, ew_3, ew_4, ew_5]; exact hP) (by rw [ew_1, ew_2, ew_3, ew_4, ew_5]; exact hD) hS (by rw [fr_onR, (fr_in_t' (n := 7) (y := 6) rfl c_1 c_2), if_pos rfl, if_neg h0, if_pos ((nI_eq (a := md) (b := 20) (by omega) (by decide)).mp c_4)]) dX0_one_33
      · refine lv_bipush (v := (-3 : Int32)) hx hb dX0_one_19 (by decide) ?_
        have ew_1 : (if fr_onO p1 md ht then md + 1 else md) = md := (if_neg (fr_onO_1 (Or.inr (Or.inl ((nI_eq (a := ht) (b := 0) (by omega) (by decide)).mp c_3)))))
        have ew_2 : (if fr_onO p1 md ht then upd kd md (1 + p1) else kd) = kd := (if_neg (fr_onO_1 (Or.inr (Or.inl ((nI_eq (a := ht) (b := 0) (by omega) (by decide)).mp c_3)))))
        have ew_3 : (if fr_onO p1 md ht then upd lf md (sk (ht - 1)) else lf) = lf := (if_neg (fr_onO_1 (Or.inr (Or.inl ((nI_eq (a := ht) (b := 0) (by omega) (by decide)).mp c_3)))))
        have ew_4 : (if fr_onO p1 md ht then upd rt md 0 else rt) = rt := (if_neg (fr_onO_1 (Or.inr (Or.inl ((nI_eq (a := ht) (b := 0) (by omega) (by decide)).mp c_3)))))
        have ew_5 : (if fr_onO p1 md ht then upd sk (ht - 1) (nI md) else sk) = sk := (if_neg (fr_onO_1 (Or.inr (Or.inl ((nI_eq (a := ht) (b := 0) (by omega) (by decide)).mp c_3)))))
        exact fr_reti () hx hb hr hlocks hK (by rw [ew_1, ew_2, ew_3, ew_4, ew_5]; exact hP) (by rw [ew_1, ew_2, ew_3, ew_4, ew_5]; exact hD) hS (by rw [fr_onR, (fr_in_t' (n := 7) (y := 6) rfl c_1 c_2), if_pos rfl, if_pos ((nI_eq (a := ht) (b := 0) (by omega) (by decide)).mp c_3)]) dX0_one_21
    · refine lv_iconst (v := (-1 : Int32)) hx hb dX0_one_10 (by decide) ?_
      have ew_1 : (if fr_onO p1 md ht then md + 1 else md) = md := (if_neg (fr_onO_1 (Or.inl (fr_in_big' (n := 7) (y := 6) rfl (fr_nle c_2)))))
      have ew_2 : (if fr_onO p1 md ht then upd kd md (1 + p1) else kd) = kd := (if_neg (fr_onO_1 (Or.inl (fr_in_big' (n := 7) (y := 6) rfl (fr_nle c_2)))))
      have ew_3 : (if fr_onO p1 md ht then upd lf md (sk (ht - 1)) else lf) = lf := (if_neg (fr_onO_1 (Or.inl (fr_in_big' (n := 7) (y := 6) rfl (fr_nle c_2)))))
      have ew_4 : (if fr_onO p1 md ht then upd rt md 0 else rt) = rt := (if_neg (fr_onO_1 (Or.inl (fr_in_big' (n := 7) (y := 6) rfl (fr_nle c_2)))))
      have ew_5 : (if fr_onO p1 md ht then upd sk (ht - 1) (nI md) else sk) = sk := (if_neg (fr_onO_1 (Or.inl (fr_in_big' (n := 7) (y := 6) rfl (fr_nle c_2)))))
      exact fr_reti () hx hb hr hlocks hK (by rw [ew_1, ew_2, ew_3, ew_4, ew_5]; exact hP) (by rw [ew_1, ew_2, ew_3, ew_4, ew_5]; exact hD) hS (by rw [fr_onR, (fr_in_big' (n := 7) (y := 6) rfl (fr_nle c_2))]; rfl) dX0_one_11
set_option maxHeartbeats 4000000 in
theorem met0_two (l : Launch) (G : va_G) (h : Nat) (a : Nat → Nat) (d : ClassId) (sz : Nat) (to : Nat → Int32) (mk : Nat → Int32) (dn : Nat) (dm : Nat → Int32) (md : Nat) (kd : Nat → Int32) (lf : Nat → Int32) (rt : Nat → Int32) (vl : Nat → Int32) (ht : Nat) (sk : Nat → Int32) (wy : Nat → Int32) (p1 : Int32) (hmd : md ≤ 20) (hht : ht ≤ 6) : fr_I l yX0_two cX0_two 2 (some .int) ({ frames := 1, cells := 0, slots := 0, locals := 23 } : Room) [.ref (h), .int (p1)] G d sz (w0 h a d to mk dn dm md kd lf rt vl ht sk wy) (fun (r : Int32) (u : Unit) => r = fr_twR p1 md ht) (fun (u : Unit) => (w0 h a d to mk dn dm (if fr_twO p1 md ht then md + 1 else md) (if fr_twO p1 md ht then upd kd md (8 + p1) else kd) (if fr_twO p1 md ht then upd lf md (sk (ht - 1 - 1)) else lf) (if fr_twO p1 md ht then upd rt md (sk (ht - 1)) else rt) vl (if fr_twO p1 md ht then ht - 1 else ht) (if fr_twO p1 md ht then upd sk (ht - 1 - 1) (nI md) else sk) wy)) := by
  refine fr_startI RX0 rfl (by decide +kernel) (Nat.le_of_ble_eq_true rfl) ?_
  intro p e s m below meth c A ls hx hb hr hlocks hml hown hts hA hK hP hD hS hl
  have hl : lv_has ls 2 [(0, .ref (h)), (1, .int (p1))] := hl
  refine lv_iload_n hx hb dX0_two_0 rfl (lv_at hl 1 rfl) ?_
  refine lv_if_lt (tgt := 9) hx hb dX0_two_1 (by decide) (fun c_1 => ?_) (fun c_1 => ?_)
  · refine lv_iconst (v := (-1 : Int32)) hx hb dX0_two_9 (by decide) ?_
    have ew_1 : (if fr_twO p1 md ht then md + 1 else md) = md := (if_neg (fr_twO_1 (Or.inl (fr_in_neg c_1))))
    have ew_2 : (if fr_twO p1 md ht then upd kd md (8 + p1) else kd) = kd := (if_neg (fr_twO_1 (Or.inl (fr_in_neg c_1))))
    have ew_3 : (if fr_twO p1 md ht then upd lf md (sk (ht - 1 - 1)) else lf) = lf := (if_neg (fr_twO_1 (Or.inl (fr_in_neg c_1))))
    have ew_4 : (if fr_twO p1 md ht then upd rt md (sk (ht - 1)) else rt) = rt := (if_neg (fr_twO_1 (Or.inl (fr_in_neg c_1))))
    have ew_5 : (if fr_twO p1 md ht then ht - 1 else ht) = ht := (if_neg (fr_twO_1 (Or.inl (fr_in_neg c_1))))
    have ew_6 : (if fr_twO p1 md ht then upd sk (ht - 1 - 1) (nI md) else sk) = sk := (if_neg (fr_twO_1 (Or.inl (fr_in_neg c_1))))
    exact fr_reti () hx hb hr hlocks hK (by rw [ew_1, ew_2, ew_3, ew_4, ew_5, ew_6]; exact hP) (by rw [ew_1, ew_2, ew_3, ew_4, ew_5, ew_6]; exact hD) hS (by rw [fr_twR, (fr_in_neg c_1)]; rfl) dX0_two_10
  · refine lv_iload_n hx hb dX0_two_4 rfl (lv_at hl 1 rfl) ?_
    refine lv_iconst (v := (3 : Int32)) hx hb dX0_two_5 (by decide) ?_
    refine lv_icmp_le (tgt := 11) hx hb dX0_two_6 (by decide) (fun c_2 => ?_) (fun c_2 => ?_)
    · refine lv_aload_n hx hb dX0_two_11 rfl (lv_at hl 0 rfl) ?_
      refine va_get (D := G) (ci := 0) (v := .int (nI (ht))) (C := RX0) (T := TX0) (N := 12) hx hb hts in_X0 hown hK hP 0 rfl rfl 9 (by decide) (hts _ q46) (fun _ h9 => h9) rfl dX0_two_12 ?_
      refine lv_iconst (v := (2 : Int32)) hx hb dX0_two_15 (by decide) ?_
      refine lv_icmp_ge (tgt := 22) hx hb dX0_two_16 (by decide) (fun c_3 => ?_) (fun c_3 => ?_)
      · have h2 : ¬ ht < 2 := Nat.not_lt.mpr ((nI_leI (a := 2) (b := ht) (by decide) (by omega)).mp c_3)
        refine lv_aload_n hx hb dX0_two_22 rfl (lv_at hl 0 rfl) ?_
        refine va_get (D := G) (ci := 0) (v := .int (nI (md))) (C := RX0) (T := TX0) (N := 12) hx hb hts in_X0 hown hK hP 0 rfl rfl 4 (by decide) (hts _ q41) (fun _ h9 => h9) rfl dX0_two_23 ?_
        refine lv_bipush (v := (20 : Int32)) hx hb dX0_two_26 (by decide) ?_
        refine lv_icmp_ne (tgt := 34) hx hb dX0_two_28 (by decide) (fun c_4 => ?_) (fun c_4 => ?_)
        · have h20 : md ≠ 20 := fun q => c_4 (by rw [q]; rfl)
          have hm : md < 20 := by omega
          refine lv_aload_n hx hb dX0_two_34 rfl (lv_at hl 0 rfl) ?_
          refine lv_dup hx hb dX0_two_35 rfl ?_
          refine va_get (D := G) (ci := 0) (v := .int (nI (ht))) (C := RX0) (T := TX0) (N := 12) hx hb hts in_X0 hown hK hP 0 rfl rfl 9 (by decide) (hts _ q46) (fun _ h9 => h9) rfl dX0_two_36 ?_
          refine lv_iconst (v := (1 : Int32)) hx hb dX0_two_39 (by decide) ?_
          refine lv_isub hx hb dX0_two_40 ?_
          refine fr_top (pk_sub (a := ht) (b := 1) (by omega)) ?_
          refine va_put (D := G) (ci := 0) (v := .int (nI (ht - 1))) (ty := .int) (C := RX0) (T := TX0) (N := 12) hx hb hts in_X0 tyX0 tyX0_ok nmX0 hown hK hP hD hS 0 rfl rfl 9 (by decide) (hts _ q46) (fun _ h9 => h9) rfl (by decide +kernel) rfl rfl (Nat.le_of_ble_eq_true rfl) dX0_two_41 (fun H locs hP hD hS => ?_)
          have hP : va_P G vwCl (w0 h a d to mk dn dm md kd lf rt vl (ht - 1) sk wy) H := hP
          have hD : va_D A (w0 h a d to mk dn dm md kd lf rt vl (ht - 1) sk wy) := hD
          refine lv_aload_n hx hb dX0_two_44 rfl (lv_at hl 0 rfl) ?_
          refine va_get (D := G) (ci := 0) (v := .ref (a 10)) (C := RX0) (T := TX0) (N := 12) hx hb hts in_X0 hown hK hP 0 rfl rfl 10 (by decide) (hts _ q47) (fun _ h9 => h9) rfl dX0_two_45 ?_
          refine lv_aload_n hx hb dX0_two_48 rfl (lv_at hl 0 rfl) ?_
          refine va_get (D := G) (ci := 0) (v := .int (nI (ht - 1))) (C := RX0) (T := TX0) (N := 12) hx hb hts in_X0 hown hK hP 0 rfl rfl 9 (by decide) (hts _ q46) (fun _ h9 => h9) rfl dX0_two_49 ?_
          refine lv_iconst (v := (1 : Int32)) hx hb dX0_two_52 (by decide) ?_
          refine lv_isub hx hb dX0_two_53 ?_
          refine fr_top (pk_sub (a := (ht - 1)) (b := 1) (by omega)) ?_
          refine lv_aload_n hx hb dX0_two_54 rfl (lv_at hl 0 rfl) ?_
          refine lv_bipush (v := (8 : Int32)) hx hb dX0_two_55 (by decide) ?_
          refine lv_iload_n hx hb dX0_two_57 rfl (lv_at hl 1 rfl) ?_
          refine lv_iadd hx hb dX0_two_58 ?_
          refine lv_aload_n hx hb dX0_two_59 rfl (lv_at hl 0 rfl) ?_
          refine va_get (D := G) (ci := 0) (v := .ref (a 10)) (C := RX0) (T := TX0) (N := 12) hx hb hts in_X0 hown hK hP 0 rfl rfl 10 (by decide) (hts _ q47) (fun _ h9 => h9) rfl dX0_two_60 ?_
          refine lv_aload_n hx hb dX0_two_63 rfl (lv_at hl 0 rfl) ?_
          refine va_get (D := G) (ci := 0) (v := .int (nI (ht - 1))) (C := RX0) (T := TX0) (N := 12) hx hb hts in_X0 hown hK hP 0 rfl rfl 9 (by decide) (hts _ q46) (fun _ h9 => h9) rfl dX0_two_64 ?_
          refine lv_iconst (v := (1 : Int32)) hx hb dX0_two_67 (by decide) ?_
          refine lv_isub hx hb dX0_two_68 ?_
          refine fr_top (pk_sub (a := (ht - 1)) (b := 1) (by omega)) ?_
          refine fr_iald hx hb hK hP 8 0 rfl rfl (by omega) (by decide) dX0_two_69 ?_
          refine lv_aload_n hx hb dX0_two_70 rfl (lv_at hl 0 rfl) ?_
          refine va_get (D := G) (ci := 0) (v := .ref (a 10)) (C := RX0) (T := TX0) (N := 12) hx hb hts in_X0 hown hK hP 0 rfl rfl 10 (by decide) (hts _ q47) (fun _ h9 => h9) rfl dX0_two_71 ?_
          refine lv_aload_n hx hb dX0_two_74 rfl (lv_at hl 0 rfl) ?_
          refine va_get (D := G) (ci := 0) (v := .int (nI (ht - 1))) (C := RX0) (T := TX0) (N := 12) hx hb hts in_X0 hown hK hP 0 rfl rfl 9 (by decide) (hts _ q46) (fun _ h9 => h9) rfl dX0_two_75 ?_
          refine fr_iald hx hb hK hP 8 0 rfl rfl (by omega) (by decide) dX0_two_78 ?_
          refine fr_calli (As := [.int (((8 : Int32)) + (p1)), .int (sk ((ht - 1) - 1)), .int (sk (ht - 1))]) (rest := [.int (nI ((ht - 1) - 1)), .ref (a 10)]) ⟨hx, hb, hml, hown, hts⟩ (met0_make l G h a d _ to mk dn dm md kd lf rt vl (ht - 1) sk wy (((8 : Int32)) + (p1)) (sk ((ht - 1) - 1)) (sk (ht - 1)) hm) (cwV 3 hts (lw_V q103 q105 qs2 q27 q106) rfl rfl rfl (by decide +kernel) ⟨Nat.le_of_ble_eq_true rfl, Nat.le_of_ble_eq_true rfl⟩) (va_recv hK hP (ci := 0) (q0 := 0) rfl rfl) hK hP hD hS hA rfl hl.1 rfl (Nat.le_of_ble_eq_true rfl) dX0_two_79 ⟨Nat.le_refl _, Nat.le_refl _⟩ (fun r_5 u_5 H locs hw_5 hP hD hS => ?_)
          have hw_5 : r_5 = nI md := hw_5
          subst hw_5
          have hP : va_P G vwCl (w0 h a d to mk dn dm (md + 1) (upd kd md (((8 : Int32)) + (p1))) (upd lf md (sk ((ht - 1) - 1))) (upd rt md (sk (ht - 1))) vl (ht - 1) sk wy) H := hP
          have hD : va_D A (w0 h a d to mk dn dm (md + 1) (upd kd md (((8 : Int32)) + (p1))) (upd lf md (sk ((ht - 1) - 1))) (upd rt md (sk (ht - 1))) vl (ht - 1) sk wy) := hD
          refine fr_top rfl ?_
          refine fr_iast hx hb hK hP hD hS 8 0 rfl rfl (by omega) (by decide) dX0_two_82 (fun H locs hP hD hS => ?_)
          have hP : va_P G vwCl (w0 h a d to mk dn dm (md + 1) (upd kd md (((8 : Int32)) + (p1))) (upd lf md (sk ((ht - 1) - 1))) (upd rt md (sk (ht - 1))) vl (ht - 1) (upd sk ((ht - 1) - 1) (nI (md))) wy) H := hP
          have hD : va_D A (w0 h a d to mk dn dm (md + 1) (upd kd md (((8 : Int32)) + (p1))) (upd lf md (sk ((ht - 1) - 1))) (upd rt md (sk (ht - 1))) vl (ht - 1) (upd sk ((ht - 1) - 1) (nI (md))) wy) := hD
          refine lv_aload_n hx hb dX0_two_83 rfl (lv_at hl 0 rfl) ?_
          refine va_get (D := G) (ci := 0) (v := .int (nI (ht - 1))) (C := RX0) (T := TX0) (N := 12) hx hb hts in_X0 hown hK hP 0 rfl rfl 9 (by decide) (hts _ q46) (fun _ h9 => h9) rfl dX0_two_84 ?_
          have ew_1 : (if fr_twO p1 md ht then md + 1 else md) = (md + 1) := (if_pos (fr_twO_0 (fr_in_t' (n := 4) (y := 3) rfl c_1 c_2) h2 h20))
          have ew_2 : (if fr_twO p1 md ht then upd kd md (8 + p1) else kd) = (upd kd md (((8 : Int32)) + (p1))) := (if_pos (fr_twO_0 (fr_in_t' (n := 4) (y := 3) rfl c_1 c_2) h2 h20))
          have ew_3 : (if fr_twO p1 md ht then upd lf md (sk (ht - 1 - 1)) else lf) = (upd lf md (sk ((ht - 1) - 1))) := (if_pos (fr_twO_0 (fr_in_t' (n := 4) (y := 3) rfl c_1 c_2) h2 h20))
          have ew_4 : (if fr_twO p1 md ht then upd rt md (sk (ht - 1)) else rt) = (upd rt md (sk (ht - 1))) := (if_pos (fr_twO_0 (fr_in_t' (n := 4) (y := 3) rfl c_1 c_2) h2 h20))
          have ew_5 : (if fr_twO p1 md ht then ht - 1 else ht) = (ht - 1) := (if_pos (fr_twO_0 (fr_in_t' (n := 4) (y := 3) rfl c_1 c_2) h2 h20))
          have ew_6 : (if fr_twO p1 md ht then upd sk (ht - 1 - 1) (nI md) else sk) = (upd sk ((ht - 1) - 1) (nI (md))) := (if_pos (fr_twO_0 (fr_in_t' (n := 4) (y := 3) rfl c_1 c_2) h2 h20))
          exact fr_reti () hx hb hr hlocks hK (by rw [ew_1, ew_2, ew_3, ew_4, ew_5, ew_6]; exact hP) (by rw [ew_1, ew_2, ew_3, ew_4, ew_5, ew_6]; exact hD) hS (by rw [fr_twR, (fr_in_t' (n := 4) (y := 3) rfl c_1 c_2), if_pos rfl, if_neg h2, if_neg h20]) dX0_two_87
        · refine lv_bipush (v := (-2 : Int32)) hx hb dX0_two_31 (by decide) ?_
          have ew_1 : (if fr_twO p1 md ht then md + 1 else md) = md := (if_neg (fr_twO_1 (Or.inr (Or.inr ((nI_eq (a := md) (b := 20) (by omega) (by decide)).mp c_4)))))
          have ew_2 : (if fr_twO p1 md ht then upd kd md (8 + p1) else kd) = kd := (if_neg (fr_twO_1 (Or.inr (Or.inr ((nI_eq (a := md) (b := 20) (by omega) (by decide)).mp c_4)))))
          have ew_3 : (if fr_twO p1 md ht then upd lf md (sk (ht - 1 - 1)) else lf) = lf := (if_neg (fr_twO_1 (Or.inr (Or.inr ((nI_eq (a := md) (b := 20) (by omega) (by decide)).mp c_4)))))
          have ew_4 : (if fr_twO p1 md ht then upd rt md (sk (ht - 1)) else rt) = rt := (if_neg (fr_twO_1 (Or.inr (Or.inr ((nI_eq (a := md) (b := 20) (by omega) (by decide)).mp c_4)))))
          have ew_5 : (if fr_twO p1 md ht then ht - 1 else ht) = ht := (if_neg (fr_twO_1 (Or.inr (Or.inr ((nI_eq (a := md) (b := 20) (by omega) (by decide)).mp c_4)))))
          have ew_6 : (if fr_twO p1 md ht then upd sk (ht - 1 - 1) (nI md) else sk) = sk := (if_neg (fr_twO_1 (Or.inr (Or.inr ((nI_eq (a := md) (b := 20) (by omega) (by decide)).mp c_4)))))
          exact fr_reti () hx hb hr hlocks hK (by rw [ew_1, ew_2, ew_3, ew_4, ew_5, ew_6]; exact hP) (by rw [ew_1, ew_2, ew_3, ew_4, ew_5, ew_6]; exact hD) hS (by rw [fr_twR, (fr_in_t' (n := 4) (y := 3) rfl c_1 c_2), if_pos rfl, if_neg h2, if_pos ((nI_eq (a := md) (b := 20) (by omega) (by decide)).mp c_4)]) dX0_two_33
      · refine lv_bipush (v := (-3 : Int32)) hx hb dX0_two_19 (by decide) ?_
        have ew_1 : (if fr_twO p1 md ht then md + 1 else md) = md := (if_neg (fr_twO_1 (Or.inr (Or.inl (Nat.not_le.mp (fun q => c_3 (nI_le (a := 2) q (by omega))))))))
        have ew_2 : (if fr_twO p1 md ht then upd kd md (8 + p1) else kd) = kd := (if_neg (fr_twO_1 (Or.inr (Or.inl (Nat.not_le.mp (fun q => c_3 (nI_le (a := 2) q (by omega))))))))
        have ew_3 : (if fr_twO p1 md ht then upd lf md (sk (ht - 1 - 1)) else lf) = lf := (if_neg (fr_twO_1 (Or.inr (Or.inl (Nat.not_le.mp (fun q => c_3 (nI_le (a := 2) q (by omega))))))))
        have ew_4 : (if fr_twO p1 md ht then upd rt md (sk (ht - 1)) else rt) = rt := (if_neg (fr_twO_1 (Or.inr (Or.inl (Nat.not_le.mp (fun q => c_3 (nI_le (a := 2) q (by omega))))))))
        have ew_5 : (if fr_twO p1 md ht then ht - 1 else ht) = ht := (if_neg (fr_twO_1 (Or.inr (Or.inl (Nat.not_le.mp (fun q => c_3 (nI_le (a := 2) q (by omega))))))))
        have ew_6 : (if fr_twO p1 md ht then upd sk (ht - 1 - 1) (nI md) else sk) = sk := (if_neg (fr_twO_1 (Or.inr (Or.inl (Nat.not_le.mp (fun q => c_3 (nI_le (a := 2) q (by omega))))))))
        exact fr_reti () hx hb hr hlocks hK (by rw [ew_1, ew_2, ew_3, ew_4, ew_5, ew_6]; exact hP) (by rw [ew_1, ew_2, ew_3, ew_4, ew_5, ew_6]; exact hD) hS (by rw [fr_twR, (fr_in_t' (n := 4) (y := 3) rfl c_1 c_2), if_pos rfl, if_pos (Nat.not_le.mp (fun q => c_3 (nI_le (a := 2) q (by omega))))]) dX0_two_21
    · refine lv_iconst (v := (-1 : Int32)) hx hb dX0_two_9 (by decide) ?_
      have ew_1 : (if fr_twO p1 md ht then md + 1 else md) = md := (if_neg (fr_twO_1 (Or.inl (fr_in_big' (n := 4) (y := 3) rfl (fr_nle c_2)))))
      have ew_2 : (if fr_twO p1 md ht then upd kd md (8 + p1) else kd) = kd := (if_neg (fr_twO_1 (Or.inl (fr_in_big' (n := 4) (y := 3) rfl (fr_nle c_2)))))
      have ew_3 : (if fr_twO p1 md ht then upd lf md (sk (ht - 1 - 1)) else lf) = lf := (if_neg (fr_twO_1 (Or.inl (fr_in_big' (n := 4) (y := 3) rfl (fr_nle c_2)))))
      have ew_4 : (if fr_twO p1 md ht then upd rt md (sk (ht - 1)) else rt) = rt := (if_neg (fr_twO_1 (Or.inl (fr_in_big' (n := 4) (y := 3) rfl (fr_nle c_2)))))
      have ew_5 : (if fr_twO p1 md ht then ht - 1 else ht) = ht := (if_neg (fr_twO_1 (Or.inl (fr_in_big' (n := 4) (y := 3) rfl (fr_nle c_2)))))
      have ew_6 : (if fr_twO p1 md ht then upd sk (ht - 1 - 1) (nI md) else sk) = sk := (if_neg (fr_twO_1 (Or.inl (fr_in_big' (n := 4) (y := 3) rfl (fr_nle c_2)))))
      exact fr_reti () hx hb hr hlocks hK (by rw [ew_1, ew_2, ew_3, ew_4, ew_5, ew_6]; exact hP) (by rw [ew_1, ew_2, ew_3, ew_4, ew_5, ew_6]; exact hD) hS (by rw [fr_twR, (fr_in_big' (n := 4) (y := 3) rfl (fr_nle c_2))]; rfl) dX0_two_10
set_option maxHeartbeats 4000000 in
theorem met0_discard (l : Launch) (G : va_G) (h : Nat) (a : Nat → Nat) (d : ClassId) (sz : Nat) (to : Nat → Int32) (mk : Nat → Int32) (dn : Nat) (dm : Nat → Int32) (md : Nat) (kd : Nat → Int32) (lf : Nat → Int32) (rt : Nat → Int32) (vl : Nat → Int32) (ht : Nat) (sk : Nat → Int32) (wy : Nat → Int32) : fr_V l yX0_discard cX0_discard 1 ({ frames := 0, cells := 0, slots := 0, locals := 0 } : Room) [.ref (h)] G d sz (w0 h a d to mk dn dm md kd lf rt vl ht sk wy) (fun (u : Unit) => True) (fun (u : Unit) => (w0 h a d to mk dn dm 0 kd lf rt vl 0 sk wy)) := by
  refine fr_startV RX0 rfl (by decide +kernel) (Nat.le_of_ble_eq_true rfl) ?_
  intro p e s m below meth c A ls hx hb hr hlocks hml hown hts hA hK hP hD hS hl
  have hl : lv_has ls 1 [(0, .ref (h))] := hl
  refine lv_aload_n hx hb dX0_discard_0 rfl (lv_at hl 0 rfl) ?_
  refine lv_iconst (v := (0 : Int32)) hx hb dX0_discard_1 (by decide) ?_
  refine fr_top (y := nI 0) rfl ?_
  refine va_put (D := G) (ci := 0) (v := .int (nI (0))) (ty := .int) (C := RX0) (T := TX0) (N := 12) hx hb hts in_X0 tyX0 tyX0_ok nmX0 hown hK hP hD hS 0 rfl rfl 9 (by decide) (hts _ q46) (fun _ h9 => h9) rfl (by decide +kernel) rfl rfl (Nat.le_of_ble_eq_true rfl) dX0_discard_2 (fun H locs hP hD hS => ?_)
  have hP : va_P G vwCl (w0 h a d to mk dn dm md kd lf rt vl 0 sk wy) H := hP
  have hD : va_D A (w0 h a d to mk dn dm md kd lf rt vl 0 sk wy) := hD
  refine lv_aload_n hx hb dX0_discard_5 rfl (lv_at hl 0 rfl) ?_
  refine lv_iconst (v := (0 : Int32)) hx hb dX0_discard_6 (by decide) ?_
  refine fr_top (y := nI 0) rfl ?_
  refine va_put (D := G) (ci := 0) (v := .int (nI (0))) (ty := .int) (C := RX0) (T := TX0) (N := 12) hx hb hts in_X0 tyX0 tyX0_ok nmX0 hown hK hP hD hS 0 rfl rfl 4 (by decide) (hts _ q41) (fun _ h9 => h9) rfl (by decide +kernel) rfl rfl (Nat.le_of_ble_eq_true rfl) dX0_discard_7 (fun H locs hP hD hS => ?_)
  have hP : va_P G vwCl (w0 h a d to mk dn dm 0 kd lf rt vl 0 sk wy) H := hP
  have hD : va_D A (w0 h a d to mk dn dm 0 kd lf rt vl 0 sk wy) := hD
  exact fr_retv () hx hb hr hlocks hK hP hD hS trivial dX0_discard_10
set_option maxHeartbeats 4000000 in
theorem met0_depth (l : Launch) (G : va_G) (h : Nat) (a : Nat → Nat) (d : ClassId) (sz : Nat) (to : Nat → Int32) (mk : Nat → Int32) (dn : Nat) (dm : Nat → Int32) (md : Nat) (kd : Nat → Int32) (lf : Nat → Int32) (rt : Nat → Int32) (vl : Nat → Int32) (ht : Nat) (sk : Nat → Int32) (wy : Nat → Int32) : fr_I l yX0_depth cX0_depth 1 (some .int) ({ frames := 0, cells := 0, slots := 0, locals := 0 } : Room) [.ref (h)] G d sz (w0 h a d to mk dn dm md kd lf rt vl ht sk wy) (fun (r : Int32) (u : Unit) => r = nI ht) (fun (u : Unit) => (w0 h a d to mk dn dm md kd lf rt vl ht sk wy)) := by
  refine fr_startI RX0 rfl (by decide +kernel) (Nat.le_of_ble_eq_true rfl) ?_
  intro p e s m below meth c A ls hx hb hr hlocks hml hown hts hA hK hP hD hS hl
  have hl : lv_has ls 1 [(0, .ref (h))] := hl
  refine lv_aload_n hx hb dX0_depth_0 rfl (lv_at hl 0 rfl) ?_
  refine va_get (D := G) (ci := 0) (v := .int (nI (ht))) (C := RX0) (T := TX0) (N := 12) hx hb hts in_X0 hown hK hP 0 rfl rfl 9 (by decide) (hts _ q46) (fun _ h9 => h9) rfl dX0_depth_1 ?_
  exact fr_reti () hx hb hr hlocks hK hP hD hS rfl dX0_depth_4
end
section
/-! FairRunsModel: isState .. findSets -/
set_option maxRecDepth 100000
set_option maxHeartbeats 4000000 in
theorem met1_isState (l : Launch) (G : va_G) (h : Nat) (a : Nat → Nat) (d : ClassId) (sz : Nat) (to : Nat → Int32) (mk : Nat → Int32) (dm : Nat → Int32) (dn : Nat) (kd : Nat → Int32) (lf : Nat → Int32) (rt : Nat → Int32) (vl : Nat → Int32) (md : Nat) (sk : Nat → Int32) (ht : Nat) (p1 : Int32) : fr_I l yX1_isState cX1_isState 2 (some .boolean) ({ frames := 0, cells := 0, slots := 0, locals := 0 } : Room) [.ref (h), .int (p1)] G d sz (w1 h a d to mk dm dn kd lf rt vl md sk ht) (fun (r : Int32) (u : Unit) => r = fr_b (fr_in 8 p1)) (fun (u : Unit) => (w1 h a d to mk dm dn kd lf rt vl md sk ht)) := by
  refine fr_startI RX1 rfl (by decide +kernel) (Nat.le_of_ble_eq_true rfl) ?_
  intro p e s m below meth c A ls hx hb hr hlocks hml hown hts hA hK hP hD hS hl
  have hl : lv_has ls 2 [(0, .ref (h)), (1, .int (p1))] := hl
  refine lv_iload_n hx hb dX1_isState_0 rfl (lv_at hl 1 rfl) ?_
  refine lv_if_lt (tgt := 14) hx hb dX1_isState_1 (by decide) (fun c_1 => ?_) (fun c_1 => ?_)
  · refine lv_iconst (v := (0 : Int32)) hx hb dX1_isState_14 (by decide) ?_
    exact fr_retz () hx hb hr hlocks hK hP hD hS (Or.inl rfl) (by rw [fr_in_neg c_1]; rfl) dX1_isState_15
  · refine lv_iload_n hx hb dX1_isState_4 rfl (lv_at hl 1 rfl) ?_
    refine lv_bipush (v := (7 : Int32)) hx hb dX1_isState_5 (by decide) ?_
    refine lv_icmp_gt (tgt := 14) hx hb dX1_isState_7 (by decide) (fun c_2 => ?_) (fun c_2 => ?_)
    · refine lv_iconst (v := (0 : Int32)) hx hb dX1_isState_14 (by decide) ?_
      exact fr_retz () hx hb hr hlocks hK hP hD hS (Or.inl rfl) (by rw [fr_in_big' (n := 8) (y := 7) rfl c_2]; rfl) dX1_isState_15
    · refine lv_iconst (v := (1 : Int32)) hx hb dX1_isState_10 (by decide) ?_
      refine lv_goto (tgt := 15) hx hb dX1_isState_11 (by decide) ?_
      exact fr_retz () hx hb hr hlocks hK hP hD hS (Or.inr rfl) (by rw [fr_in_t' (n := 8) (y := 7) rfl c_1 (fr_nlt c_2)]; rfl) dX1_isState_15
set_option maxHeartbeats 4000000 in
theorem met1_isSet (l : Launch) (G : va_G) (h : Nat) (a : Nat → Nat) (d : ClassId) (sz : Nat) (to : Nat → Int32) (mk : Nat → Int32) (dm : Nat → Int32) (dn : Nat) (kd : Nat → Int32) (lf : Nat → Int32) (rt : Nat → Int32) (vl : Nat → Int32) (md : Nat) (sk : Nat → Int32) (ht : Nat) (p1 : Int32) : fr_I l yX1_isSet cX1_isSet 2 (some .boolean) ({ frames := 0, cells := 0, slots := 0, locals := 0 } : Room) [.ref (h), .int (p1)] G d sz (w1 h a d to mk dm dn kd lf rt vl md sk ht) (fun (r : Int32) (u : Unit) => r = fr_b (fr_in 256 p1)) (fun (u : Unit) => (w1 h a d to mk dm dn kd lf rt vl md sk ht)) := by
  refine fr_startI RX1 rfl (by decide +kernel) (Nat.le_of_ble_eq_true rfl) ?_
  intro p e s m below meth c A ls hx hb hr hlocks hml hown hts hA hK hP hD hS hl
  have hl : lv_has ls 2 [(0, .ref (h)), (1, .int (p1))] := hl
  refine lv_iload_n hx hb dX1_isSet_0 rfl (lv_at hl 1 rfl) ?_
  refine lv_if_lt (tgt := 15) hx hb dX1_isSet_1 (by decide) (fun c_1 => ?_) (fun c_1 => ?_)
  · refine lv_iconst (v := (0 : Int32)) hx hb dX1_isSet_15 (by decide) ?_
    exact fr_retz () hx hb hr hlocks hK hP hD hS (Or.inl rfl) (by rw [fr_in_neg c_1]; rfl) dX1_isSet_16
  · refine lv_iload_n hx hb dX1_isSet_4 rfl (lv_at hl 1 rfl) ?_
    refine lv_sipush (v := (255 : Int32)) hx hb dX1_isSet_5 (by decide) ?_
    refine lv_icmp_gt (tgt := 15) hx hb dX1_isSet_8 (by decide) (fun c_2 => ?_) (fun c_2 => ?_)
    · refine lv_iconst (v := (0 : Int32)) hx hb dX1_isSet_15 (by decide) ?_
      exact fr_retz () hx hb hr hlocks hK hP hD hS (Or.inl rfl) (by rw [fr_in_big' (n := 256) (y := 255) rfl c_2]; rfl) dX1_isSet_16
    · refine lv_iconst (v := (1 : Int32)) hx hb dX1_isSet_11 (by decide) ?_
      refine lv_goto (tgt := 16) hx hb dX1_isSet_12 (by decide) ?_
      exact fr_retz () hx hb hr hlocks hK hP hD hS (Or.inr rfl) (by rw [fr_in_t' (n := 256) (y := 255) rfl c_1 (fr_nlt c_2)]; rfl) dX1_isSet_16
set_option maxHeartbeats 4000000 in
theorem met1_before (l : Launch) (G : va_G) (h : Nat) (a : Nat → Nat) (d : ClassId) (sz : Nat) (to : Nat → Int32) (mk : Nat → Int32) (dm : Nat → Int32) (dn : Nat) (kd : Nat → Int32) (lf : Nat → Int32) (rt : Nat → Int32) (vl : Nat → Int32) (md : Nat) (sk : Nat → Int32) (ht : Nat) (p1 : Int32) : fr_I l yX1_before cX1_before 4 (some .int) ({ frames := 0, cells := 0, slots := 0, locals := 0 } : Room) [.ref (h), .int (p1)] G d sz (w1 h a d to mk dm dn kd lf rt vl md sk ht) (fun (r : Int32) (u : Unit) => r = fr_bef to p1 8) (fun (u : Unit) => (w1 h a d to mk dm dn kd lf rt vl md sk ht)) := by
  refine fr_startI RX1 rfl (by decide +kernel) (Nat.le_of_ble_eq_true rfl) ?_
  intro p e s m below meth c A ls hx hb hr hlocks hml hown hts hA hK hP hD hS hl
  have hl : lv_has ls 4 [(0, .ref (h)), (1, .int (p1))] := hl
  refine lv_iconst (v := (0 : Int32)) hx hb dX1_before_0 (by decide) ?_
  refine lv_istore_n (lv' := [(2, .int ((0 : Int32))), (0, .ref (h)), (1, .int (p1))]) hx hb dX1_before_1 rfl hl (by decide) rfl (fun ls hl => ?_)
  refine lv_iconst (v := (0 : Int32)) hx hb dX1_before_2 (by decide) ?_
  refine lv_istore_n (lv' := [(3, .int ((0 : Int32))), (2, .int ((0 : Int32))), (0, .ref (h)), (1, .int (p1))]) hx hb dX1_before_3 rfl hl (by decide) rfl (fun ls hl => ?_)
  refine fr_for (I := fun (i : Nat) (H : Heap) (locs : List Loc) (ls : Array Slot) => va_P G vwCl (w1 h a d to mk dm dn kd lf rt vl md sk ht) H ∧ va_D A (w1 h a d to mk dm dn kd lf rt vl md sk ht) ∧ va_S A s.heap H locs ∧ lv_has ls 4 [(3, .int (nI (i))), (2, .int (fr_bef to p1 i)), (0, .ref (h)), (1, .int (p1))]) 8 ?_ ?_ 0 (Nat.zero_le _) ⟨hP, hD, hS, lv_sub hl [0, 1, 2, 3] rfl⟩
  · intro H locs ls hI
    obtain ⟨hP, hD, hS, hl⟩ := hI
    refine lv_iload_n hx hb dX1_before_4 rfl (lv_at hl 0 rfl) ?_
    refine lv_bipush (v := (8 : Int32)) hx hb dX1_before_5 (by decide) ?_
    refine lv_icmp_ge (tgt := 37) hx hb dX1_before_7 (by decide) (fun _ => ?_) (fun q_ => absurd (nI_le (Nat.le_refl 8) (by decide)) q_)
    refine lv_iload_n hx hb dX1_before_37 rfl (lv_at hl 1 rfl) ?_
    exact fr_reti () hx hb hr hlocks hK hP hD hS rfl dX1_before_38
  · intro i hi ih_i H locs ls hI
    obtain ⟨hP, hD, hS, hl⟩ := hI
    refine lv_iload_n hx hb dX1_before_4 rfl (lv_at hl 0 rfl) ?_
    refine lv_bipush (v := (8 : Int32)) hx hb dX1_before_5 (by decide) ?_
    refine lv_icmp_ge (tgt := 37) hx hb dX1_before_7 (by decide) (fun q_ => absurd q_ (nI_ge hi (by decide))) (fun _ => ?_)
    refine lv_aload_n hx hb dX1_before_10 rfl (lv_at hl 2 rfl) ?_
    refine va_get (D := G) (ci := 1) (v := .ref (a 0)) (C := RX1) (T := TX1) (N := 11) hx hb hts in_X1 hown hK hP 0 rfl rfl 0 (by decide) (hts _ q201) (fun _ h9 => h9) rfl dX1_before_11 ?_
    refine lv_iload_n hx hb dX1_before_14 rfl (lv_at hl 0 rfl) ?_
    refine fr_iald hx hb hK hP 1 0 rfl rfl (by omega) (by decide) dX1_before_15 ?_
    refine lv_iload_n hx hb dX1_before_16 rfl (lv_at hl 3 rfl) ?_
    refine lv_iand hx hb dX1_before_17 ?_
    refine lv_if_eq (tgt := 29) hx hb dX1_before_18 (by decide) (fun c_1 => ?_) (fun c_1 => ?_)
    · refine lv_iload_n hx hb dX1_before_29 rfl (lv_at hl 1 rfl) ?_
      refine lv_istore_n (lv' := [(2, .int (fr_bef to p1 i)), (3, .int (nI (i))), (0, .ref (h)), (1, .int (p1))]) hx hb dX1_before_30 rfl hl (by decide) rfl (fun ls hl => ?_)
      refine lv_iinc (v := nI (i + 1)) (lv' := [(3, .int (nI (i + 1))), (2, .int (fr_bef to p1 i)), (0, .ref (h)), (1, .int (p1))]) hx hb dX1_before_31 hl (k := 1) rfl (nI_1 _) (by decide) rfl (fun ls hl => ?_)
      refine lv_goto (tgt := 4) hx hb dX1_before_34 (by decide) ?_
      have e_1 : fr_bef to p1 (i + 1) = fr_bef to p1 i := (by rw [fr_bef, if_pos c_1])
      exact ih_i _ _ _ ⟨hP, hD, hS, (by rw [e_1]; exact lv_sub hl [0, 1, 2, 3] rfl)⟩
    · refine lv_iload_n hx hb dX1_before_21 rfl (lv_at hl 1 rfl) ?_
      refine lv_iconst (v := (1 : Int32)) hx hb dX1_before_22 (by decide) ?_
      refine lv_iload_n hx hb dX1_before_23 rfl (lv_at hl 0 rfl) ?_
      refine lv_ishl hx hb dX1_before_24 ?_
      refine lv_ior hx hb dX1_before_25 ?_
      refine lv_goto (tgt := 30) hx hb dX1_before_26 (by decide) ?_
      refine lv_istore_n (lv' := [(2, .int ((fr_bef to p1 i) ||| (((1 : Int32)) <<< ((nI (i)) &&& 31)))), (3, .int (nI (i))), (0, .ref (h)), (1, .int (p1))]) hx hb dX1_before_30 rfl hl (by decide) rfl (fun ls hl => ?_)
      refine lv_iinc (v := nI (i + 1)) (lv' := [(3, .int (nI (i + 1))), (2, .int ((fr_bef to p1 i) ||| (((1 : Int32)) <<< ((nI (i)) &&& 31)))), (0, .ref (h)), (1, .int (p1))]) hx hb dX1_before_31 hl (k := 1) rfl (nI_1 _) (by decide) rfl (fun ls hl => ?_)
      refine lv_goto (tgt := 4) hx hb dX1_before_34 (by decide) ?_
      have e_1 : fr_bef to p1 (i + 1) = (fr_bef to p1 i) ||| (((1 : Int32)) <<< ((nI (i)) &&& 31)) := (by rw [fr_bef, if_neg c_1])
      exact ih_i _ _ _ ⟨hP, hD, hS, (by rw [e_1]; exact lv_sub hl [0, 1, 2, 3] rfl)⟩
set_option maxHeartbeats 4000000 in
theorem met1_coming (l : Launch) (G : va_G) (h : Nat) (a : Nat → Nat) (d : ClassId) (sz : Nat) (to : Nat → Int32) (mk : Nat → Int32) (dm : Nat → Int32) (dn : Nat) (kd : Nat → Int32) (lf : Nat → Int32) (rt : Nat → Int32) (vl : Nat → Int32) (md : Nat) (sk : Nat → Int32) (ht : Nat) (p1 : Int32) (p2 : Int32) : fr_I l yX1_coming cX1_coming 5 (some .int) ({ frames := 1, cells := 0, slots := 0, locals := 23 } : Room) [.ref (h), .int (p1), .int (p2)] G d sz (w1 h a d to mk dm dn kd lf rt vl md sk ht) (fun (r : Int32) (u : Unit) => r = fr_bk to p1 p2 8) (fun (u : Unit) => (w1 h a d to mk dm dn kd lf rt vl md sk ht)) := by
  refine fr_startI RX1 rfl (by decide +kernel) (Nat.le_of_ble_eq_true rfl) ?_
  intro p e s m below meth c A ls hx hb hr hlocks hml hown hts hA hK hP hD hS hl
  have hl : lv_has ls 5 [(0, .ref (h)), (1, .int (p1)), (2, .int (p2))] := hl
  refine lv_iload_n hx hb dX1_coming_0 rfl (lv_at hl 2 rfl) ?_
  refine lv_istore_n (lv' := [(3, .int (p2)), (0, .ref (h)), (1, .int (p1)), (2, .int (p2))]) hx hb dX1_coming_1 rfl hl (by decide) rfl (fun ls hl => ?_)
  refine lv_iconst (v := (0 : Int32)) hx hb dX1_coming_2 (by decide) ?_
  refine lv_istore (lv' := [(4, .int ((0 : Int32))), (3, .int (p2)), (0, .ref (h)), (1, .int (p1)), (2, .int (p2))]) hx hb dX1_coming_3 hl (by decide) rfl (fun ls hl => ?_)
  refine fr_for (I := fun (i : Nat) (H : Heap) (locs : List Loc) (ls : Array Slot) => va_P G vwCl (w1 h a d to mk dm dn kd lf rt vl md sk ht) H ∧ va_D A (w1 h a d to mk dm dn kd lf rt vl md sk ht) ∧ va_S A s.heap H locs ∧ lv_has ls 5 [(4, .int (nI (i))), (3, .int (fr_bk to p1 p2 i)), (0, .ref (h)), (1, .int (p1)), (2, .int (p2))]) 8 ?_ ?_ 0 (Nat.zero_le _) ⟨hP, hD, hS, lv_sub hl [0, 1, 2, 3, 4] rfl⟩
  · intro H locs ls hI
    obtain ⟨hP, hD, hS, hl⟩ := hI
    refine lv_iload hx hb dX1_coming_5 (lv_at hl 0 rfl) ?_
    refine lv_bipush (v := (8 : Int32)) hx hb dX1_coming_7 (by decide) ?_
    refine lv_icmp_ge (tgt := 28) hx hb dX1_coming_9 (by decide) (fun _ => ?_) (fun q_ => absurd (nI_le (Nat.le_refl 8) (by decide)) q_)
    refine lv_iload_n hx hb dX1_coming_28 rfl (lv_at hl 1 rfl) ?_
    exact fr_reti () hx hb hr hlocks hK hP hD hS rfl dX1_coming_29
  · intro i hi ih_i H locs ls hI
    obtain ⟨hP, hD, hS, hl⟩ := hI
    refine lv_iload hx hb dX1_coming_5 (lv_at hl 0 rfl) ?_
    refine lv_bipush (v := (8 : Int32)) hx hb dX1_coming_7 (by decide) ?_
    refine lv_icmp_ge (tgt := 28) hx hb dX1_coming_9 (by decide) (fun q_ => absurd q_ (nI_ge hi (by decide))) (fun _ => ?_)
    refine lv_iload_n hx hb dX1_coming_12 rfl (lv_at hl 1 rfl) ?_
    refine lv_aload_n hx hb dX1_coming_13 rfl (lv_at hl 2 rfl) ?_
    refine lv_iload_n hx hb dX1_coming_14 rfl (lv_at hl 1 rfl) ?_
    refine fr_calli (As := [.int (fr_bk to p1 p2 i)]) (rest := [.int (fr_bk to p1 p2 i)]) ⟨hx, hb, hml, hown, hts⟩ (met1_before l G h a d _ to mk dm dn kd lf rt vl md sk ht (fr_bk to p1 p2 i)) (cwV 1 hts (lw_V q299 q301 qs21 q28 q302) rfl rfl rfl (by decide +kernel) ⟨Nat.le_of_ble_eq_true rfl, Nat.le_of_ble_eq_true rfl⟩) (va_recv hK hP (ci := 1) (q0 := 0) rfl rfl) hK hP hD hS hA rfl hl.1 rfl (Nat.le_of_ble_eq_true rfl) dX1_coming_15 ⟨Nat.le_refl _, Nat.le_refl _⟩ (fun r_1 u_1 H locs hw_1 hP hD hS => ?_)
    have hw_1 : r_1 = fr_bef to (fr_bk to p1 p2 i) 8 := hw_1
    subst hw_1
    have hP : va_P G vwCl (w1 h a d to mk dm dn kd lf rt vl md sk ht) H := hP
    have hD : va_D A (w1 h a d to mk dm dn kd lf rt vl md sk ht) := hD
    refine lv_iload_n hx hb dX1_coming_18 rfl (lv_at hl 3 rfl) ?_
    refine lv_iand hx hb dX1_coming_19 ?_
    refine lv_ior hx hb dX1_coming_20 ?_
    refine lv_istore_n (lv' := [(3, .int ((fr_bk to p1 p2 i) ||| ((fr_bef to (fr_bk to p1 p2 i) 8) &&& (p1)))), (4, .int (nI (i))), (0, .ref (h)), (1, .int (p1)), (2, .int (p2))]) hx hb dX1_coming_21 rfl hl (by decide) rfl (fun ls hl => ?_)
    refine lv_iinc (v := nI (i + 1)) (lv' := [(4, .int (nI (i + 1))), (3, .int ((fr_bk to p1 p2 i) ||| ((fr_bef to (fr_bk to p1 p2 i) 8) &&& (p1)))), (0, .ref (h)), (1, .int (p1)), (2, .int (p2))]) hx hb dX1_coming_22 hl (k := 1) rfl (nI_1 _) (by decide) rfl (fun ls hl => ?_)
    refine lv_goto (tgt := 5) hx hb dX1_coming_25 (by decide) ?_
    have e_1 : fr_bk to p1 p2 (i + 1) = (fr_bk to p1 p2 i) ||| ((fr_bef to (fr_bk to p1 p2 i) 8) &&& (p1)) := rfl
    exact ih_i _ _ _ ⟨hP, hD, hS, (by rw [e_1]; exact lv_sub hl [0, 1, 2, 3, 4] rfl)⟩
set_option maxHeartbeats 4000000 in
theorem met1_behind (l : Launch) (G : va_G) (h : Nat) (a : Nat → Nat) (d : ClassId) (sz : Nat) (to : Nat → Int32) (mk : Nat → Int32) (dm : Nat → Int32) (dn : Nat) (kd : Nat → Int32) (lf : Nat → Int32) (rt : Nat → Int32) (vl : Nat → Int32) (md : Nat) (sk : Nat → Int32) (ht : Nat) (p1 : Int32) : fr_I l yX1_behind cX1_behind 4 (some .int) ({ frames := 0, cells := 0, slots := 0, locals := 0 } : Room) [.ref (h), .int (p1)] G d sz (w1 h a d to mk dm dn kd lf rt vl md sk ht) (fun (r : Int32) (u : Unit) => r = fr_beh to p1 8) (fun (u : Unit) => (w1 h a d to mk dm dn kd lf rt vl md sk ht)) := by
  refine fr_startI RX1 rfl (by decide +kernel) (Nat.le_of_ble_eq_true rfl) ?_
  intro p e s m below meth c A ls hx hb hr hlocks hml hown hts hA hK hP hD hS hl
  have hl : lv_has ls 4 [(0, .ref (h)), (1, .int (p1))] := hl
  refine lv_iconst (v := (0 : Int32)) hx hb dX1_behind_0 (by decide) ?_
  refine lv_istore_n (lv' := [(2, .int ((0 : Int32))), (0, .ref (h)), (1, .int (p1))]) hx hb dX1_behind_1 rfl hl (by decide) rfl (fun ls hl => ?_)
  refine lv_iconst (v := (0 : Int32)) hx hb dX1_behind_2 (by decide) ?_
  refine lv_istore_n (lv' := [(3, .int ((0 : Int32))), (2, .int ((0 : Int32))), (0, .ref (h)), (1, .int (p1))]) hx hb dX1_behind_3 rfl hl (by decide) rfl (fun ls hl => ?_)
  refine fr_for (I := fun (i : Nat) (H : Heap) (locs : List Loc) (ls : Array Slot) => va_P G vwCl (w1 h a d to mk dm dn kd lf rt vl md sk ht) H ∧ va_D A (w1 h a d to mk dm dn kd lf rt vl md sk ht) ∧ va_S A s.heap H locs ∧ lv_has ls 4 [(3, .int (nI (i))), (2, .int (fr_beh to p1 i)), (0, .ref (h)), (1, .int (p1))]) 8 ?_ ?_ 0 (Nat.zero_le _) ⟨hP, hD, hS, lv_sub hl [0, 1, 2, 3] rfl⟩
  · intro H locs ls hI
    obtain ⟨hP, hD, hS, hl⟩ := hI
    refine lv_iload_n hx hb dX1_behind_4 rfl (lv_at hl 0 rfl) ?_
    refine lv_bipush (v := (8 : Int32)) hx hb dX1_behind_5 (by decide) ?_
    refine lv_icmp_ge (tgt := 38) hx hb dX1_behind_7 (by decide) (fun _ => ?_) (fun q_ => absurd (nI_le (Nat.le_refl 8) (by decide)) q_)
    refine lv_iload_n hx hb dX1_behind_38 rfl (lv_at hl 1 rfl) ?_
    exact fr_reti () hx hb hr hlocks hK hP hD hS rfl dX1_behind_39
  · intro i hi ih_i H locs ls hI
    obtain ⟨hP, hD, hS, hl⟩ := hI
    refine lv_iload_n hx hb dX1_behind_4 rfl (lv_at hl 0 rfl) ?_
    refine lv_bipush (v := (8 : Int32)) hx hb dX1_behind_5 (by decide) ?_
    refine lv_icmp_ge (tgt := 38) hx hb dX1_behind_7 (by decide) (fun q_ => absurd q_ (nI_ge hi (by decide))) (fun _ => ?_)
    refine lv_iload_n hx hb dX1_behind_10 rfl (lv_at hl 3 rfl) ?_
    refine lv_iload_n hx hb dX1_behind_11 rfl (lv_at hl 0 rfl) ?_
    refine lv_ishr hx hb dX1_behind_12 ?_
    refine lv_iconst (v := (1 : Int32)) hx hb dX1_behind_13 (by decide) ?_
    refine lv_iand hx hb dX1_behind_14 ?_
    refine lv_iconst (v := (1 : Int32)) hx hb dX1_behind_15 (by decide) ?_
    refine lv_icmp_ne (tgt := 30) hx hb dX1_behind_16 (by decide) (fun c_1 => ?_) (fun c_1 => ?_)
    · refine lv_iload_n hx hb dX1_behind_30 rfl (lv_at hl 1 rfl) ?_
      refine lv_istore_n (lv' := [(2, .int (fr_beh to p1 i)), (3, .int (nI (i))), (0, .ref (h)), (1, .int (p1))]) hx hb dX1_behind_31 rfl hl (by decide) rfl (fun ls hl => ?_)
      refine lv_iinc (v := nI (i + 1)) (lv' := [(3, .int (nI (i + 1))), (2, .int (fr_beh to p1 i)), (0, .ref (h)), (1, .int (p1))]) hx hb dX1_behind_32 hl (k := 1) rfl (nI_1 _) (by decide) rfl (fun ls hl => ?_)
      refine lv_goto (tgt := 4) hx hb dX1_behind_35 (by decide) ?_
      have e_1 : fr_beh to p1 (i + 1) = fr_beh to p1 i := (by rw [fr_beh, if_neg c_1])
      exact ih_i _ _ _ ⟨hP, hD, hS, (by rw [e_1]; exact lv_sub hl [0, 1, 2, 3] rfl)⟩
    · refine lv_iload_n hx hb dX1_behind_19 rfl (lv_at hl 1 rfl) ?_
      refine lv_aload_n hx hb dX1_behind_20 rfl (lv_at hl 2 rfl) ?_
      refine va_get (D := G) (ci := 1) (v := .ref (a 0)) (C := RX1) (T := TX1) (N := 11) hx hb hts in_X1 hown hK hP 0 rfl rfl 0 (by decide) (hts _ q201) (fun _ h9 => h9) rfl dX1_behind_21 ?_
      refine lv_iload_n hx hb dX1_behind_24 rfl (lv_at hl 0 rfl) ?_
      refine fr_iald hx hb hK hP 1 0 rfl rfl (by omega) (by decide) dX1_behind_25 ?_
      refine lv_ior hx hb dX1_behind_26 ?_
      refine lv_goto (tgt := 31) hx hb dX1_behind_27 (by decide) ?_
      refine lv_istore_n (lv' := [(2, .int ((fr_beh to p1 i) ||| (to i))), (3, .int (nI (i))), (0, .ref (h)), (1, .int (p1))]) hx hb dX1_behind_31 rfl hl (by decide) rfl (fun ls hl => ?_)
      refine lv_iinc (v := nI (i + 1)) (lv' := [(3, .int (nI (i + 1))), (2, .int ((fr_beh to p1 i) ||| (to i))), (0, .ref (h)), (1, .int (p1))]) hx hb dX1_behind_32 hl (k := 1) rfl (nI_1 _) (by decide) rfl (fun ls hl => ?_)
      refine lv_goto (tgt := 4) hx hb dX1_behind_35 (by decide) ?_
      have e_1 : fr_beh to p1 (i + 1) = (fr_beh to p1 i) ||| (to i) := (by rw [fr_beh, if_pos c_1])
      exact ih_i _ _ _ ⟨hP, hD, hS, (by rw [e_1]; exact lv_sub hl [0, 1, 2, 3] rfl)⟩
set_option maxHeartbeats 4000000 in
theorem met1_not (l : Launch) (G : va_G) (h : Nat) (a : Nat → Nat) (d : ClassId) (sz : Nat) (to : Nat → Int32) (mk : Nat → Int32) (dm : Nat → Int32) (dn : Nat) (kd : Nat → Int32) (lf : Nat → Int32) (rt : Nat → Int32) (vl : Nat → Int32) (md : Nat) (sk : Nat → Int32) (ht : Nat) (p1 : Int32) : fr_I l yX1_not cX1_not 2 (some .int) ({ frames := 0, cells := 0, slots := 0, locals := 0 } : Room) [.ref (h), .int (p1)] G d sz (w1 h a d to mk dm dn kd lf rt vl md sk ht) (fun (r : Int32) (u : Unit) => r = fr_no p1) (fun (u : Unit) => (w1 h a d to mk dm dn kd lf rt vl md sk ht)) := by
  refine fr_startI RX1 rfl (by decide +kernel) (Nat.le_of_ble_eq_true rfl) ?_
  intro p e s m below meth c A ls hx hb hr hlocks hml hown hts hA hK hP hD hS hl
  have hl : lv_has ls 2 [(0, .ref (h)), (1, .int (p1))] := hl
  refine lv_sipush (v := (255 : Int32)) hx hb dX1_not_0 (by decide) ?_
  refine lv_iload_n hx hb dX1_not_3 rfl (lv_at hl 1 rfl) ?_
  refine lv_iconst (v := (-1 : Int32)) hx hb dX1_not_4 (by decide) ?_
  refine lv_ixor hx hb dX1_not_5 ?_
  refine lv_iand hx hb dX1_not_6 ?_
  exact fr_reti () hx hb hr hlocks hK hP hD hS rfl dX1_not_7
set_option maxHeartbeats 4000000 in
theorem met1_staying (l : Launch) (G : va_G) (h : Nat) (a : Nat → Nat) (d : ClassId) (sz : Nat) (to : Nat → Int32) (mk : Nat → Int32) (dm : Nat → Int32) (dn : Nat) (kd : Nat → Int32) (lf : Nat → Int32) (rt : Nat → Int32) (vl : Nat → Int32) (md : Nat) (sk : Nat → Int32) (ht : Nat) (p1 : Int32) (hdn : dn ≤ 3) : fr_I l yX1_staying cX1_staying 6 (some .int) ({ frames := 2, cells := 0, slots := 0, locals := 47 } : Room) [.ref (h), .int (p1)] G d sz (w1 h a d to mk dm dn kd lf rt vl md sk ht) (fun (r : Int32) (u : Unit) => r = fr_sm to dm dn p1) (fun (u : Unit) => (w1 h a d to mk dm dn kd lf rt vl md sk ht)) := by
  refine fr_startI RX1 rfl (by decide +kernel) (Nat.le_of_ble_eq_true rfl) ?_
  intro p e s m below meth c A ls hx hb hr hlocks hml hown hts hA hK hP hD hS hl
  have hl : lv_has ls 6 [(0, .ref (h)), (1, .int (p1))] := hl
  refine lv_iload_n hx hb dX1_staying_0 rfl (lv_at hl 1 rfl) ?_
  refine lv_istore_n (lv' := [(2, .int (p1)), (0, .ref (h)), (1, .int (p1))]) hx hb dX1_staying_1 rfl hl (by decide) rfl (fun ls hl => ?_)
  refine lv_iconst (v := (-1 : Int32)) hx hb dX1_staying_2 (by decide) ?_
  refine lv_istore_n (lv' := [(3, .int ((-1 : Int32))), (2, .int (p1)), (0, .ref (h)), (1, .int (p1))]) hx hb dX1_staying_3 rfl hl (by decide) rfl (fun ls hl => ?_)
  refine fr_down (I := fun (N : Nat) (H : Heap) (locs : List Loc) (ls : Array Slot) => ∃ (n : Nat), ∃ (x : Int32), ∃ (y : Int32), (x = fr_it to dm dn p1 n) ∧ ((n = 0 ∧ y = -1) ∨ ∃ n', n = n' + 1 ∧ y = fr_it to dm dn p1 n' ∧ p1 ≠ -1) ∧ (x = y ∨ x.toBitVec.toNat < N) ∧ va_P G vwCl (w1 h a d to mk dm dn kd lf rt vl md sk ht) H ∧ va_D A (w1 h a d to mk dm dn kd lf rt vl md sk ht) ∧ va_S A s.heap H locs ∧ lv_has ls 6 [(2, .int (x)), (3, .int (y)), (0, .ref (h)), (1, .int (p1))]) ?_ ?_ (p1.toBitVec.toNat + 1) ⟨0, p1, ((-1 : Int32)), rfl, (Or.inl ⟨rfl, rfl⟩), (Or.inr (Nat.lt_succ_self _)), hP, hD, hS, lv_sub hl [1, 0, 2, 3] rfl⟩
  · intro H locs ls hI
    obtain ⟨n, x, y, hq, hy, hN, hP, hD, hS, hl⟩ := hI
    refine lv_iload_n hx hb dX1_staying_4 rfl (lv_at hl 0 rfl) ?_
    refine lv_iload_n hx hb dX1_staying_5 rfl (lv_at hl 1 rfl) ?_
    refine lv_icmp_eq (tgt := 65) hx hb dX1_staying_6 (by decide) (fun _ => ?_) (fun q_ => absurd (hN.resolve_right (Nat.not_lt_zero _)) q_)
    refine lv_iload_n hx hb dX1_staying_65 rfl (lv_at hl 0 rfl) ?_
    exact fr_reti () hx hb hr hlocks hK hP hD hS (fr_sm_end to dm dn p1 hq hy (hN.resolve_right (Nat.not_lt_zero _))) dX1_staying_66
  · intro N ih_N H locs ls hI
    obtain ⟨n, x, y, hq, hy, hN, hP, hD, hS, hl⟩ := hI
    refine lv_iload_n hx hb dX1_staying_4 rfl (lv_at hl 0 rfl) ?_
    refine lv_iload_n hx hb dX1_staying_5 rfl (lv_at hl 1 rfl) ?_
    refine lv_icmp_eq (tgt := 65) hx hb dX1_staying_6 (by decide) (fun c_1 => ?_) (fun c_1 => ?_)
    · refine lv_iload_n hx hb dX1_staying_65 rfl (lv_at hl 0 rfl) ?_
      exact fr_reti () hx hb hr hlocks hK hP hD hS (fr_sm_end to dm dn p1 hq hy c_1) dX1_staying_66
    · refine lv_iload_n hx hb dX1_staying_9 rfl (lv_at hl 0 rfl) ?_
      refine lv_istore_n (lv' := [(3, .int (x)), (2, .int (x)), (0, .ref (h)), (1, .int (p1))]) hx hb dX1_staying_10 rfl hl (by decide) rfl (fun ls hl => ?_)
      refine lv_iload_n hx hb dX1_staying_11 rfl (lv_at hl 1 rfl) ?_
      refine lv_aload_n hx hb dX1_staying_12 rfl (lv_at hl 2 rfl) ?_
      refine lv_iload_n hx hb dX1_staying_13 rfl (lv_at hl 1 rfl) ?_
      refine fr_calli (As := [.int (x)]) (rest := [.int (x)]) ⟨hx, hb, hml, hown, hts⟩ (met1_before l G h a d _ to mk dm dn kd lf rt vl md sk ht x) (cwV 1 hts (lw_V q299 q301 qs21 q28 q302) rfl rfl rfl (by decide +kernel) ⟨Nat.le_of_ble_eq_true rfl, Nat.le_of_ble_eq_true rfl⟩) (va_recv hK hP (ci := 1) (q0 := 0) rfl rfl) hK hP hD hS hA rfl hl.1 rfl (Nat.le_of_ble_eq_true rfl) dX1_staying_14 ⟨Nat.le_refl _, Nat.le_refl _⟩ (fun r_2 u_2 H locs hw_2 hP hD hS => ?_)
      have hw_2 : r_2 = fr_bef to x 8 := hw_2
      subst hw_2
      have hP : va_P G vwCl (w1 h a d to mk dm dn kd lf rt vl md sk ht) H := hP
      have hD : va_D A (w1 h a d to mk dm dn kd lf rt vl md sk ht) := hD
      refine lv_iand hx hb dX1_staying_17 ?_
      refine lv_istore_n (lv' := [(2, .int ((x) &&& (fr_bef to x 8))), (3, .int (x)), (0, .ref (h)), (1, .int (p1))]) hx hb dX1_staying_18 rfl hl (by decide) rfl (fun ls hl => ?_)
      refine lv_iconst (v := (0 : Int32)) hx hb dX1_staying_19 (by decide) ?_
      refine lv_istore (lv' := [(4, .int ((0 : Int32))), (2, .int ((x) &&& (fr_bef to x 8))), (3, .int (x)), (0, .ref (h)), (1, .int (p1))]) hx hb dX1_staying_20 hl (by decide) rfl (fun ls hl => ?_)
      refine fr_for (I := fun (j : Nat) (H : Heap) (locs : List Loc) (ls : Array Slot) => va_P G vwCl (w1 h a d to mk dm dn kd lf rt vl md sk ht) H ∧ va_D A (w1 h a d to mk dm dn kd lf rt vl md sk ht) ∧ va_S A s.heap H locs ∧ lv_has ls 6 [(4, .int (nI (j))), (2, .int (fr_rD to dm ((x) &&& (fr_bef to x 8)) j)), (3, .int (x)), (0, .ref (h)), (1, .int (p1))]) dn ?_ ?_ 0 (Nat.zero_le _) ⟨hP, hD, hS, lv_sub hl [0, 1, 2, 3, 4] rfl⟩
      · intro H locs ls hI
        obtain ⟨hP, hD, hS, hl⟩ := hI
        refine lv_iload hx hb dX1_staying_22 (lv_at hl 0 rfl) ?_
        refine lv_aload_n hx hb dX1_staying_24 rfl (lv_at hl 3 rfl) ?_
        refine va_get (D := G) (ci := 1) (v := .int (nI (dn))) (C := RX1) (T := TX1) (N := 11) hx hb hts in_X1 hown hK hP 0 rfl rfl 3 (by decide) (hts _ q204) (fun _ h9 => h9) rfl dX1_staying_25 ?_
        refine lv_icmp_ge (tgt := 62) hx hb dX1_staying_28 (by decide) (fun _ => ?_) (fun q_ => absurd (nI_le (Nat.le_refl dn) (by omega)) q_)
        refine lv_goto (tgt := 4) hx hb dX1_staying_62 (by decide) ?_
        exact ih_N _ _ _ ⟨(n + 1), (fr_rD to dm ((x) &&& (fr_bef to x 8)) dn), x, (by rw [hq]; rfl), (Or.inr ⟨n, rfl, hq, fr_sm_ne to dm dn p1 hq hy c_1⟩), (fr_sm_lt to dm dn hN c_1), hP, hD, hS, lv_sub hl [1, 2, 3, 4] rfl⟩
      · intro j hj ih_j H locs ls hI
        obtain ⟨hP, hD, hS, hl⟩ := hI
        refine lv_iload hx hb dX1_staying_22 (lv_at hl 0 rfl) ?_
        refine lv_aload_n hx hb dX1_staying_24 rfl (lv_at hl 3 rfl) ?_
        refine va_get (D := G) (ci := 1) (v := .int (nI (dn))) (C := RX1) (T := TX1) (N := 11) hx hb hts in_X1 hown hK hP 0 rfl rfl 3 (by decide) (hts _ q204) (fun _ h9 => h9) rfl dX1_staying_25 ?_
        refine lv_icmp_ge (tgt := 62) hx hb dX1_staying_28 (by decide) (fun q_ => absurd q_ (nI_ge hj (by omega))) (fun _ => ?_)
        refine lv_aload_n hx hb dX1_staying_31 rfl (lv_at hl 3 rfl) ?_
        refine lv_iload_n hx hb dX1_staying_32 rfl (lv_at hl 1 rfl) ?_
        refine lv_iload_n hx hb dX1_staying_33 rfl (lv_at hl 1 rfl) ?_
        refine lv_aload_n hx hb dX1_staying_34 rfl (lv_at hl 3 rfl) ?_
        refine va_get (D := G) (ci := 1) (v := .ref (a 2)) (C := RX1) (T := TX1) (N := 11) hx hb hts in_X1 hown hK hP 0 rfl rfl 2 (by decide) (hts _ q203) (fun _ h9 => h9) rfl dX1_staying_35 ?_
        refine lv_iload hx hb dX1_staying_38 (lv_at hl 0 rfl) ?_
        refine fr_iald hx hb hK hP 3 0 rfl rfl (by omega) (by decide) dX1_staying_40 ?_
        refine lv_iand hx hb dX1_staying_41 ?_
        refine fr_calli (As := [.int (fr_rD to dm ((x) &&& (fr_bef to x 8)) j), .int ((fr_rD to dm ((x) &&& (fr_bef to x 8)) j) &&& (dm j))]) (rest := []) ⟨hx, hb, hml, hown, hts⟩ (met1_coming l G h a d _ to mk dm dn kd lf rt vl md sk ht (fr_rD to dm ((x) &&& (fr_bef to x 8)) j) ((fr_rD to dm ((x) &&& (fr_bef to x 8)) j) &&& (dm j))) (cwV 2 hts (lw_V q303 q305 qs22 q28 q306) rfl rfl rfl (by decide +kernel) ⟨Nat.le_of_ble_eq_true rfl, Nat.le_of_ble_eq_true rfl⟩) (va_recv hK hP (ci := 1) (q0 := 0) rfl rfl) hK hP hD hS hA rfl hl.1 rfl (Nat.le_of_ble_eq_true rfl) dX1_staying_42 ⟨Nat.le_refl _, Nat.le_refl _⟩ (fun r_3 u_3 H locs hw_3 hP hD hS => ?_)
        have hw_3 : r_3 = fr_bk to (fr_rD to dm ((x) &&& (fr_bef to x 8)) j) ((fr_rD to dm ((x) &&& (fr_bef to x 8)) j) &&& (dm j)) 8 := hw_3
        subst hw_3
        have hP : va_P G vwCl (w1 h a d to mk dm dn kd lf rt vl md sk ht) H := hP
        have hD : va_D A (w1 h a d to mk dm dn kd lf rt vl md sk ht) := hD
        refine lv_istore (lv' := [(5, .int (fr_bk to (fr_rD to dm ((x) &&& (fr_bef to x 8)) j) ((fr_rD to dm ((x) &&& (fr_bef to x 8)) j) &&& (dm j)) 8)), (4, .int (nI (j))), (2, .int (fr_rD to dm ((x) &&& (fr_bef to x 8)) j)), (3, .int (x)), (0, .ref (h)), (1, .int (p1))]) hx hb dX1_staying_45 hl (by decide) rfl (fun ls hl => ?_)
        refine lv_iload_n hx hb dX1_staying_47 rfl (lv_at hl 2 rfl) ?_
        refine lv_aload_n hx hb dX1_staying_48 rfl (lv_at hl 4 rfl) ?_
        refine lv_iload hx hb dX1_staying_49 (lv_at hl 0 rfl) ?_
        refine fr_calli (As := [.int (fr_bk to (fr_rD to dm ((x) &&& (fr_bef to x 8)) j) ((fr_rD to dm ((x) &&& (fr_bef to x 8)) j) &&& (dm j)) 8)]) (rest := [.int (fr_rD to dm ((x) &&& (fr_bef to x 8)) j)]) ⟨hx, hb, hml, hown, hts⟩ (met1_before l G h a d _ to mk dm dn kd lf rt vl md sk ht (fr_bk to (fr_rD to dm ((x) &&& (fr_bef to x 8)) j) ((fr_rD to dm ((x) &&& (fr_bef to x 8)) j) &&& (dm j)) 8)) (cwV 1 hts (lw_V q299 q301 qs21 q28 q302) rfl rfl rfl (by decide +kernel) ⟨Nat.le_of_ble_eq_true rfl, Nat.le_of_ble_eq_true rfl⟩) (va_recv hK hP (ci := 1) (q0 := 0) rfl rfl) hK hP hD hS hA rfl hl.1 rfl (Nat.le_of_ble_eq_true rfl) dX1_staying_51 ⟨Nat.le_refl _, Nat.le_refl _⟩ (fun r_4 u_4 H locs hw_4 hP hD hS => ?_)
        have hw_4 : r_4 = fr_bef to (fr_bk to (fr_rD to dm ((x) &&& (fr_bef to x 8)) j) ((fr_rD to dm ((x) &&& (fr_bef to x 8)) j) &&& (dm j)) 8) 8 := hw_4
        subst hw_4
        have hP : va_P G vwCl (w1 h a d to mk dm dn kd lf rt vl md sk ht) H := hP
        have hD : va_D A (w1 h a d to mk dm dn kd lf rt vl md sk ht) := hD
        refine lv_iand hx hb dX1_staying_54 ?_
        refine lv_istore_n (lv' := [(2, .int ((fr_rD to dm ((x) &&& (fr_bef to x 8)) j) &&& (fr_bef to (fr_bk to (fr_rD to dm ((x) &&& (fr_bef to x 8)) j) ((fr_rD to dm ((x) &&& (fr_bef to x 8)) j) &&& (dm j)) 8) 8))), (5, .int (fr_bk to (fr_rD to dm ((x) &&& (fr_bef to x 8)) j) ((fr_rD to dm ((x) &&& (fr_bef to x 8)) j) &&& (dm j)) 8)), (4, .int (nI (j))), (3, .int (x)), (0, .ref (h)), (1, .int (p1))]) hx hb dX1_staying_55 rfl hl (by decide) rfl (fun ls hl => ?_)
        refine lv_iinc (v := nI (j + 1)) (lv' := [(4, .int (nI (j + 1))), (2, .int ((fr_rD to dm ((x) &&& (fr_bef to x 8)) j) &&& (fr_bef to (fr_bk to (fr_rD to dm ((x) &&& (fr_bef to x 8)) j) ((fr_rD to dm ((x) &&& (fr_bef to x 8)) j) &&& (dm j)) 8) 8))), (5, .int (fr_bk to (fr_rD to dm ((x) &&& (fr_bef to x 8)) j) ((fr_rD to dm ((x) &&& (fr_bef to x 8)) j) &&& (dm j)) 8)), (3, .int (x)), (0, .ref (h)), (1, .int (p1))]) hx hb dX1_staying_56 hl (k := 2) rfl (nI_1 _) (by decide) rfl (fun ls hl => ?_)
        refine lv_goto (tgt := 22) hx hb dX1_staying_59 (by decide) ?_
        have e_1 : fr_rD to dm ((x) &&& (fr_bef to x 8)) (j + 1) = (fr_rD to dm ((x) &&& (fr_bef to x 8)) j) &&& (fr_bef to (fr_bk to (fr_rD to dm ((x) &&& (fr_bef to x 8)) j) ((fr_rD to dm ((x) &&& (fr_bef to x 8)) j) &&& (dm j)) 8) 8) := rfl
        exact ih_j _ _ _ ⟨hP, hD, hS, (by rw [e_1]; exact lv_sub hl [0, 1, 3, 4, 5] rfl)⟩
set_option maxHeartbeats 4000000 in
theorem met1_ofOne (l : Launch) (G : va_G) (h : Nat) (a : Nat → Nat) (d : ClassId) (sz : Nat) (to : Nat → Int32) (mk : Nat → Int32) (dm : Nat → Int32) (dn : Nat) (kd : Nat → Int32) (lf : Nat → Int32) (rt : Nat → Int32) (vl : Nat → Int32) (md : Nat) (sk : Nat → Int32) (ht : Nat) (p1 : Int32) (p2 : Int32) (hdn : dn ≤ 3) : fr_I l yX1_ofOne cX1_ofOne 5 (some .int) ({ frames := 3, cells := 0, slots := 0, locals := 72 } : Room) [.ref (h), .int (p1), .int (p2)] G d sz (w1 h a d to mk dm dn kd lf rt vl md sk ht) (fun (r : Int32) (u : Unit) => r = fr_o1 to (fr_sm to dm dn) p1 p2) (fun (u : Unit) => (w1 h a d to mk dm dn kd lf rt vl md sk ht)) := by
  refine fr_startI RX1 rfl (by decide +kernel) (Nat.le_of_ble_eq_true rfl) ?_
  intro p e s m below meth c A ls hx hb hr hlocks hml hown hts hA hK hP hD hS hl
  have hl : lv_has ls 5 [(0, .ref (h)), (1, .int (p1)), (2, .int (p2))] := hl
  refine lv_aload_n hx hb dX1_ofOne_0 rfl (lv_at hl 0 rfl) ?_
  refine lv_sipush (v := (255 : Int32)) hx hb dX1_ofOne_1 (by decide) ?_
  refine fr_calli (As := [.int ((255 : Int32))]) (rest := []) ⟨hx, hb, hml, hown, hts⟩ (met1_staying l G h a d _ to mk dm dn kd lf rt vl md sk ht ((255 : Int32)) hdn) (cwV 1 hts (lw_V q295 q297 qs20 q28 q298) rfl rfl rfl (by decide +kernel) ⟨Nat.le_of_ble_eq_true rfl, Nat.le_of_ble_eq_true rfl⟩) (va_recv hK hP (ci := 1) (q0 := 0) rfl rfl) hK hP hD hS hA rfl hl.1 rfl (Nat.le_of_ble_eq_true rfl) dX1_ofOne_4 ⟨Nat.le_refl _, Nat.le_refl _⟩ (fun r_1 u_1 H locs hw_1 hP hD hS => ?_)
  have hw_1 : r_1 = fr_sm to dm dn ((255 : Int32)) := hw_1
  subst hw_1
  have hP : va_P G vwCl (w1 h a d to mk dm dn kd lf rt vl md sk ht) H := hP
  have hD : va_D A (w1 h a d to mk dm dn kd lf rt vl md sk ht) := hD
  refine lv_istore_n (lv' := [(3, .int (fr_sm to dm dn ((255 : Int32)))), (0, .ref (h)), (1, .int (p1)), (2, .int (p2))]) hx hb dX1_ofOne_7 rfl hl (by decide) rfl (fun ls hl => ?_)
  refine lv_iload_n hx hb dX1_ofOne_8 rfl (lv_at hl 2 rfl) ?_
  refine lv_if_ne (tgt := 18) hx hb dX1_ofOne_9 (by decide) (fun c_2 => ?_) (fun c_2 => ?_)
  · refine lv_iload_n hx hb dX1_ofOne_18 rfl (lv_at hl 2 rfl) ?_
    refine lv_iconst (v := (1 : Int32)) hx hb dX1_ofOne_19 (by decide) ?_
    refine lv_icmp_ne (tgt := 31) hx hb dX1_ofOne_20 (by decide) (fun c_3 => ?_) (fun c_3 => ?_)
    · refine lv_iload_n hx hb dX1_ofOne_31 rfl (lv_at hl 2 rfl) ?_
      refine lv_iconst (v := (2 : Int32)) hx hb dX1_ofOne_32 (by decide) ?_
      refine lv_icmp_ne (tgt := 47) hx hb dX1_ofOne_33 (by decide) (fun c_4 => ?_) (fun c_4 => ?_)
      · refine lv_iload_n hx hb dX1_ofOne_47 rfl (lv_at hl 2 rfl) ?_
        refine lv_iconst (v := (3 : Int32)) hx hb dX1_ofOne_48 (by decide) ?_
        refine lv_icmp_ne (tgt := 58) hx hb dX1_ofOne_49 (by decide) (fun c_5 => ?_) (fun c_5 => ?_)
        · refine lv_aload_n hx hb dX1_ofOne_58 rfl (lv_at hl 1 rfl) ?_
          refine lv_iload_n hx hb dX1_ofOne_59 rfl (lv_at hl 3 rfl) ?_
          refine fr_calli (As := [.int (p2)]) (rest := []) ⟨hx, hb, hml, hown, hts⟩ (met1_not l G h a d _ to mk dm dn kd lf rt vl md sk ht p2) (cwV 1 hts (lw_V q307 q309 qs23 q28 q310) rfl rfl rfl (by decide +kernel) ⟨Nat.le_of_ble_eq_true rfl, Nat.le_of_ble_eq_true rfl⟩) (va_recv hK hP (ci := 1) (q0 := 0) rfl rfl) hK hP hD hS hA rfl hl.1 rfl (Nat.le_of_ble_eq_true rfl) dX1_ofOne_60 ⟨Nat.le_refl _, Nat.le_refl _⟩ (fun r_6 u_6 H locs hw_6 hP hD hS => ?_)
          have hw_6 : r_6 = fr_no p2 := hw_6
          subst hw_6
          have hP : va_P G vwCl (w1 h a d to mk dm dn kd lf rt vl md sk ht) H := hP
          have hD : va_D A (w1 h a d to mk dm dn kd lf rt vl md sk ht) := hD
          refine lv_istore (lv' := [(4, .int (fr_no p2)), (3, .int (fr_sm to dm dn ((255 : Int32)))), (0, .ref (h)), (1, .int (p1)), (2, .int (p2))]) hx hb dX1_ofOne_63 hl (by decide) rfl (fun ls hl => ?_)
          refine lv_iload_n hx hb dX1_ofOne_65 rfl (lv_at hl 3 rfl) ?_
          refine lv_iconst (v := (4 : Int32)) hx hb dX1_ofOne_66 (by decide) ?_
          refine lv_icmp_ne (tgt := 85) hx hb dX1_ofOne_67 (by decide) (fun c_7 => ?_) (fun c_7 => ?_)
          · refine lv_iload_n hx hb dX1_ofOne_85 rfl (lv_at hl 3 rfl) ?_
            refine lv_iconst (v := (5 : Int32)) hx hb dX1_ofOne_86 (by decide) ?_
            refine lv_icmp_ne (tgt := 105) hx hb dX1_ofOne_87 (by decide) (fun c_8 => ?_) (fun c_8 => ?_)
            · refine lv_sipush (v := (255 : Int32)) hx hb dX1_ofOne_105 (by decide) ?_
              refine lv_aload_n hx hb dX1_ofOne_108 rfl (lv_at hl 2 rfl) ?_
              refine lv_sipush (v := (255 : Int32)) hx hb dX1_ofOne_109 (by decide) ?_
              refine lv_iload hx hb dX1_ofOne_112 (lv_at hl 0 rfl) ?_
              refine lv_iload_n hx hb dX1_ofOne_114 rfl (lv_at hl 1 rfl) ?_
              refine lv_iand hx hb dX1_ofOne_115 ?_
              refine fr_calli (As := [.int ((255 : Int32)), .int ((fr_no p2) &&& (fr_sm to dm dn ((255 : Int32))))]) (rest := [.int ((255 : Int32))]) ⟨hx, hb, hml, hown, hts⟩ (met1_coming l G h a d _ to mk dm dn kd lf rt vl md sk ht ((255 : Int32)) ((fr_no p2) &&& (fr_sm to dm dn ((255 : Int32))))) (cwV 2 hts (lw_V q303 q305 qs22 q28 q306) rfl rfl rfl (by decide +kernel) ⟨Nat.le_of_ble_eq_true rfl, Nat.le_of_ble_eq_true rfl⟩) (va_recv hK hP (ci := 1) (q0 := 0) rfl rfl) hK hP hD hS hA rfl hl.1 rfl (Nat.le_of_ble_eq_true rfl) dX1_ofOne_116 ⟨Nat.le_refl _, Nat.le_refl _⟩ (fun r_9 u_9 H locs hw_9 hP hD hS => ?_)
              have hw_9 : r_9 = fr_bk to ((255 : Int32)) ((fr_no p2) &&& (fr_sm to dm dn ((255 : Int32)))) 8 := hw_9
              subst hw_9
              have hP : va_P G vwCl (w1 h a d to mk dm dn kd lf rt vl md sk ht) H := hP
              have hD : va_D A (w1 h a d to mk dm dn kd lf rt vl md sk ht) := hD
              refine lv_iconst (v := (-1 : Int32)) hx hb dX1_ofOne_119 (by decide) ?_
              refine lv_ixor hx hb dX1_ofOne_120 ?_
              refine lv_iand hx hb dX1_ofOne_121 ?_
              exact fr_reti () hx hb hr hlocks hK hP hD hS (by rw [fr_o1, if_neg c_2, if_neg c_3, if_neg c_4, if_neg c_5, if_neg c_7, if_neg c_8]; first | done | rfl) dX1_ofOne_122
            · refine lv_sipush (v := (255 : Int32)) hx hb dX1_ofOne_90 (by decide) ?_
              refine lv_aload_n hx hb dX1_ofOne_93 rfl (lv_at hl 2 rfl) ?_
              refine lv_iload hx hb dX1_ofOne_94 (lv_at hl 0 rfl) ?_
              refine fr_calli (As := [.int (fr_no p2)]) (rest := [.int ((255 : Int32))]) ⟨hx, hb, hml, hown, hts⟩ (met1_staying l G h a d _ to mk dm dn kd lf rt vl md sk ht (fr_no p2) hdn) (cwV 1 hts (lw_V q295 q297 qs20 q28 q298) rfl rfl rfl (by decide +kernel) ⟨Nat.le_of_ble_eq_true rfl, Nat.le_of_ble_eq_true rfl⟩) (va_recv hK hP (ci := 1) (q0 := 0) rfl rfl) hK hP hD hS hA rfl hl.1 rfl (Nat.le_of_ble_eq_true rfl) dX1_ofOne_96 ⟨Nat.le_refl _, Nat.le_refl _⟩ (fun r_10 u_10 H locs hw_10 hP hD hS => ?_)
              have hw_10 : r_10 = fr_sm to dm dn (fr_no p2) := hw_10
              subst hw_10
              have hP : va_P G vwCl (w1 h a d to mk dm dn kd lf rt vl md sk ht) H := hP
              have hD : va_D A (w1 h a d to mk dm dn kd lf rt vl md sk ht) := hD
              refine lv_iconst (v := (-1 : Int32)) hx hb dX1_ofOne_99 (by decide) ?_
              refine lv_ixor hx hb dX1_ofOne_100 ?_
              refine lv_iand hx hb dX1_ofOne_101 ?_
              refine lv_goto (tgt := 122) hx hb dX1_ofOne_102 (by decide) ?_
              exact fr_reti () hx hb hr hlocks hK hP hD hS (by rw [fr_o1, if_neg c_2, if_neg c_3, if_neg c_4, if_neg c_5, if_neg c_7, if_pos c_8]; first | done | rfl) dX1_ofOne_122
          · refine lv_sipush (v := (255 : Int32)) hx hb dX1_ofOne_70 (by decide) ?_
            refine lv_aload_n hx hb dX1_ofOne_73 rfl (lv_at hl 2 rfl) ?_
            refine lv_iload hx hb dX1_ofOne_74 (lv_at hl 0 rfl) ?_
            refine lv_iload_n hx hb dX1_ofOne_76 rfl (lv_at hl 1 rfl) ?_
            refine lv_iand hx hb dX1_ofOne_77 ?_
            refine fr_calli (As := [.int ((fr_no p2) &&& (fr_sm to dm dn ((255 : Int32))))]) (rest := [.int ((255 : Int32))]) ⟨hx, hb, hml, hown, hts⟩ (met1_before l G h a d _ to mk dm dn kd lf rt vl md sk ht ((fr_no p2) &&& (fr_sm to dm dn ((255 : Int32))))) (cwV 1 hts (lw_V q299 q301 qs21 q28 q302) rfl rfl rfl (by decide +kernel) ⟨Nat.le_of_ble_eq_true rfl, Nat.le_of_ble_eq_true rfl⟩) (va_recv hK hP (ci := 1) (q0 := 0) rfl rfl) hK hP hD hS hA rfl hl.1 rfl (Nat.le_of_ble_eq_true rfl) dX1_ofOne_78 ⟨Nat.le_refl _, Nat.le_refl _⟩ (fun r_11 u_11 H locs hw_11 hP hD hS => ?_)
            have hw_11 : r_11 = fr_bef to ((fr_no p2) &&& (fr_sm to dm dn ((255 : Int32)))) 8 := hw_11
            subst hw_11
            have hP : va_P G vwCl (w1 h a d to mk dm dn kd lf rt vl md sk ht) H := hP
            have hD : va_D A (w1 h a d to mk dm dn kd lf rt vl md sk ht) := hD
            refine lv_iconst (v := (-1 : Int32)) hx hb dX1_ofOne_81 (by decide) ?_
            refine lv_ixor hx hb dX1_ofOne_82 ?_
            refine lv_iand hx hb dX1_ofOne_83 ?_
            exact fr_reti () hx hb hr hlocks hK hP hD hS (by rw [fr_o1, if_neg c_2, if_neg c_3, if_neg c_4, if_neg c_5, if_pos c_7]; first | done | rfl) dX1_ofOne_84
        · refine lv_aload_n hx hb dX1_ofOne_52 rfl (lv_at hl 1 rfl) ?_
          refine lv_iload_n hx hb dX1_ofOne_53 rfl (lv_at hl 3 rfl) ?_
          refine fr_calli (As := [.int (p2)]) (rest := []) ⟨hx, hb, hml, hown, hts⟩ (met1_staying l G h a d _ to mk dm dn kd lf rt vl md sk ht p2 hdn) (cwV 1 hts (lw_V q295 q297 qs20 q28 q298) rfl rfl rfl (by decide +kernel) ⟨Nat.le_of_ble_eq_true rfl, Nat.le_of_ble_eq_true rfl⟩) (va_recv hK hP (ci := 1) (q0 := 0) rfl rfl) hK hP hD hS hA rfl hl.1 rfl (Nat.le_of_ble_eq_true rfl) dX1_ofOne_54 ⟨Nat.le_refl _, Nat.le_refl _⟩ (fun r_12 u_12 H locs hw_12 hP hD hS => ?_)
          have hw_12 : r_12 = fr_sm to dm dn p2 := hw_12
          subst hw_12
          have hP : va_P G vwCl (w1 h a d to mk dm dn kd lf rt vl md sk ht) H := hP
          have hD : va_D A (w1 h a d to mk dm dn kd lf rt vl md sk ht) := hD
          exact fr_reti () hx hb hr hlocks hK hP hD hS (by rw [fr_o1, if_neg c_2, if_neg c_3, if_neg c_4, if_pos c_5]; first | done | rfl) dX1_ofOne_57
      · refine lv_aload_n hx hb dX1_ofOne_36 rfl (lv_at hl 1 rfl) ?_
        refine lv_sipush (v := (255 : Int32)) hx hb dX1_ofOne_37 (by decide) ?_
        refine lv_iload_n hx hb dX1_ofOne_40 rfl (lv_at hl 3 rfl) ?_
        refine lv_iload_n hx hb dX1_ofOne_41 rfl (lv_at hl 0 rfl) ?_
        refine lv_iand hx hb dX1_ofOne_42 ?_
        refine fr_calli (As := [.int ((255 : Int32)), .int ((p2) &&& (fr_sm to dm dn ((255 : Int32))))]) (rest := []) ⟨hx, hb, hml, hown, hts⟩ (met1_coming l G h a d _ to mk dm dn kd lf rt vl md sk ht ((255 : Int32)) ((p2) &&& (fr_sm to dm dn ((255 : Int32))))) (cwV 2 hts (lw_V q303 q305 qs22 q28 q306) rfl rfl rfl (by decide +kernel) ⟨Nat.le_of_ble_eq_true rfl, Nat.le_of_ble_eq_true rfl⟩) (va_recv hK hP (ci := 1) (q0 := 0) rfl rfl) hK hP hD hS hA rfl hl.1 rfl (Nat.le_of_ble_eq_true rfl) dX1_ofOne_43 ⟨Nat.le_refl _, Nat.le_refl _⟩ (fun r_13 u_13 H locs hw_13 hP hD hS => ?_)
        have hw_13 : r_13 = fr_bk to ((255 : Int32)) ((p2) &&& (fr_sm to dm dn ((255 : Int32)))) 8 := hw_13
        subst hw_13
        have hP : va_P G vwCl (w1 h a d to mk dm dn kd lf rt vl md sk ht) H := hP
        have hD : va_D A (w1 h a d to mk dm dn kd lf rt vl md sk ht) := hD
        exact fr_reti () hx hb hr hlocks hK hP hD hS (by rw [fr_o1, if_neg c_2, if_neg c_3, if_pos c_4]; first | done | rfl) dX1_ofOne_46
    · refine lv_aload_n hx hb dX1_ofOne_23 rfl (lv_at hl 1 rfl) ?_
      refine lv_iload_n hx hb dX1_ofOne_24 rfl (lv_at hl 3 rfl) ?_
      refine lv_iload_n hx hb dX1_ofOne_25 rfl (lv_at hl 0 rfl) ?_
      refine lv_iand hx hb dX1_ofOne_26 ?_
      refine fr_calli (As := [.int ((p2) &&& (fr_sm to dm dn ((255 : Int32))))]) (rest := []) ⟨hx, hb, hml, hown, hts⟩ (met1_before l G h a d _ to mk dm dn kd lf rt vl md sk ht ((p2) &&& (fr_sm to dm dn ((255 : Int32))))) (cwV 1 hts (lw_V q299 q301 qs21 q28 q302) rfl rfl rfl (by decide +kernel) ⟨Nat.le_of_ble_eq_true rfl, Nat.le_of_ble_eq_true rfl⟩) (va_recv hK hP (ci := 1) (q0 := 0) rfl rfl) hK hP hD hS hA rfl hl.1 rfl (Nat.le_of_ble_eq_true rfl) dX1_ofOne_27 ⟨Nat.le_refl _, Nat.le_refl _⟩ (fun r_14 u_14 H locs hw_14 hP hD hS => ?_)
      have hw_14 : r_14 = fr_bef to ((p2) &&& (fr_sm to dm dn ((255 : Int32)))) 8 := hw_14
      subst hw_14
      have hP : va_P G vwCl (w1 h a d to mk dm dn kd lf rt vl md sk ht) H := hP
      have hD : va_D A (w1 h a d to mk dm dn kd lf rt vl md sk ht) := hD
      exact fr_reti () hx hb hr hlocks hK hP hD hS (by rw [fr_o1, if_neg c_2, if_pos c_3]; first | done | rfl) dX1_ofOne_30
  · refine lv_aload_n hx hb dX1_ofOne_12 rfl (lv_at hl 1 rfl) ?_
    refine lv_iload_n hx hb dX1_ofOne_13 rfl (lv_at hl 3 rfl) ?_
    refine fr_calli (As := [.int (p2)]) (rest := []) ⟨hx, hb, hml, hown, hts⟩ (met1_not l G h a d _ to mk dm dn kd lf rt vl md sk ht p2) (cwV 1 hts (lw_V q307 q309 qs23 q28 q310) rfl rfl rfl (by decide +kernel) ⟨Nat.le_of_ble_eq_true rfl, Nat.le_of_ble_eq_true rfl⟩) (va_recv hK hP (ci := 1) (q0 := 0) rfl rfl) hK hP hD hS hA rfl hl.1 rfl (Nat.le_of_ble_eq_true rfl) dX1_ofOne_14 ⟨Nat.le_refl _, Nat.le_refl _⟩ (fun r_15 u_15 H locs hw_15 hP hD hS => ?_)
    have hw_15 : r_15 = fr_no p2 := hw_15
    subst hw_15
    have hP : va_P G vwCl (w1 h a d to mk dm dn kd lf rt vl md sk ht) H := hP
    have hD : va_D A (w1 h a d to mk dm dn kd lf rt vl md sk ht) := hD
    exact fr_reti () hx hb hr hlocks hK hP hD hS (by rw [fr_o1, if_pos c_2]; first | done | rfl) dX1_ofOne_17
set_option maxHeartbeats 4000000 in
theorem met1_ofTwo (l : Launch) (G : va_G) (h : Nat) (a : Nat → Nat) (d : ClassId) (sz : Nat) (to : Nat → Int32) (mk : Nat → Int32) (dm : Nat → Int32) (dn : Nat) (kd : Nat → Int32) (lf : Nat → Int32) (rt : Nat → Int32) (vl : Nat → Int32) (md : Nat) (sk : Nat → Int32) (ht : Nat) (p1 : Int32) (p2 : Int32) (p3 : Int32) (hdn : dn ≤ 3) : fr_I l yX1_ofTwo cX1_ofTwo 7 (some .int) ({ frames := 3, cells := 0, slots := 0, locals := 72 } : Room) [.ref (h), .int (p1), .int (p2), .int (p3)] G d sz (w1 h a d to mk dm dn kd lf rt vl md sk ht) (fun (r : Int32) (u : Unit) => r = fr_t1 to (fr_sm to dm dn) p1 p2 p3) (fun (u : Unit) => (w1 h a d to mk dm dn kd lf rt vl md sk ht)) := by
  refine fr_startI RX1 rfl (by decide +kernel) (Nat.le_of_ble_eq_true rfl) ?_
  intro p e s m below meth c A ls hx hb hr hlocks hml hown hts hA hK hP hD hS hl
  have hl : lv_has ls 7 [(0, .ref (h)), (1, .int (p1)), (2, .int (p2)), (3, .int (p3))] := hl
  refine lv_iload_n hx hb dX1_ofTwo_0 rfl (lv_at hl 1 rfl) ?_
  refine lv_iconst (v := (2 : Int32)) hx hb dX1_ofTwo_1 (by decide) ?_
  refine lv_icmp_ge (tgt := 19) hx hb dX1_ofTwo_2 (by decide) (fun c_1 => ?_) (fun c_1 => ?_)
  · refine lv_aload_n hx hb dX1_ofTwo_19 rfl (lv_at hl 0 rfl) ?_
    refine lv_sipush (v := (255 : Int32)) hx hb dX1_ofTwo_20 (by decide) ?_
    refine fr_calli (As := [.int ((255 : Int32))]) (rest := []) ⟨hx, hb, hml, hown, hts⟩ (met1_staying l G h a d _ to mk dm dn kd lf rt vl md sk ht ((255 : Int32)) hdn) (cwV 1 hts (lw_V q295 q297 qs20 q28 q298) rfl rfl rfl (by decide +kernel) ⟨Nat.le_of_ble_eq_true rfl, Nat.le_of_ble_eq_true rfl⟩) (va_recv hK hP (ci := 1) (q0 := 0) rfl rfl) hK hP hD hS hA rfl hl.1 rfl (Nat.le_of_ble_eq_true rfl) dX1_ofTwo_23 ⟨Nat.le_refl _, Nat.le_refl _⟩ (fun r_2 u_2 H locs hw_2 hP hD hS => ?_)
    have hw_2 : r_2 = fr_sm to dm dn ((255 : Int32)) := hw_2
    subst hw_2
    have hP : va_P G vwCl (w1 h a d to mk dm dn kd lf rt vl md sk ht) H := hP
    have hD : va_D A (w1 h a d to mk dm dn kd lf rt vl md sk ht) := hD
    refine lv_istore (lv' := [(4, .int (fr_sm to dm dn ((255 : Int32)))), (0, .ref (h)), (1, .int (p1)), (2, .int (p2)), (3, .int (p3))]) hx hb dX1_ofTwo_26 hl (by decide) rfl (fun ls hl => ?_)
    refine lv_iload_n hx hb dX1_ofTwo_28 rfl (lv_at hl 2 rfl) ?_
    refine lv_iconst (v := (2 : Int32)) hx hb dX1_ofTwo_29 (by decide) ?_
    refine lv_icmp_ne (tgt := 43) hx hb dX1_ofTwo_30 (by decide) (fun c_3 => ?_) (fun c_3 => ?_)
    · refine lv_aload_n hx hb dX1_ofTwo_43 rfl (lv_at hl 1 rfl) ?_
      refine lv_iload_n hx hb dX1_ofTwo_44 rfl (lv_at hl 4 rfl) ?_
      refine fr_calli (As := [.int (p3)]) (rest := []) ⟨hx, hb, hml, hown, hts⟩ (met1_not l G h a d _ to mk dm dn kd lf rt vl md sk ht p3) (cwV 1 hts (lw_V q307 q309 qs23 q28 q310) rfl rfl rfl (by decide +kernel) ⟨Nat.le_of_ble_eq_true rfl, Nat.le_of_ble_eq_true rfl⟩) (va_recv hK hP (ci := 1) (q0 := 0) rfl rfl) hK hP hD hS hA rfl hl.1 rfl (Nat.le_of_ble_eq_true rfl) dX1_ofTwo_45 ⟨Nat.le_refl _, Nat.le_refl _⟩ (fun r_4 u_4 H locs hw_4 hP hD hS => ?_)
      have hw_4 : r_4 = fr_no p3 := hw_4
      subst hw_4
      have hP : va_P G vwCl (w1 h a d to mk dm dn kd lf rt vl md sk ht) H := hP
      have hD : va_D A (w1 h a d to mk dm dn kd lf rt vl md sk ht) := hD
      refine lv_istore (lv' := [(5, .int (fr_no p3)), (4, .int (fr_sm to dm dn ((255 : Int32)))), (0, .ref (h)), (1, .int (p1)), (2, .int (p2)), (3, .int (p3))]) hx hb dX1_ofTwo_48 hl (by decide) rfl (fun ls hl => ?_)
      refine lv_aload_n hx hb dX1_ofTwo_50 rfl (lv_at hl 2 rfl) ?_
      refine lv_iload hx hb dX1_ofTwo_51 (lv_at hl 0 rfl) ?_
      refine lv_iload hx hb dX1_ofTwo_53 (lv_at hl 0 rfl) ?_
      refine lv_aload_n hx hb dX1_ofTwo_55 rfl (lv_at hl 2 rfl) ?_
      refine lv_iload_n hx hb dX1_ofTwo_56 rfl (lv_at hl 4 rfl) ?_
      refine fr_calli (As := [.int (p2)]) (rest := [.int (fr_no p3), .int (fr_no p3), .ref (h)]) ⟨hx, hb, hml, hown, hts⟩ (met1_not l G h a d _ to mk dm dn kd lf rt vl md sk ht p2) (cwV 1 hts (lw_V q307 q309 qs23 q28 q310) rfl rfl rfl (by decide +kernel) ⟨Nat.le_of_ble_eq_true rfl, Nat.le_of_ble_eq_true rfl⟩) (va_recv hK hP (ci := 1) (q0 := 0) rfl rfl) hK hP hD hS hA rfl hl.1 rfl (Nat.le_of_ble_eq_true rfl) dX1_ofTwo_57 ⟨Nat.le_refl _, Nat.le_refl _⟩ (fun r_5 u_5 H locs hw_5 hP hD hS => ?_)
      have hw_5 : r_5 = fr_no p2 := hw_5
      subst hw_5
      have hP : va_P G vwCl (w1 h a d to mk dm dn kd lf rt vl md sk ht) H := hP
      have hD : va_D A (w1 h a d to mk dm dn kd lf rt vl md sk ht) := hD
      refine lv_iand hx hb dX1_ofTwo_60 ?_
      refine lv_iload hx hb dX1_ofTwo_61 (lv_at hl 1 rfl) ?_
      refine lv_iand hx hb dX1_ofTwo_63 ?_
      refine fr_calli (As := [.int (fr_no p3), .int (((fr_no p3) &&& (fr_no p2)) &&& (fr_sm to dm dn ((255 : Int32))))]) (rest := []) ⟨hx, hb, hml, hown, hts⟩ (met1_coming l G h a d _ to mk dm dn kd lf rt vl md sk ht (fr_no p3) (((fr_no p3) &&& (fr_no p2)) &&& (fr_sm to dm dn ((255 : Int32))))) (cwV 2 hts (lw_V q303 q305 qs22 q28 q306) rfl rfl rfl (by decide +kernel) ⟨Nat.le_of_ble_eq_true rfl, Nat.le_of_ble_eq_true rfl⟩) (va_recv hK hP (ci := 1) (q0 := 0) rfl rfl) hK hP hD hS hA rfl hl.1 rfl (Nat.le_of_ble_eq_true rfl) dX1_ofTwo_64 ⟨Nat.le_refl _, Nat.le_refl _⟩ (fun r_6 u_6 H locs hw_6 hP hD hS => ?_)
      have hw_6 : r_6 = fr_bk to (fr_no p3) (((fr_no p3) &&& (fr_no p2)) &&& (fr_sm to dm dn ((255 : Int32)))) 8 := hw_6
      subst hw_6
      have hP : va_P G vwCl (w1 h a d to mk dm dn kd lf rt vl md sk ht) H := hP
      have hD : va_D A (w1 h a d to mk dm dn kd lf rt vl md sk ht) := hD
      refine lv_istore (lv' := [(6, .int (fr_bk to (fr_no p3) (((fr_no p3) &&& (fr_no p2)) &&& (fr_sm to dm dn ((255 : Int32)))) 8)), (5, .int (fr_no p3)), (4, .int (fr_sm to dm dn ((255 : Int32)))), (0, .ref (h)), (1, .int (p1)), (2, .int (p2)), (3, .int (p3))]) hx hb dX1_ofTwo_67 hl (by decide) rfl (fun ls hl => ?_)
      refine lv_sipush (v := (255 : Int32)) hx hb dX1_ofTwo_69 (by decide) ?_
      refine lv_iload hx hb dX1_ofTwo_72 (lv_at hl 0 rfl) ?_
      refine lv_iconst (v := (-1 : Int32)) hx hb dX1_ofTwo_74 (by decide) ?_
      refine lv_ixor hx hb dX1_ofTwo_75 ?_
      refine lv_iand hx hb dX1_ofTwo_76 ?_
      refine lv_aload_n hx hb dX1_ofTwo_77 rfl (lv_at hl 3 rfl) ?_
      refine lv_iload hx hb dX1_ofTwo_78 (lv_at hl 1 rfl) ?_
      refine fr_calli (As := [.int (fr_no p3)]) (rest := [.int (((255 : Int32)) &&& ((fr_bk to (fr_no p3) (((fr_no p3) &&& (fr_no p2)) &&& (fr_sm to dm dn ((255 : Int32)))) 8) ^^^ ((-1 : Int32))))]) ⟨hx, hb, hml, hown, hts⟩ (met1_staying l G h a d _ to mk dm dn kd lf rt vl md sk ht (fr_no p3) hdn) (cwV 1 hts (lw_V q295 q297 qs20 q28 q298) rfl rfl rfl (by decide +kernel) ⟨Nat.le_of_ble_eq_true rfl, Nat.le_of_ble_eq_true rfl⟩) (va_recv hK hP (ci := 1) (q0 := 0) rfl rfl) hK hP hD hS hA rfl hl.1 rfl (Nat.le_of_ble_eq_true rfl) dX1_ofTwo_80 ⟨Nat.le_refl _, Nat.le_refl _⟩ (fun r_7 u_7 H locs hw_7 hP hD hS => ?_)
      have hw_7 : r_7 = fr_sm to dm dn (fr_no p3) := hw_7
      subst hw_7
      have hP : va_P G vwCl (w1 h a d to mk dm dn kd lf rt vl md sk ht) H := hP
      have hD : va_D A (w1 h a d to mk dm dn kd lf rt vl md sk ht) := hD
      refine lv_iconst (v := (-1 : Int32)) hx hb dX1_ofTwo_83 (by decide) ?_
      refine lv_ixor hx hb dX1_ofTwo_84 ?_
      refine lv_iand hx hb dX1_ofTwo_85 ?_
      exact fr_reti () hx hb hr hlocks hK hP hD hS (by rw [fr_t1, if_neg (fr_ge c_1), if_neg c_3]; first | done | rfl) dX1_ofTwo_86
    · refine lv_aload_n hx hb dX1_ofTwo_33 rfl (lv_at hl 1 rfl) ?_
      refine lv_iload_n hx hb dX1_ofTwo_34 rfl (lv_at hl 3 rfl) ?_
      refine lv_iload_n hx hb dX1_ofTwo_35 rfl (lv_at hl 4 rfl) ?_
      refine lv_iload hx hb dX1_ofTwo_36 (lv_at hl 0 rfl) ?_
      refine lv_iand hx hb dX1_ofTwo_38 ?_
      refine fr_calli (As := [.int (p2), .int ((p3) &&& (fr_sm to dm dn ((255 : Int32))))]) (rest := []) ⟨hx, hb, hml, hown, hts⟩ (met1_coming l G h a d _ to mk dm dn kd lf rt vl md sk ht p2 ((p3) &&& (fr_sm to dm dn ((255 : Int32))))) (cwV 2 hts (lw_V q303 q305 qs22 q28 q306) rfl rfl rfl (by decide +kernel) ⟨Nat.le_of_ble_eq_true rfl, Nat.le_of_ble_eq_true rfl⟩) (va_recv hK hP (ci := 1) (q0 := 0) rfl rfl) hK hP hD hS hA rfl hl.1 rfl (Nat.le_of_ble_eq_true rfl) dX1_ofTwo_39 ⟨Nat.le_refl _, Nat.le_refl _⟩ (fun r_8 u_8 H locs hw_8 hP hD hS => ?_)
      have hw_8 : r_8 = fr_bk to p2 ((p3) &&& (fr_sm to dm dn ((255 : Int32)))) 8 := hw_8
      subst hw_8
      have hP : va_P G vwCl (w1 h a d to mk dm dn kd lf rt vl md sk ht) H := hP
      have hD : va_D A (w1 h a d to mk dm dn kd lf rt vl md sk ht) := hD
      exact fr_reti () hx hb hr hlocks hK hP hD hS (by rw [fr_t1, if_neg (fr_ge c_1), if_pos c_3]; first | done | rfl) dX1_ofTwo_42
  · refine lv_iload_n hx hb dX1_ofTwo_5 rfl (lv_at hl 1 rfl) ?_
    refine lv_if_ne (tgt := 15) hx hb dX1_ofTwo_6 (by decide) (fun c_9 => ?_) (fun c_9 => ?_)
    · refine lv_iload_n hx hb dX1_ofTwo_15 rfl (lv_at hl 2 rfl) ?_
      refine lv_iload_n hx hb dX1_ofTwo_16 rfl (lv_at hl 3 rfl) ?_
      refine lv_ior hx hb dX1_ofTwo_17 ?_
      exact fr_reti () hx hb hr hlocks hK hP hD hS (by rw [fr_t1, if_pos (fr_nle c_1), if_neg c_9]; first | done | rfl) dX1_ofTwo_18
    · refine lv_iload_n hx hb dX1_ofTwo_9 rfl (lv_at hl 2 rfl) ?_
      refine lv_iload_n hx hb dX1_ofTwo_10 rfl (lv_at hl 3 rfl) ?_
      refine lv_iand hx hb dX1_ofTwo_11 ?_
      refine lv_goto (tgt := 18) hx hb dX1_ofTwo_12 (by decide) ?_
      exact fr_reti () hx hb hr hlocks hK hP hD hS (by rw [fr_t1, if_pos (fr_nle c_1), if_pos c_9]; first | done | rfl) dX1_ofTwo_18
set_option maxHeartbeats 4000000 in
theorem met1_findSets (l : Launch) (G : va_G) (h : Nat) (a : Nat → Nat) (d : ClassId) (sz : Nat) (to : Nat → Int32) (mk : Nat → Int32) (dm : Nat → Int32) (dn : Nat) (kd : Nat → Int32) (lf : Nat → Int32) (rt : Nat → Int32) (vl : Nat → Int32) (md : Nat) (sk : Nat → Int32) (ht : Nat) (hdn : dn ≤ 3) (hmd : md ≤ 20) (hwf : ∀ i, i < md → (kd i ≤ 19 → vp_in (lf i) 20 ∧ vp_in (rt i) 20) ∧ (¬ kd i ≤ 19 → vp_in (kd i - 20) 4)) : fr_V l yX1_findSets cX1_findSets 3 ({ frames := 4, cells := 0, slots := 0, locals := 98 } : Room) [.ref (h)] G d sz (w1 h a d to mk dm dn kd lf rt vl md sk ht) (fun (u : Unit) => True) (fun (u : Unit) => (w1 h a d to mk dm dn kd lf rt (fr_v1 to mk (fr_sm to dm dn) kd lf rt vl md) md sk ht)) := by
  refine fr_startV RX1 rfl (by decide +kernel) (Nat.le_of_ble_eq_true rfl) ?_
  intro p e s m below meth c A ls hx hb hr hlocks hml hown hts hA hK hP hD hS hl
  have hl : lv_has ls 3 [(0, .ref (h))] := hl
  refine lv_iconst (v := (0 : Int32)) hx hb dX1_findSets_0 (by decide) ?_
  refine lv_istore_n (lv' := [(1, .int ((0 : Int32))), (0, .ref (h))]) hx hb dX1_findSets_1 rfl hl (by decide) rfl (fun ls hl => ?_)
  refine fr_for (I := fun (i : Nat) (H : Heap) (locs : List Loc) (ls : Array Slot) => va_P G vwCl (w1 h a d to mk dm dn kd lf rt (fr_v1 to mk (fr_sm to dm dn) kd lf rt vl i) md sk ht) H ∧ va_D A (w1 h a d to mk dm dn kd lf rt (fr_v1 to mk (fr_sm to dm dn) kd lf rt vl i) md sk ht) ∧ va_S A s.heap H locs ∧ lv_has ls 3 [(1, .int (nI (i))), (0, .ref (h))]) md ?_ ?_ 0 (Nat.zero_le _) ⟨hP, hD, hS, lv_sub hl [0, 1] rfl⟩
  · intro H locs ls hI
    obtain ⟨hP, hD, hS, hl⟩ := hI
    refine lv_iload_n hx hb dX1_findSets_2 rfl (lv_at hl 0 rfl) ?_
    refine lv_aload_n hx hb dX1_findSets_3 rfl (lv_at hl 1 rfl) ?_
    refine va_get (D := G) (ci := 1) (v := .int (nI (md))) (C := RX1) (T := TX1) (N := 11) hx hb hts in_X1 hown hK hP 0 rfl rfl 8 (by decide) (hts _ q209) (fun _ h9 => h9) rfl dX1_findSets_4 ?_
    refine lv_icmp_ge (tgt := 114) hx hb dX1_findSets_7 (by decide) (fun _ => ?_) (fun q_ => absurd (nI_le (Nat.le_refl md) (by omega)) q_)
    exact fr_retv () hx hb hr hlocks hK hP hD hS trivial dX1_findSets_114
  · intro i hi ih_i H locs ls hI
    obtain ⟨hP, hD, hS, hl⟩ := hI
    refine lv_iload_n hx hb dX1_findSets_2 rfl (lv_at hl 0 rfl) ?_
    refine lv_aload_n hx hb dX1_findSets_3 rfl (lv_at hl 1 rfl) ?_
    refine va_get (D := G) (ci := 1) (v := .int (nI (md))) (C := RX1) (T := TX1) (N := 11) hx hb hts in_X1 hown hK hP 0 rfl rfl 8 (by decide) (hts _ q209) (fun _ h9 => h9) rfl dX1_findSets_4 ?_
    refine lv_icmp_ge (tgt := 114) hx hb dX1_findSets_7 (by decide) (fun q_ => absurd q_ (nI_ge hi (by omega))) (fun _ => ?_)
    refine lv_aload_n hx hb dX1_findSets_10 rfl (lv_at hl 1 rfl) ?_
    refine va_get (D := G) (ci := 1) (v := .ref (a 4)) (C := RX1) (T := TX1) (N := 11) hx hb hts in_X1 hown hK hP 0 rfl rfl 4 (by decide) (hts _ q205) (fun _ h9 => h9) rfl dX1_findSets_11 ?_
    refine lv_iload_n hx hb dX1_findSets_14 rfl (lv_at hl 0 rfl) ?_
    refine fr_iald hx hb hK hP 4 0 rfl rfl (by omega) (by decide) dX1_findSets_15 ?_
    refine lv_istore_n (lv' := [(2, .int (kd i)), (1, .int (nI (i))), (0, .ref (h))]) hx hb dX1_findSets_16 rfl hl (by decide) rfl (fun ls hl => ?_)
    refine lv_iload_n hx hb dX1_findSets_17 rfl (lv_at hl 0 rfl) ?_
    refine lv_bipush (v := (19 : Int32)) hx hb dX1_findSets_18 (by decide) ?_
    refine lv_icmp_le (tgt := 41) hx hb dX1_findSets_20 (by decide) (fun c_1 => ?_) (fun c_1 => ?_)
    · refine lv_iload_n hx hb dX1_findSets_41 rfl (lv_at hl 0 rfl) ?_
      refine lv_bipush (v := (9 : Int32)) hx hb dX1_findSets_42 (by decide) ?_
      refine lv_icmp_le (tgt := 86) hx hb dX1_findSets_44 (by decide) (fun c_2 => ?_) (fun c_2 => ?_)
      · refine lv_aload_n hx hb dX1_findSets_86 rfl (lv_at hl 2 rfl) ?_
        refine va_get (D := G) (ci := 1) (v := .ref (a 7)) (C := RX1) (T := TX1) (N := 11) hx hb hts in_X1 hown hK hP 0 rfl rfl 7 (by decide) (hts _ q208) (fun _ h9 => h9) rfl dX1_findSets_87 ?_
        refine lv_iload_n hx hb dX1_findSets_90 rfl (lv_at hl 1 rfl) ?_
        refine lv_aload_n hx hb dX1_findSets_91 rfl (lv_at hl 2 rfl) ?_
        refine lv_iload_n hx hb dX1_findSets_92 rfl (lv_at hl 0 rfl) ?_
        refine lv_aload_n hx hb dX1_findSets_93 rfl (lv_at hl 2 rfl) ?_
        refine va_get (D := G) (ci := 1) (v := .ref (a 7)) (C := RX1) (T := TX1) (N := 11) hx hb hts in_X1 hown hK hP 0 rfl rfl 7 (by decide) (hts _ q208) (fun _ h9 => h9) rfl dX1_findSets_94 ?_
        refine lv_aload_n hx hb dX1_findSets_97 rfl (lv_at hl 2 rfl) ?_
        refine va_get (D := G) (ci := 1) (v := .ref (a 5)) (C := RX1) (T := TX1) (N := 11) hx hb hts in_X1 hown hK hP 0 rfl rfl 5 (by decide) (hts _ q206) (fun _ h9 => h9) rfl dX1_findSets_98 ?_
        refine lv_iload_n hx hb dX1_findSets_101 rfl (lv_at hl 1 rfl) ?_
        refine fr_iald hx hb hK hP 5 0 rfl rfl (by omega) (by decide) dX1_findSets_102 ?_
        refine va_iald hx hb hK hP 7 0 rfl rfl ((hwf i hi).1 c_1).1 dX1_findSets_103 ?_
        refine fr_calli (As := [.int (kd i), .int ((fr_v1 to mk (fr_sm to dm dn) kd lf rt vl i) (lf i).toNatClampNeg)]) (rest := [.int (nI (i)), .ref (a 7)]) ⟨hx, hb, hml, hown, hts⟩ (met1_ofOne l G h a d _ to mk dm dn kd lf rt (fr_v1 to mk (fr_sm to dm dn) kd lf rt vl i) md sk ht (kd i) ((fr_v1 to mk (fr_sm to dm dn) kd lf rt vl i) (lf i).toNatClampNeg) hdn) (cwV 2 hts (lw_V q311 q313 qs24 q28 q314) rfl rfl rfl (by decide +kernel) ⟨Nat.le_of_ble_eq_true rfl, Nat.le_of_ble_eq_true rfl⟩) (va_recv hK hP (ci := 1) (q0 := 0) rfl rfl) hK hP hD hS hA rfl hl.1 rfl (Nat.le_of_ble_eq_true rfl) dX1_findSets_104 ⟨Nat.le_refl _, Nat.le_refl _⟩ (fun r_3 u_3 H locs hw_3 hP hD hS => ?_)
        have hw_3 : r_3 = fr_o1 to (fr_sm to dm dn) (kd i) ((fr_v1 to mk (fr_sm to dm dn) kd lf rt vl i) (lf i).toNatClampNeg) := hw_3
        subst hw_3
        have hP : va_P G vwCl (w1 h a d to mk dm dn kd lf rt (fr_v1 to mk (fr_sm to dm dn) kd lf rt vl i) md sk ht) H := hP
        have hD : va_D A (w1 h a d to mk dm dn kd lf rt (fr_v1 to mk (fr_sm to dm dn) kd lf rt vl i) md sk ht) := hD
        refine fr_iast hx hb hK hP hD hS 7 0 rfl rfl (by omega) (by decide) dX1_findSets_107 (fun H locs hP hD hS => ?_)
        have hP : va_P G vwCl (w1 h a d to mk dm dn kd lf rt (upd (fr_v1 to mk (fr_sm to dm dn) kd lf rt vl i) i (fr_o1 to (fr_sm to dm dn) (kd i) ((fr_v1 to mk (fr_sm to dm dn) kd lf rt vl i) (lf i).toNatClampNeg))) md sk ht) H := hP
        have hD : va_D A (w1 h a d to mk dm dn kd lf rt (upd (fr_v1 to mk (fr_sm to dm dn) kd lf rt vl i) i (fr_o1 to (fr_sm to dm dn) (kd i) ((fr_v1 to mk (fr_sm to dm dn) kd lf rt vl i) (lf i).toNatClampNeg))) md sk ht) := hD
        refine lv_iinc (v := nI (i + 1)) (lv' := [(1, .int (nI (i + 1))), (2, .int (kd i)), (0, .ref (h))]) hx hb dX1_findSets_108 hl (k := 1) rfl (nI_1 _) (by decide) rfl (fun ls hl => ?_)
        refine lv_goto (tgt := 2) hx hb dX1_findSets_111 (by decide) ?_
        have e_1 : fr_v1 to mk (fr_sm to dm dn) kd lf rt vl (i + 1) = upd (fr_v1 to mk (fr_sm to dm dn) kd lf rt vl i) i (fr_o1 to (fr_sm to dm dn) (kd i) ((fr_v1 to mk (fr_sm to dm dn) kd lf rt vl i) (lf i).toNatClampNeg)) := (by rw [fr_v1, fr_e1, if_pos c_1, if_pos c_2])
        exact ih_i _ _ _ ⟨(by rw [e_1]; exact hP), (by rw [e_1]; exact hD), hS, lv_sub hl [0, 2] rfl⟩
      · refine lv_aload_n hx hb dX1_findSets_47 rfl (lv_at hl 2 rfl) ?_
        refine va_get (D := G) (ci := 1) (v := .ref (a 7)) (C := RX1) (T := TX1) (N := 11) hx hb hts in_X1 hown hK hP 0 rfl rfl 7 (by decide) (hts _ q208) (fun _ h9 => h9) rfl dX1_findSets_48 ?_
        refine lv_iload_n hx hb dX1_findSets_51 rfl (lv_at hl 1 rfl) ?_
        refine lv_aload_n hx hb dX1_findSets_52 rfl (lv_at hl 2 rfl) ?_
        refine lv_iload_n hx hb dX1_findSets_53 rfl (lv_at hl 0 rfl) ?_
        refine lv_bipush (v := (10 : Int32)) hx hb dX1_findSets_54 (by decide) ?_
        refine lv_isub hx hb dX1_findSets_56 ?_
        refine lv_aload_n hx hb dX1_findSets_57 rfl (lv_at hl 2 rfl) ?_
        refine va_get (D := G) (ci := 1) (v := .ref (a 7)) (C := RX1) (T := TX1) (N := 11) hx hb hts in_X1 hown hK hP 0 rfl rfl 7 (by decide) (hts _ q208) (fun _ h9 => h9) rfl dX1_findSets_58 ?_
        refine lv_aload_n hx hb dX1_findSets_61 rfl (lv_at hl 2 rfl) ?_
        refine va_get (D := G) (ci := 1) (v := .ref (a 5)) (C := RX1) (T := TX1) (N := 11) hx hb hts in_X1 hown hK hP 0 rfl rfl 5 (by decide) (hts _ q206) (fun _ h9 => h9) rfl dX1_findSets_62 ?_
        refine lv_iload_n hx hb dX1_findSets_65 rfl (lv_at hl 1 rfl) ?_
        refine fr_iald hx hb hK hP 5 0 rfl rfl (by omega) (by decide) dX1_findSets_66 ?_
        refine va_iald hx hb hK hP 7 0 rfl rfl ((hwf i hi).1 c_1).1 dX1_findSets_67 ?_
        refine lv_aload_n hx hb dX1_findSets_68 rfl (lv_at hl 2 rfl) ?_
        refine va_get (D := G) (ci := 1) (v := .ref (a 7)) (C := RX1) (T := TX1) (N := 11) hx hb hts in_X1 hown hK hP 0 rfl rfl 7 (by decide) (hts _ q208) (fun _ h9 => h9) rfl dX1_findSets_69 ?_
        refine lv_aload_n hx hb dX1_findSets_72 rfl (lv_at hl 2 rfl) ?_
        refine va_get (D := G) (ci := 1) (v := .ref (a 6)) (C := RX1) (T := TX1) (N := 11) hx hb hts in_X1 hown hK hP 0 rfl rfl 6 (by decide) (hts _ q207) (fun _ h9 => h9) rfl dX1_findSets_73 ?_
        refine lv_iload_n hx hb dX1_findSets_76 rfl (lv_at hl 1 rfl) ?_
        refine fr_iald hx hb hK hP 6 0 rfl rfl (by omega) (by decide) dX1_findSets_77 ?_
        refine va_iald hx hb hK hP 7 0 rfl rfl ((hwf i hi).1 c_1).2 dX1_findSets_78 ?_
        refine fr_calli (As := [.int ((kd i) - ((10 : Int32))), .int ((fr_v1 to mk (fr_sm to dm dn) kd lf rt vl i) (lf i).toNatClampNeg), .int ((fr_v1 to mk (fr_sm to dm dn) kd lf rt vl i) (rt i).toNatClampNeg)]) (rest := [.int (nI (i)), .ref (a 7)]) ⟨hx, hb, hml, hown, hts⟩ (met1_ofTwo l G h a d _ to mk dm dn kd lf rt (fr_v1 to mk (fr_sm to dm dn) kd lf rt vl i) md sk ht ((kd i) - ((10 : Int32))) ((fr_v1 to mk (fr_sm to dm dn) kd lf rt vl i) (lf i).toNatClampNeg) ((fr_v1 to mk (fr_sm to dm dn) kd lf rt vl i) (rt i).toNatClampNeg) hdn) (cwV 3 hts (lw_V q291 q293 qs19 q28 q294) rfl rfl rfl (by decide +kernel) ⟨Nat.le_of_ble_eq_true rfl, Nat.le_of_ble_eq_true rfl⟩) (va_recv hK hP (ci := 1) (q0 := 0) rfl rfl) hK hP hD hS hA rfl hl.1 rfl (Nat.le_of_ble_eq_true rfl) dX1_findSets_79 ⟨Nat.le_refl _, Nat.le_refl _⟩ (fun r_4 u_4 H locs hw_4 hP hD hS => ?_)
        have hw_4 : r_4 = fr_t1 to (fr_sm to dm dn) ((kd i) - ((10 : Int32))) ((fr_v1 to mk (fr_sm to dm dn) kd lf rt vl i) (lf i).toNatClampNeg) ((fr_v1 to mk (fr_sm to dm dn) kd lf rt vl i) (rt i).toNatClampNeg) := hw_4
        subst hw_4
        have hP : va_P G vwCl (w1 h a d to mk dm dn kd lf rt (fr_v1 to mk (fr_sm to dm dn) kd lf rt vl i) md sk ht) H := hP
        have hD : va_D A (w1 h a d to mk dm dn kd lf rt (fr_v1 to mk (fr_sm to dm dn) kd lf rt vl i) md sk ht) := hD
        refine fr_iast hx hb hK hP hD hS 7 0 rfl rfl (by omega) (by decide) dX1_findSets_82 (fun H locs hP hD hS => ?_)
        have hP : va_P G vwCl (w1 h a d to mk dm dn kd lf rt (upd (fr_v1 to mk (fr_sm to dm dn) kd lf rt vl i) i (fr_t1 to (fr_sm to dm dn) ((kd i) - ((10 : Int32))) ((fr_v1 to mk (fr_sm to dm dn) kd lf rt vl i) (lf i).toNatClampNeg) ((fr_v1 to mk (fr_sm to dm dn) kd lf rt vl i) (rt i).toNatClampNeg))) md sk ht) H := hP
        have hD : va_D A (w1 h a d to mk dm dn kd lf rt (upd (fr_v1 to mk (fr_sm to dm dn) kd lf rt vl i) i (fr_t1 to (fr_sm to dm dn) ((kd i) - ((10 : Int32))) ((fr_v1 to mk (fr_sm to dm dn) kd lf rt vl i) (lf i).toNatClampNeg) ((fr_v1 to mk (fr_sm to dm dn) kd lf rt vl i) (rt i).toNatClampNeg))) md sk ht) := hD
        refine lv_goto (tgt := 108) hx hb dX1_findSets_83 (by decide) ?_
        refine lv_iinc (v := nI (i + 1)) (lv' := [(1, .int (nI (i + 1))), (2, .int (kd i)), (0, .ref (h))]) hx hb dX1_findSets_108 hl (k := 1) rfl (nI_1 _) (by decide) rfl (fun ls hl => ?_)
        refine lv_goto (tgt := 2) hx hb dX1_findSets_111 (by decide) ?_
        have e_1 : fr_v1 to mk (fr_sm to dm dn) kd lf rt vl (i + 1) = upd (fr_v1 to mk (fr_sm to dm dn) kd lf rt vl i) i (fr_t1 to (fr_sm to dm dn) ((kd i) - ((10 : Int32))) ((fr_v1 to mk (fr_sm to dm dn) kd lf rt vl i) (lf i).toNatClampNeg) ((fr_v1 to mk (fr_sm to dm dn) kd lf rt vl i) (rt i).toNatClampNeg)) := (by rw [fr_v1, fr_e1, if_pos c_1, if_neg c_2])
        exact ih_i _ _ _ ⟨(by rw [e_1]; exact hP), (by rw [e_1]; exact hD), hS, lv_sub hl [0, 2] rfl⟩
    · refine lv_aload_n hx hb dX1_findSets_23 rfl (lv_at hl 2 rfl) ?_
      refine va_get (D := G) (ci := 1) (v := .ref (a 7)) (C := RX1) (T := TX1) (N := 11) hx hb hts in_X1 hown hK hP 0 rfl rfl 7 (by decide) (hts _ q208) (fun _ h9 => h9) rfl dX1_findSets_24 ?_
      refine lv_iload_n hx hb dX1_findSets_27 rfl (lv_at hl 1 rfl) ?_
      refine lv_aload_n hx hb dX1_findSets_28 rfl (lv_at hl 2 rfl) ?_
      refine va_get (D := G) (ci := 1) (v := .ref (a 1)) (C := RX1) (T := TX1) (N := 11) hx hb hts in_X1 hown hK hP 0 rfl rfl 1 (by decide) (hts _ q202) (fun _ h9 => h9) rfl dX1_findSets_29 ?_
      refine lv_iload_n hx hb dX1_findSets_32 rfl (lv_at hl 0 rfl) ?_
      refine lv_bipush (v := (20 : Int32)) hx hb dX1_findSets_33 (by decide) ?_
      refine lv_isub hx hb dX1_findSets_35 ?_
      refine va_iald hx hb hK hP 2 0 rfl rfl ((hwf i hi).2 c_1) dX1_findSets_36 ?_
      refine fr_iast hx hb hK hP hD hS 7 0 rfl rfl (by omega) (by decide) dX1_findSets_37 (fun H locs hP hD hS => ?_)
      have hP : va_P G vwCl (w1 h a d to mk dm dn kd lf rt (upd (fr_v1 to mk (fr_sm to dm dn) kd lf rt vl i) i (mk ((kd i) - ((20 : Int32))).toNatClampNeg)) md sk ht) H := hP
      have hD : va_D A (w1 h a d to mk dm dn kd lf rt (upd (fr_v1 to mk (fr_sm to dm dn) kd lf rt vl i) i (mk ((kd i) - ((20 : Int32))).toNatClampNeg)) md sk ht) := hD
      refine lv_goto (tgt := 108) hx hb dX1_findSets_38 (by decide) ?_
      refine lv_iinc (v := nI (i + 1)) (lv' := [(1, .int (nI (i + 1))), (2, .int (kd i)), (0, .ref (h))]) hx hb dX1_findSets_108 hl (k := 1) rfl (nI_1 _) (by decide) rfl (fun ls hl => ?_)
      refine lv_goto (tgt := 2) hx hb dX1_findSets_111 (by decide) ?_
      have e_1 : fr_v1 to mk (fr_sm to dm dn) kd lf rt vl (i + 1) = upd (fr_v1 to mk (fr_sm to dm dn) kd lf rt vl i) i (mk ((kd i) - ((20 : Int32))).toNatClampNeg) := (by rw [fr_v1, fr_e1, if_neg c_1])
      exact ih_i _ _ _ ⟨(by rw [e_1]; exact hP), (by rw [e_1]; exact hD), hS, lv_sub hl [0, 2] rfl⟩
end
section
/-! FairRunsModel: holds .. knots -/
set_option maxRecDepth 100000
set_option maxHeartbeats 4000000 in
theorem met1_holds (l : Launch) (G : va_G) (h : Nat) (a : Nat → Nat) (d : ClassId) (sz : Nat) (to : Nat → Int32) (mk : Nat → Int32) (dm : Nat → Int32) (dn : Nat) (kd : Nat → Int32) (lf : Nat → Int32) (rt : Nat → Int32) (vl : Nat → Int32) (md : Nat) (sk : Nat → Int32) (ht : Nat) (hdn : dn ≤ 3) (hmd : md ≤ 20) (hht : ht ≤ 6) (hsk : ∀ j, j < ht → ∃ k, k < md ∧ sk j = nI k) (hwf : ∀ i, i < md → (kd i ≤ 19 → vp_in (lf i) 20 ∧ vp_in (rt i) 20) ∧ (¬ kd i ≤ 19 → vp_in (kd i - 20) 4)) : fr_I l yX1_holds cX1_holds 1 (some .int) ({ frames := 5, cells := 0, slots := 0, locals := 120 } : Room) [.ref (h)] G d sz (w1 h a d to mk dm dn kd lf rt vl md sk ht) (fun (r : Int32) (u : Nat → Int32) => r = if ht = 0 then -4 else fr_v1 to mk (fr_sm to dm dn) kd lf rt vl md (sk (ht - 1)).toNatClampNeg) (fun (u : Nat → Int32) => (w1 h a d to mk dm dn kd lf rt u md sk ht)) := by
  refine fr_startI RX1 rfl (by decide +kernel) (Nat.le_of_ble_eq_true rfl) ?_
  intro p e s m below meth c A ls hx hb hr hlocks hml hown hts hA hK hP hD hS hl
  have hl : lv_has ls 1 [(0, .ref (h))] := hl
  refine lv_aload_n hx hb dX1_holds_0 rfl (lv_at hl 0 rfl) ?_
  refine fr_callv (As := []) (rest := []) ⟨hx, hb, hml, hown, hts⟩ (met1_findSets l G h a d _ to mk dm dn kd lf rt vl md sk ht hdn hmd hwf) (cwV 0 hts (lw_V q287 q289 qs18 q28 q290) rfl rfl rfl (by decide +kernel) ⟨Nat.le_of_ble_eq_true rfl, Nat.le_of_ble_eq_true rfl⟩) (va_recv hK hP (ci := 1) (q0 := 0) rfl rfl) hK hP hD hS hA rfl hl.1 rfl (Nat.le_of_ble_eq_true rfl) dX1_holds_1 ⟨Nat.le_refl _, Nat.le_refl _⟩ (fun u_1 H locs hw_1 hP hD hS => ?_)
  have hP : va_P G vwCl (w1 h a d to mk dm dn kd lf rt (fr_v1 to mk (fr_sm to dm dn) kd lf rt vl md) md sk ht) H := hP
  have hD : va_D A (w1 h a d to mk dm dn kd lf rt (fr_v1 to mk (fr_sm to dm dn) kd lf rt vl md) md sk ht) := hD
  refine lv_aload_n hx hb dX1_holds_4 rfl (lv_at hl 0 rfl) ?_
  refine va_get (D := G) (ci := 1) (v := .int (nI (ht))) (C := RX1) (T := TX1) (N := 11) hx hb hts in_X1 hown hK hP 0 rfl rfl 10 (by decide) (hts _ q211) (fun _ h9 => h9) rfl dX1_holds_5 ?_
  refine lv_if_ne (tgt := 16) hx hb dX1_holds_8 (by decide) (fun c_2 => ?_) (fun c_2 => ?_)
  · have h0 : ht ≠ 0 := fun q => c_2 (by rw [q]; rfl)
    obtain ⟨k0, hk0, ek0⟩ := hsk (ht - 1) (by omega)
    refine lv_aload_n hx hb dX1_holds_16 rfl (lv_at hl 0 rfl) ?_
    refine va_get (D := G) (ci := 1) (v := .ref (a 7)) (C := RX1) (T := TX1) (N := 11) hx hb hts in_X1 hown hK hP 0 rfl rfl 7 (by decide) (hts _ q208) (fun _ h9 => h9) rfl dX1_holds_17 ?_
    refine lv_aload_n hx hb dX1_holds_20 rfl (lv_at hl 0 rfl) ?_
    refine va_get (D := G) (ci := 1) (v := .ref (a 9)) (C := RX1) (T := TX1) (N := 11) hx hb hts in_X1 hown hK hP 0 rfl rfl 9 (by decide) (hts _ q210) (fun _ h9 => h9) rfl dX1_holds_21 ?_
    refine lv_aload_n hx hb dX1_holds_24 rfl (lv_at hl 0 rfl) ?_
    refine va_get (D := G) (ci := 1) (v := .int (nI (ht))) (C := RX1) (T := TX1) (N := 11) hx hb hts in_X1 hown hK hP 0 rfl rfl 10 (by decide) (hts _ q211) (fun _ h9 => h9) rfl dX1_holds_25 ?_
    refine lv_iconst (v := (1 : Int32)) hx hb dX1_holds_28 (by decide) ?_
    refine lv_isub hx hb dX1_holds_29 ?_
    refine fr_top (pk_sub (a := ht) (b := 1) (by omega)) ?_
    refine fr_iald hx hb hK hP 8 0 rfl rfl (by omega) (by decide) dX1_holds_30 ?_
    refine fr_top ek0 ?_
    refine fr_iald hx hb hK hP 7 0 rfl rfl (by omega) (by decide) dX1_holds_31 ?_
    exact fr_reti (fr_v1 to mk (fr_sm to dm dn) kd lf rt vl md) hx hb hr hlocks hK hP hD hS (by rw [if_neg h0, ek0, nI_clamp (by omega)]) dX1_holds_32
  · refine lv_bipush (v := (-4 : Int32)) hx hb dX1_holds_11 (by decide) ?_
    refine lv_goto (tgt := 32) hx hb dX1_holds_13 (by decide) ?_
    exact fr_reti (fr_v1 to mk (fr_sm to dm dn) kd lf rt vl md) hx hb hr hlocks hK hP hD hS (by rw [if_pos ((nI_eq (a := ht) (b := 0) (by omega) (by decide)).mp c_2)]) dX1_holds_32
set_option maxHeartbeats 4000000 in
theorem met1_alike (l : Launch) (G : va_G) (h : Nat) (a : Nat → Nat) (d : ClassId) (sz : Nat) (to : Nat → Int32) (mk : Nat → Int32) (dm : Nat → Int32) (dn : Nat) (kd : Nat → Int32) (lf : Nat → Int32) (rt : Nat → Int32) (vl : Nat → Int32) (md : Nat) (sk : Nat → Int32) (ht : Nat) (hdn : dn ≤ 3) (hmd : md ≤ 20) (hht : ht ≤ 6) (hsk : ∀ j, j < ht → ∃ k, k < md ∧ sk j = nI k) (hwf : ∀ i, i < md → (kd i ≤ 19 → vp_in (lf i) 20 ∧ vp_in (rt i) 20) ∧ (¬ kd i ≤ 19 → vp_in (kd i - 20) 4)) : fr_I l yX1_alike cX1_alike 1 (some .boolean) ({ frames := 5, cells := 0, slots := 0, locals := 120 } : Room) [.ref (h)] G d sz (w1 h a d to mk dm dn kd lf rt vl md sk ht) (fun (r : Int32) (u : Nat → Int32) => r = fr_b (decide (2 ≤ ht) && decide (fr_v1 to mk (fr_sm to dm dn) kd lf rt vl md (sk (ht - 1)).toNatClampNeg = fr_v1 to mk (fr_sm to dm dn) kd lf rt vl md (sk (ht - 2)).toNatClampNeg))) (fun (u : Nat → Int32) => (w1 h a d to mk dm dn kd lf rt u md sk ht)) := by
  refine fr_startI RX1 rfl (by decide +kernel) (Nat.le_of_ble_eq_true rfl) ?_
  intro p e s m below meth c A ls hx hb hr hlocks hml hown hts hA hK hP hD hS hl
  have hl : lv_has ls 1 [(0, .ref (h))] := hl
  refine lv_aload_n hx hb dX1_alike_0 rfl (lv_at hl 0 rfl) ?_
  refine fr_callv (As := []) (rest := []) ⟨hx, hb, hml, hown, hts⟩ (met1_findSets l G h a d _ to mk dm dn kd lf rt vl md sk ht hdn hmd hwf) (cwV 0 hts (lw_V q287 q289 qs18 q28 q290) rfl rfl rfl (by decide +kernel) ⟨Nat.le_of_ble_eq_true rfl, Nat.le_of_ble_eq_true rfl⟩) (va_recv hK hP (ci := 1) (q0 := 0) rfl rfl) hK hP hD hS hA rfl hl.1 rfl (Nat.le_of_ble_eq_true rfl) dX1_alike_1 ⟨Nat.le_refl _, Nat.le_refl _⟩ (fun u_1 H locs hw_1 hP hD hS => ?_)
  have hP : va_P G vwCl (w1 h a d to mk dm dn kd lf rt (fr_v1 to mk (fr_sm to dm dn) kd lf rt vl md) md sk ht) H := hP
  have hD : va_D A (w1 h a d to mk dm dn kd lf rt (fr_v1 to mk (fr_sm to dm dn) kd lf rt vl md) md sk ht) := hD
  refine lv_aload_n hx hb dX1_alike_4 rfl (lv_at hl 0 rfl) ?_
  refine va_get (D := G) (ci := 1) (v := .int (nI (ht))) (C := RX1) (T := TX1) (N := 11) hx hb hts in_X1 hown hK hP 0 rfl rfl 10 (by decide) (hts _ q211) (fun _ h9 => h9) rfl dX1_alike_5 ?_
  refine lv_iconst (v := (1 : Int32)) hx hb dX1_alike_8 (by decide) ?_
  refine lv_icmp_le (tgt := 51) hx hb dX1_alike_9 (by decide) (fun c_2 => ?_) (fun c_2 => ?_)
  · refine lv_iconst (v := (0 : Int32)) hx hb dX1_alike_51 (by decide) ?_
    exact fr_retz (fr_v1 to mk (fr_sm to dm dn) kd lf rt vl md) hx hb hr hlocks hK hP hD hS (Or.inl rfl) (by rw [decide_eq_false (p := 2 ≤ ht) (fun w => absurd ((nI_leI (a := ht) (b := 1) (by omega) (by decide)).mp c_2) (by omega))]; rfl) dX1_alike_52
  · have h2 : 2 ≤ ht := Nat.not_le.mp (fun q => c_2 (nI_le (b := 1) q (by decide)))
    obtain ⟨ka, hka, eka⟩ := hsk (ht - 1) (by omega)
    obtain ⟨kb, hkb, ekb⟩ := hsk (ht - 2) (by omega)
    refine lv_aload_n hx hb dX1_alike_12 rfl (lv_at hl 0 rfl) ?_
    refine va_get (D := G) (ci := 1) (v := .ref (a 7)) (C := RX1) (T := TX1) (N := 11) hx hb hts in_X1 hown hK hP 0 rfl rfl 7 (by decide) (hts _ q208) (fun _ h9 => h9) rfl dX1_alike_13 ?_
    refine lv_aload_n hx hb dX1_alike_16 rfl (lv_at hl 0 rfl) ?_
    refine va_get (D := G) (ci := 1) (v := .ref (a 9)) (C := RX1) (T := TX1) (N := 11) hx hb hts in_X1 hown hK hP 0 rfl rfl 9 (by decide) (hts _ q210) (fun _ h9 => h9) rfl dX1_alike_17 ?_
    refine lv_aload_n hx hb dX1_alike_20 rfl (lv_at hl 0 rfl) ?_
    refine va_get (D := G) (ci := 1) (v := .int (nI (ht))) (C := RX1) (T := TX1) (N := 11) hx hb hts in_X1 hown hK hP 0 rfl rfl 10 (by decide) (hts _ q211) (fun _ h9 => h9) rfl dX1_alike_21 ?_
    refine lv_iconst (v := (1 : Int32)) hx hb dX1_alike_24 (by decide) ?_
    refine lv_isub hx hb dX1_alike_25 ?_
    refine fr_top (pk_sub (a := ht) (b := 1) (by omega)) ?_
    refine fr_iald hx hb hK hP 8 0 rfl rfl (by omega) (by decide) dX1_alike_26 ?_
    refine fr_top eka ?_
    refine fr_iald hx hb hK hP 7 0 rfl rfl (by omega) (by decide) dX1_alike_27 ?_
    refine lv_aload_n hx hb dX1_alike_28 rfl (lv_at hl 0 rfl) ?_
    refine va_get (D := G) (ci := 1) (v := .ref (a 7)) (C := RX1) (T := TX1) (N := 11) hx hb hts in_X1 hown hK hP 0 rfl rfl 7 (by decide) (hts _ q208) (fun _ h9 => h9) rfl dX1_alike_29 ?_
    refine lv_aload_n hx hb dX1_alike_32 rfl (lv_at hl 0 rfl) ?_
    refine va_get (D := G) (ci := 1) (v := .ref (a 9)) (C := RX1) (T := TX1) (N := 11) hx hb hts in_X1 hown hK hP 0 rfl rfl 9 (by decide) (hts _ q210) (fun _ h9 => h9) rfl dX1_alike_33 ?_
    refine lv_aload_n hx hb dX1_alike_36 rfl (lv_at hl 0 rfl) ?_
    refine va_get (D := G) (ci := 1) (v := .int (nI (ht))) (C := RX1) (T := TX1) (N := 11) hx hb hts in_X1 hown hK hP 0 rfl rfl 10 (by decide) (hts _ q211) (fun _ h9 => h9) rfl dX1_alike_37 ?_
    refine lv_iconst (v := (2 : Int32)) hx hb dX1_alike_40 (by decide) ?_
    refine lv_isub hx hb dX1_alike_41 ?_
    refine fr_top (pk_sub (a := ht) (b := 2) (by omega)) ?_
    refine fr_iald hx hb hK hP 8 0 rfl rfl (by omega) (by decide) dX1_alike_42 ?_
    refine fr_top ekb ?_
    refine fr_iald hx hb hK hP 7 0 rfl rfl (by omega) (by decide) dX1_alike_43 ?_
    refine lv_icmp_ne (tgt := 51) hx hb dX1_alike_44 (by decide) (fun c_3 => ?_) (fun c_3 => ?_)
    · refine lv_iconst (v := (0 : Int32)) hx hb dX1_alike_51 (by decide) ?_
      exact fr_retz (fr_v1 to mk (fr_sm to dm dn) kd lf rt vl md) hx hb hr hlocks hK hP hD hS (Or.inl rfl) (by rw [eka, ekb, nI_clamp (by omega), nI_clamp (by omega), decide_eq_true h2, decide_eq_false c_3]; rfl) dX1_alike_52
    · refine lv_iconst (v := (1 : Int32)) hx hb dX1_alike_47 (by decide) ?_
      refine lv_goto (tgt := 52) hx hb dX1_alike_48 (by decide) ?_
      exact fr_retz (fr_v1 to mk (fr_sm to dm dn) kd lf rt vl md) hx hb hr hlocks hK hP hD hS (Or.inr rfl) (by rw [eka, ekb, nI_clamp (by omega), nI_clamp (by omega), decide_eq_true h2, decide_eq_true c_3]; rfl) dX1_alike_52
set_option maxHeartbeats 4000000 in
theorem met1_fair (l : Launch) (G : va_G) (h : Nat) (a : Nat → Nat) (d : ClassId) (sz : Nat) (to : Nat → Int32) (mk : Nat → Int32) (dm : Nat → Int32) (dn : Nat) (kd : Nat → Int32) (lf : Nat → Int32) (rt : Nat → Int32) (vl : Nat → Int32) (md : Nat) (sk : Nat → Int32) (ht : Nat) (hdn : dn ≤ 3) : fr_I l yX1_fair cX1_fair 1 (some .int) ({ frames := 3, cells := 0, slots := 0, locals := 72 } : Room) [.ref (h)] G d sz (w1 h a d to mk dm dn kd lf rt vl md sk ht) (fun (r : Int32) (u : Unit) => r = fr_sm to dm dn 255) (fun (u : Unit) => (w1 h a d to mk dm dn kd lf rt vl md sk ht)) := by
  refine fr_startI RX1 rfl (by decide +kernel) (Nat.le_of_ble_eq_true rfl) ?_
  intro p e s m below meth c A ls hx hb hr hlocks hml hown hts hA hK hP hD hS hl
  have hl : lv_has ls 1 [(0, .ref (h))] := hl
  refine lv_aload_n hx hb dX1_fair_0 rfl (lv_at hl 0 rfl) ?_
  refine lv_sipush (v := (255 : Int32)) hx hb dX1_fair_1 (by decide) ?_
  refine fr_calli (As := [.int ((255 : Int32))]) (rest := []) ⟨hx, hb, hml, hown, hts⟩ (met1_staying l G h a d _ to mk dm dn kd lf rt vl md sk ht ((255 : Int32)) hdn) (cwV 1 hts (lw_V q295 q297 qs20 q28 q298) rfl rfl rfl (by decide +kernel) ⟨Nat.le_of_ble_eq_true rfl, Nat.le_of_ble_eq_true rfl⟩) (va_recv hK hP (ci := 1) (q0 := 0) rfl rfl) hK hP hD hS hA rfl hl.1 rfl (Nat.le_of_ble_eq_true rfl) dX1_fair_4 ⟨Nat.le_refl _, Nat.le_refl _⟩ (fun r_1 u_1 H locs hw_1 hP hD hS => ?_)
  have hw_1 : r_1 = fr_sm to dm dn ((255 : Int32)) := hw_1
  subst hw_1
  have hP : va_P G vwCl (w1 h a d to mk dm dn kd lf rt vl md sk ht) H := hP
  have hD : va_D A (w1 h a d to mk dm dn kd lf rt vl md sk ht) := hD
  exact fr_reti () hx hb hr hlocks hK hP hD hS rfl dX1_fair_7
set_option maxHeartbeats 4000000 in
theorem met1_reach (l : Launch) (G : va_G) (h : Nat) (a : Nat → Nat) (d : ClassId) (sz : Nat) (to : Nat → Int32) (mk : Nat → Int32) (dm : Nat → Int32) (dn : Nat) (kd : Nat → Int32) (lf : Nat → Int32) (rt : Nat → Int32) (vl : Nat → Int32) (md : Nat) (sk : Nat → Int32) (ht : Nat) (p1 : Int32) : fr_I l yX1_reach cX1_reach 4 (some .int) ({ frames := 1, cells := 0, slots := 0, locals := 23 } : Room) [.ref (h), .int (p1)] G d sz (w1 h a d to mk dm dn kd lf rt vl md sk ht) (fun (r : Int32) (u : Unit) => r = if fr_in 8 p1 then fr_fw to ((1 : Int32) <<< (p1 &&& 31)) 8 else -1) (fun (u : Unit) => (w1 h a d to mk dm dn kd lf rt vl md sk ht)) := by
  refine fr_startI RX1 rfl (by decide +kernel) (Nat.le_of_ble_eq_true rfl) ?_
  intro p e s m below meth c A ls hx hb hr hlocks hml hown hts hA hK hP hD hS hl
  have hl : lv_has ls 4 [(0, .ref (h)), (1, .int (p1))] := hl
  refine lv_aload_n hx hb dX1_reach_0 rfl (lv_at hl 0 rfl) ?_
  refine lv_iload_n hx hb dX1_reach_1 rfl (lv_at hl 1 rfl) ?_
  refine fr_calli (As := [.int (p1)]) (rest := []) ⟨hx, hb, hml, hown, hts⟩ (met1_isState l G h a d _ to mk dm dn kd lf rt vl md sk ht p1) (cwV 1 hts (lw_V q239 q241 qs15 q28 q242) rfl rfl rfl (by decide +kernel) ⟨Nat.le_of_ble_eq_true rfl, Nat.le_of_ble_eq_true rfl⟩) (va_recv hK hP (ci := 1) (q0 := 0) rfl rfl) hK hP hD hS hA rfl hl.1 rfl (Nat.le_of_ble_eq_true rfl) dX1_reach_2 ⟨Nat.le_refl _, Nat.le_refl _⟩ (fun r_1 u_1 H locs hw_1 hP hD hS => ?_)
  have hw_1 : r_1 = fr_b (fr_in 8 p1) := hw_1
  subst hw_1
  have hP : va_P G vwCl (w1 h a d to mk dm dn kd lf rt vl md sk ht) H := hP
  have hD : va_D A (w1 h a d to mk dm dn kd lf rt vl md sk ht) := hD
  refine lv_if_ne (tgt := 10) hx hb dX1_reach_5 (by decide) (fun c_2 => ?_) (fun c_2 => ?_)
  · refine lv_iconst (v := (1 : Int32)) hx hb dX1_reach_10 (by decide) ?_
    refine lv_iload_n hx hb dX1_reach_11 rfl (lv_at hl 1 rfl) ?_
    refine lv_ishl hx hb dX1_reach_12 ?_
    refine lv_istore_n (lv' := [(2, .int (((1 : Int32)) <<< ((p1) &&& 31))), (0, .ref (h)), (1, .int (p1))]) hx hb dX1_reach_13 rfl hl (by decide) rfl (fun ls hl => ?_)
    refine lv_iconst (v := (0 : Int32)) hx hb dX1_reach_14 (by decide) ?_
    refine lv_istore_n (lv' := [(3, .int ((0 : Int32))), (2, .int (((1 : Int32)) <<< ((p1) &&& 31))), (0, .ref (h)), (1, .int (p1))]) hx hb dX1_reach_15 rfl hl (by decide) rfl (fun ls hl => ?_)
    refine fr_for (I := fun (i : Nat) (H : Heap) (locs : List Loc) (ls : Array Slot) => va_P G vwCl (w1 h a d to mk dm dn kd lf rt vl md sk ht) H ∧ va_D A (w1 h a d to mk dm dn kd lf rt vl md sk ht) ∧ va_S A s.heap H locs ∧ lv_has ls 4 [(3, .int (nI (i))), (2, .int (fr_fw to ((1 : Int32) <<< (p1 &&& 31)) i)), (0, .ref (h)), (1, .int (p1))]) 8 ?_ ?_ 0 (Nat.zero_le _) ⟨hP, hD, hS, lv_sub hl [0, 1, 2, 3] rfl⟩
    · intro H locs ls hI
      obtain ⟨hP, hD, hS, hl⟩ := hI
      refine lv_iload_n hx hb dX1_reach_16 rfl (lv_at hl 0 rfl) ?_
      refine lv_bipush (v := (8 : Int32)) hx hb dX1_reach_17 (by decide) ?_
      refine lv_icmp_ge (tgt := 36) hx hb dX1_reach_19 (by decide) (fun _ => ?_) (fun q_ => absurd (nI_le (Nat.le_refl 8) (by decide)) q_)
      refine lv_iload_n hx hb dX1_reach_36 rfl (lv_at hl 1 rfl) ?_
      exact fr_reti () hx hb hr hlocks hK hP hD hS (by rw [if_pos (fr_b_ne c_2)]) dX1_reach_37
    · intro i hi ih_i H locs ls hI
      obtain ⟨hP, hD, hS, hl⟩ := hI
      refine lv_iload_n hx hb dX1_reach_16 rfl (lv_at hl 0 rfl) ?_
      refine lv_bipush (v := (8 : Int32)) hx hb dX1_reach_17 (by decide) ?_
      refine lv_icmp_ge (tgt := 36) hx hb dX1_reach_19 (by decide) (fun q_ => absurd q_ (nI_ge hi (by decide))) (fun _ => ?_)
      refine lv_iload_n hx hb dX1_reach_22 rfl (lv_at hl 1 rfl) ?_
      refine lv_aload_n hx hb dX1_reach_23 rfl (lv_at hl 2 rfl) ?_
      refine lv_iload_n hx hb dX1_reach_24 rfl (lv_at hl 1 rfl) ?_
      refine fr_calli (As := [.int (fr_fw to ((1 : Int32) <<< (p1 &&& 31)) i)]) (rest := [.int (fr_fw to ((1 : Int32) <<< (p1 &&& 31)) i)]) ⟨hx, hb, hml, hown, hts⟩ (met1_behind l G h a d _ to mk dm dn kd lf rt vl md sk ht (fr_fw to ((1 : Int32) <<< (p1 &&& 31)) i)) (cwV 1 hts (lw_V q327 q329 qs25 q28 q330) rfl rfl rfl (by decide +kernel) ⟨Nat.le_of_ble_eq_true rfl, Nat.le_of_ble_eq_true rfl⟩) (va_recv hK hP (ci := 1) (q0 := 0) rfl rfl) hK hP hD hS hA rfl hl.1 rfl (Nat.le_of_ble_eq_true rfl) dX1_reach_25 ⟨Nat.le_refl _, Nat.le_refl _⟩ (fun r_3 u_3 H locs hw_3 hP hD hS => ?_)
      have hw_3 : r_3 = fr_beh to (fr_fw to ((1 : Int32) <<< (p1 &&& 31)) i) 8 := hw_3
      subst hw_3
      have hP : va_P G vwCl (w1 h a d to mk dm dn kd lf rt vl md sk ht) H := hP
      have hD : va_D A (w1 h a d to mk dm dn kd lf rt vl md sk ht) := hD
      refine lv_ior hx hb dX1_reach_28 ?_
      refine lv_istore_n (lv' := [(2, .int ((fr_fw to ((1 : Int32) <<< (p1 &&& 31)) i) ||| (fr_beh to (fr_fw to ((1 : Int32) <<< (p1 &&& 31)) i) 8))), (3, .int (nI (i))), (0, .ref (h)), (1, .int (p1))]) hx hb dX1_reach_29 rfl hl (by decide) rfl (fun ls hl => ?_)
      refine lv_iinc (v := nI (i + 1)) (lv' := [(3, .int (nI (i + 1))), (2, .int ((fr_fw to ((1 : Int32) <<< (p1 &&& 31)) i) ||| (fr_beh to (fr_fw to ((1 : Int32) <<< (p1 &&& 31)) i) 8))), (0, .ref (h)), (1, .int (p1))]) hx hb dX1_reach_30 hl (k := 1) rfl (nI_1 _) (by decide) rfl (fun ls hl => ?_)
      refine lv_goto (tgt := 16) hx hb dX1_reach_33 (by decide) ?_
      have e_1 : fr_fw to ((1 : Int32) <<< (p1 &&& 31)) (i + 1) = (fr_fw to ((1 : Int32) <<< (p1 &&& 31)) i) ||| (fr_beh to (fr_fw to ((1 : Int32) <<< (p1 &&& 31)) i) 8) := rfl
      exact ih_i _ _ _ ⟨hP, hD, hS, (by rw [e_1]; exact lv_sub hl [0, 1, 2, 3] rfl)⟩
  · refine lv_iconst (v := (-1 : Int32)) hx hb dX1_reach_8 (by decide) ?_
    exact fr_reti () hx hb hr hlocks hK hP hD hS (by rw [fr_b_eq c_2]; rfl) dX1_reach_9
set_option maxHeartbeats 4000000 in
theorem met1_steps (l : Launch) (G : va_G) (h : Nat) (a : Nat → Nat) (d : ClassId) (sz : Nat) (to : Nat → Int32) (mk : Nat → Int32) (dm : Nat → Int32) (dn : Nat) (kd : Nat → Int32) (lf : Nat → Int32) (rt : Nat → Int32) (vl : Nat → Int32) (md : Nat) (sk : Nat → Int32) (ht : Nat) (p1 : Int32) (hdn : dn ≤ 3) (hmd : md ≤ 20) (hht : ht ≤ 6) (hsk : ∀ j, j < ht → ∃ k, k < md ∧ sk j = nI k) (hwf : ∀ i, i < md → (kd i ≤ 19 → vp_in (lf i) 20 ∧ vp_in (rt i) 20) ∧ (¬ kd i ≤ 19 → vp_in (kd i - 20) 4)) : fr_I l yX1_steps cX1_steps 5 (some .int) ({ frames := 6, cells := 0, slots := 0, locals := 140 } : Room) [.ref (h), .int (p1)] G d sz (w1 h a d to mk dm dn kd lf rt vl md sk ht) (fun (r : Int32) (u : Nat → Int32) => r = if fr_in 8 p1 then fr_p1 to (if ht = 0 then -4 else fr_v1 to mk (fr_sm to dm dn) kd lf rt vl md (sk (ht - 1)).toNatClampNeg) 8 0 ((1 : Int32) <<< (p1 &&& 31)) else -1) (fun (u : Nat → Int32) => (w1 h a d to mk dm dn kd lf rt u md sk ht)) := by
  refine fr_startI RX1 rfl (by decide +kernel) (Nat.le_of_ble_eq_true rfl) ?_
  intro p e s m below meth c A ls hx hb hr hlocks hml hown hts hA hK hP hD hS hl
  have hl : lv_has ls 5 [(0, .ref (h)), (1, .int (p1))] := hl
  refine lv_aload_n hx hb dX1_steps_0 rfl (lv_at hl 0 rfl) ?_
  refine lv_iload_n hx hb dX1_steps_1 rfl (lv_at hl 1 rfl) ?_
  refine fr_calli (As := [.int (p1)]) (rest := []) ⟨hx, hb, hml, hown, hts⟩ (met1_isState l G h a d _ to mk dm dn kd lf rt vl md sk ht p1) (cwV 1 hts (lw_V q239 q241 qs15 q28 q242) rfl rfl rfl (by decide +kernel) ⟨Nat.le_of_ble_eq_true rfl, Nat.le_of_ble_eq_true rfl⟩) (va_recv hK hP (ci := 1) (q0 := 0) rfl rfl) hK hP hD hS hA rfl hl.1 rfl (Nat.le_of_ble_eq_true rfl) dX1_steps_2 ⟨Nat.le_refl _, Nat.le_refl _⟩ (fun r_1 u_1 H locs hw_1 hP hD hS => ?_)
  have hw_1 : r_1 = fr_b (fr_in 8 p1) := hw_1
  subst hw_1
  have hP : va_P G vwCl (w1 h a d to mk dm dn kd lf rt vl md sk ht) H := hP
  have hD : va_D A (w1 h a d to mk dm dn kd lf rt vl md sk ht) := hD
  refine lv_if_ne (tgt := 10) hx hb dX1_steps_5 (by decide) (fun c_2 => ?_) (fun c_2 => ?_)
  · refine lv_aload_n hx hb dX1_steps_10 rfl (lv_at hl 0 rfl) ?_
    refine fr_calli (As := []) (rest := []) ⟨hx, hb, hml, hown, hts⟩ (met1_holds l G h a d _ to mk dm dn kd lf rt vl md sk ht hdn hmd hht hsk hwf) (cwV 0 hts (lw_V q335 q284 q285 q28 q286) rfl rfl rfl (by decide +kernel) ⟨Nat.le_of_ble_eq_true rfl, Nat.le_of_ble_eq_true rfl⟩) (va_recv hK hP (ci := 1) (q0 := 0) rfl rfl) hK hP hD hS hA rfl hl.1 rfl (Nat.le_of_ble_eq_true rfl) dX1_steps_11 ⟨Nat.le_refl _, Nat.le_refl _⟩ (fun r_3 u_3 H locs hw_3 hP hD hS => ?_)
    have hw_3 : r_3 = if ht = 0 then -4 else fr_v1 to mk (fr_sm to dm dn) kd lf rt vl md (sk (ht - 1)).toNatClampNeg := hw_3
    subst hw_3
    have hP : va_P G vwCl (w1 h a d to mk dm dn kd lf rt u_3 md sk ht) H := hP
    have hD : va_D A (w1 h a d to mk dm dn kd lf rt u_3 md sk ht) := hD
    refine lv_istore_n (lv' := [(2, .int (if ht = 0 then -4 else fr_v1 to mk (fr_sm to dm dn) kd lf rt vl md (sk (ht - 1)).toNatClampNeg)), (0, .ref (h)), (1, .int (p1))]) hx hb dX1_steps_14 rfl hl (by decide) rfl (fun ls hl => ?_)
    refine lv_iconst (v := (1 : Int32)) hx hb dX1_steps_15 (by decide) ?_
    refine lv_iload_n hx hb dX1_steps_16 rfl (lv_at hl 2 rfl) ?_
    refine lv_ishl hx hb dX1_steps_17 ?_
    refine lv_istore_n (lv' := [(3, .int (((1 : Int32)) <<< ((p1) &&& 31))), (2, .int (if ht = 0 then -4 else fr_v1 to mk (fr_sm to dm dn) kd lf rt vl md (sk (ht - 1)).toNatClampNeg)), (0, .ref (h)), (1, .int (p1))]) hx hb dX1_steps_18 rfl hl (by decide) rfl (fun ls hl => ?_)
    refine lv_iconst (v := (0 : Int32)) hx hb dX1_steps_19 (by decide) ?_
    refine lv_istore (lv' := [(4, .int ((0 : Int32))), (3, .int (((1 : Int32)) <<< ((p1) &&& 31))), (2, .int (if ht = 0 then -4 else fr_v1 to mk (fr_sm to dm dn) kd lf rt vl md (sk (ht - 1)).toNatClampNeg)), (0, .ref (h)), (1, .int (p1))]) hx hb dX1_steps_20 hl (by decide) rfl (fun ls hl => ?_)
    refine fr_for (I := fun (i : Nat) (H : Heap) (locs : List Loc) (ls : Array Slot) => ∃ (x : Int32), (fr_p1 to (if ht = 0 then -4 else fr_v1 to mk (fr_sm to dm dn) kd lf rt vl md (sk (ht - 1)).toNatClampNeg) 8 0 ((1 : Int32) <<< (p1 &&& 31)) = fr_p1 to (if ht = 0 then -4 else fr_v1 to mk (fr_sm to dm dn) kd lf rt vl md (sk (ht - 1)).toNatClampNeg) (8 - i) i x) ∧ va_P G vwCl (w1 h a d to mk dm dn kd lf rt u_3 md sk ht) H ∧ va_D A (w1 h a d to mk dm dn kd lf rt u_3 md sk ht) ∧ va_S A s.heap H locs ∧ lv_has ls 5 [(4, .int (nI (i))), (3, .int (x)), (2, .int ((if ht = 0 then -4 else fr_v1 to mk (fr_sm to dm dn) kd lf rt vl md (sk (ht - 1)).toNatClampNeg))), (0, .ref (h)), (1, .int (p1))]) 8 ?_ ?_ 0 (Nat.zero_le _) ⟨(((1 : Int32) <<< (p1 &&& 31))), rfl, hP, hD, hS, lv_sub hl [0, 1, 2, 3, 4] rfl⟩
    · intro H locs ls hI
      obtain ⟨x, hq, hP, hD, hS, hl⟩ := hI
      refine lv_iload hx hb dX1_steps_22 (lv_at hl 0 rfl) ?_
      refine lv_bipush (v := (8 : Int32)) hx hb dX1_steps_24 (by decide) ?_
      refine lv_icmp_ge (tgt := 56) hx hb dX1_steps_26 (by decide) (fun _ => ?_) (fun q_ => absurd (nI_le (Nat.le_refl 8) (by decide)) q_)
      refine lv_bipush (v := (-4 : Int32)) hx hb dX1_steps_56 (by decide) ?_
      exact fr_reti u_3 hx hb hr hlocks hK hP hD hS (by rw [if_pos (fr_b_ne c_2), hq]; rfl) dX1_steps_58
    · intro i hi ih_i H locs ls hI
      obtain ⟨x, hq, hP, hD, hS, hl⟩ := hI
      refine lv_iload hx hb dX1_steps_22 (lv_at hl 0 rfl) ?_
      refine lv_bipush (v := (8 : Int32)) hx hb dX1_steps_24 (by decide) ?_
      refine lv_icmp_ge (tgt := 56) hx hb dX1_steps_26 (by decide) (fun q_ => absurd q_ (nI_ge hi (by decide))) (fun _ => ?_)
      refine lv_iload_n hx hb dX1_steps_29 rfl (lv_at hl 2 rfl) ?_
      refine lv_if_lt (tgt := 56) hx hb dX1_steps_30 (by decide) (fun c_4 => ?_) (fun c_4 => ?_)
      · refine lv_bipush (v := (-4 : Int32)) hx hb dX1_steps_56 (by decide) ?_
        exact fr_reti u_3 hx hb hr hlocks hK hP hD hS (by rw [if_pos (fr_b_ne c_2), hq, show 8 - i = (7 - i) + 1 by omega, fr_p1, if_pos c_4]) dX1_steps_58
      · refine lv_iload_n hx hb dX1_steps_33 rfl (lv_at hl 1 rfl) ?_
        refine lv_iload_n hx hb dX1_steps_34 rfl (lv_at hl 2 rfl) ?_
        refine lv_iand hx hb dX1_steps_35 ?_
        refine lv_if_eq (tgt := 42) hx hb dX1_steps_36 (by decide) (fun c_5 => ?_) (fun c_5 => ?_)
        · refine lv_iload_n hx hb dX1_steps_42 rfl (lv_at hl 1 rfl) ?_
          refine lv_aload_n hx hb dX1_steps_43 rfl (lv_at hl 3 rfl) ?_
          refine lv_iload_n hx hb dX1_steps_44 rfl (lv_at hl 1 rfl) ?_
          refine fr_calli (As := [.int (x)]) (rest := [.int (x)]) ⟨hx, hb, hml, hown, hts⟩ (met1_behind l G h a d _ to mk dm dn kd lf rt u_3 md sk ht x) (cwV 1 hts (lw_V q327 q329 qs25 q28 q330) rfl rfl rfl (by decide +kernel) ⟨Nat.le_of_ble_eq_true rfl, Nat.le_of_ble_eq_true rfl⟩) (va_recv hK hP (ci := 1) (q0 := 0) rfl rfl) hK hP hD hS hA rfl hl.1 rfl (Nat.le_of_ble_eq_true rfl) dX1_steps_45 ⟨Nat.le_refl _, Nat.le_refl _⟩ (fun r_6 u_6 H locs hw_6 hP hD hS => ?_)
          have hw_6 : r_6 = fr_beh to x 8 := hw_6
          subst hw_6
          have hP : va_P G vwCl (w1 h a d to mk dm dn kd lf rt u_3 md sk ht) H := hP
          have hD : va_D A (w1 h a d to mk dm dn kd lf rt u_3 md sk ht) := hD
          refine lv_ior hx hb dX1_steps_48 ?_
          refine lv_istore_n (lv' := [(3, .int ((x) ||| (fr_beh to x 8))), (4, .int (nI (i))), (2, .int ((if ht = 0 then -4 else fr_v1 to mk (fr_sm to dm dn) kd lf rt vl md (sk (ht - 1)).toNatClampNeg))), (0, .ref (h)), (1, .int (p1))]) hx hb dX1_steps_49 rfl hl (by decide) rfl (fun ls hl => ?_)
          refine lv_iinc (v := nI (i + 1)) (lv' := [(4, .int (nI (i + 1))), (3, .int ((x) ||| (fr_beh to x 8))), (2, .int ((if ht = 0 then -4 else fr_v1 to mk (fr_sm to dm dn) kd lf rt vl md (sk (ht - 1)).toNatClampNeg))), (0, .ref (h)), (1, .int (p1))]) hx hb dX1_steps_50 hl (k := 1) rfl (nI_1 _) (by decide) rfl (fun ls hl => ?_)
          refine lv_goto (tgt := 22) hx hb dX1_steps_53 (by decide) ?_
          exact ih_i _ _ _ ⟨((x) ||| (fr_beh to x 8)), (by rw [hq, show 8 - i = (8 - (i + 1)) + 1 by omega, fr_p1, if_neg c_4, if_pos c_5]), hP, hD, hS, lv_sub hl [0, 1, 2, 3, 4] rfl⟩
        · refine lv_iload hx hb dX1_steps_39 (lv_at hl 0 rfl) ?_
          exact fr_reti u_3 hx hb hr hlocks hK hP hD hS (by rw [if_pos (fr_b_ne c_2), hq, show 8 - i = (7 - i) + 1 by omega, fr_p1, if_neg c_4, if_neg c_5]) dX1_steps_41
  · refine lv_iconst (v := (-1 : Int32)) hx hb dX1_steps_8 (by decide) ?_
    exact fr_reti vl hx hb hr hlocks hK hP hD hS (by rw [fr_b_eq c_2]; rfl) dX1_steps_9
set_option maxHeartbeats 4000000 in
theorem met1_knots (l : Launch) (G : va_G) (h : Nat) (a : Nat → Nat) (d : ClassId) (sz : Nat) (to : Nat → Int32) (mk : Nat → Int32) (dm : Nat → Int32) (dn : Nat) (kd : Nat → Int32) (lf : Nat → Int32) (rt : Nat → Int32) (vl : Nat → Int32) (md : Nat) (sk : Nat → Int32) (ht : Nat) : fr_I l yX1_knots cX1_knots 7 (some .int) ({ frames := 2, cells := 0, slots := 0, locals := 47 } : Room) [.ref (h)] G d sz (w1 h a d to mk dm dn kd lf rt vl md sk ht) (fun (r : Int32) (u : Unit) => r = nI (fr_k1 to 8)) (fun (u : Unit) => (w1 h a d to mk dm dn kd lf rt vl md sk ht)) := by
  refine fr_startI RX1 rfl (by decide +kernel) (Nat.le_of_ble_eq_true rfl) ?_
  intro p e s m below meth c A ls hx hb hr hlocks hml hown hts hA hK hP hD hS hl
  have hl : lv_has ls 7 [(0, .ref (h))] := hl
  refine lv_iconst (v := (0 : Int32)) hx hb dX1_knots_0 (by decide) ?_
  refine lv_istore_n (lv' := [(1, .int ((0 : Int32))), (0, .ref (h))]) hx hb dX1_knots_1 rfl hl (by decide) rfl (fun ls hl => ?_)
  refine lv_iconst (v := (0 : Int32)) hx hb dX1_knots_2 (by decide) ?_
  refine lv_istore_n (lv' := [(2, .int ((0 : Int32))), (1, .int ((0 : Int32))), (0, .ref (h))]) hx hb dX1_knots_3 rfl hl (by decide) rfl (fun ls hl => ?_)
  refine fr_for (I := fun (i : Nat) (H : Heap) (locs : List Loc) (ls : Array Slot) => va_P G vwCl (w1 h a d to mk dm dn kd lf rt vl md sk ht) H ∧ va_D A (w1 h a d to mk dm dn kd lf rt vl md sk ht) ∧ va_S A s.heap H locs ∧ lv_has ls 7 [(2, .int (nI (i))), (1, .int (nI (fr_k1 to i))), (0, .ref (h))]) 8 ?_ ?_ 0 (Nat.zero_le _) ⟨hP, hD, hS, lv_sub hl [0, 1, 2] rfl⟩
  · intro H locs ls hI
    obtain ⟨hP, hD, hS, hl⟩ := hI
    refine lv_iload_n hx hb dX1_knots_4 rfl (lv_at hl 0 rfl) ?_
    refine lv_bipush (v := (8 : Int32)) hx hb dX1_knots_5 (by decide) ?_
    refine lv_icmp_ge (tgt := 102) hx hb dX1_knots_7 (by decide) (fun _ => ?_) (fun q_ => absurd (nI_le (Nat.le_refl 8) (by decide)) q_)
    refine lv_iload_n hx hb dX1_knots_102 rfl (lv_at hl 1 rfl) ?_
    exact fr_reti () hx hb hr hlocks hK hP hD hS rfl dX1_knots_103
  · intro i hi ih_i H locs ls hI
    obtain ⟨hP, hD, hS, hl⟩ := hI
    refine lv_iload_n hx hb dX1_knots_4 rfl (lv_at hl 0 rfl) ?_
    refine lv_bipush (v := (8 : Int32)) hx hb dX1_knots_5 (by decide) ?_
    refine lv_icmp_ge (tgt := 102) hx hb dX1_knots_7 (by decide) (fun q_ => absurd q_ (nI_ge hi (by decide))) (fun _ => ?_)
    refine lv_aload_n hx hb dX1_knots_10 rfl (lv_at hl 2 rfl) ?_
    refine lv_iconst (v := (1 : Int32)) hx hb dX1_knots_11 (by decide) ?_
    refine lv_iload_n hx hb dX1_knots_12 rfl (lv_at hl 0 rfl) ?_
    refine lv_ishl hx hb dX1_knots_13 ?_
    refine fr_calli (As := [.int (((1 : Int32)) <<< ((nI (i)) &&& 31))]) (rest := []) ⟨hx, hb, hml, hown, hts⟩ (met1_behind l G h a d _ to mk dm dn kd lf rt vl md sk ht (((1 : Int32)) <<< ((nI (i)) &&& 31))) (cwV 1 hts (lw_V q327 q329 qs25 q28 q330) rfl rfl rfl (by decide +kernel) ⟨Nat.le_of_ble_eq_true rfl, Nat.le_of_ble_eq_true rfl⟩) (va_recv hK hP (ci := 1) (q0 := 0) rfl rfl) hK hP hD hS hA rfl hl.1 rfl (Nat.le_of_ble_eq_true rfl) dX1_knots_14 ⟨Nat.le_refl _, Nat.le_refl _⟩ (fun r_1 u_1 H locs hw_1 hP hD hS => ?_)
    have hw_1 : r_1 = fr_beh to (((1 : Int32)) <<< ((nI (i)) &&& 31)) 8 := hw_1
    subst hw_1
    have hP : va_P G vwCl (w1 h a d to mk dm dn kd lf rt vl md sk ht) H := hP
    have hD : va_D A (w1 h a d to mk dm dn kd lf rt vl md sk ht) := hD
    refine lv_istore_n (lv' := [(3, .int (fr_beh to (((1 : Int32)) <<< ((nI (i)) &&& 31)) 8)), (2, .int (nI (i))), (1, .int (nI (fr_k1 to i))), (0, .ref (h))]) hx hb dX1_knots_17 rfl hl (by decide) rfl (fun ls hl => ?_)
    refine lv_iload_n hx hb dX1_knots_18 rfl (lv_at hl 0 rfl) ?_
    refine lv_istore (lv' := [(4, .int (fr_beh to (((1 : Int32)) <<< ((nI (i)) &&& 31)) 8)), (3, .int (fr_beh to (((1 : Int32)) <<< ((nI (i)) &&& 31)) 8)), (2, .int (nI (i))), (1, .int (nI (fr_k1 to i))), (0, .ref (h))]) hx hb dX1_knots_19 hl (by decide) rfl (fun ls hl => ?_)
    refine lv_iconst (v := (0 : Int32)) hx hb dX1_knots_21 (by decide) ?_
    refine lv_istore (lv' := [(5, .int ((0 : Int32))), (4, .int (fr_beh to (((1 : Int32)) <<< ((nI (i)) &&& 31)) 8)), (3, .int (fr_beh to (((1 : Int32)) <<< ((nI (i)) &&& 31)) 8)), (2, .int (nI (i))), (1, .int (nI (fr_k1 to i))), (0, .ref (h))]) hx hb dX1_knots_22 hl (by decide) rfl (fun ls hl => ?_)
    refine fr_for (I := fun (j : Nat) (H : Heap) (locs : List Loc) (ls : Array Slot) => va_P G vwCl (w1 h a d to mk dm dn kd lf rt vl md sk ht) H ∧ va_D A (w1 h a d to mk dm dn kd lf rt vl md sk ht) ∧ va_S A s.heap H locs ∧ lv_has ls 7 [(5, .int (nI (j))), (4, .int (fr_fw to (fr_beh to ((1 : Int32) <<< (nI i &&& 31)) 8) j)), (3, .int ((fr_beh to ((1 : Int32) <<< (nI i &&& 31)) 8))), (2, .int (nI (i))), (1, .int (nI (fr_k1 to i))), (0, .ref (h))]) 8 ?_ ?_ 0 (Nat.zero_le _) ⟨hP, hD, hS, lv_sub hl [0, 1, 2, 3, 4, 5] rfl⟩
    · intro H locs ls hI
      obtain ⟨hP, hD, hS, hl⟩ := hI
      refine lv_iload hx hb dX1_knots_24 (lv_at hl 0 rfl) ?_
      refine lv_bipush (v := (8 : Int32)) hx hb dX1_knots_26 (by decide) ?_
      refine lv_icmp_ge (tgt := 48) hx hb dX1_knots_28 (by decide) (fun _ => ?_) (fun q_ => absurd (nI_le (Nat.le_refl 8) (by decide)) q_)
      refine lv_aload_n hx hb dX1_knots_48 rfl (lv_at hl 5 rfl) ?_
      refine lv_sipush (v := (255 : Int32)) hx hb dX1_knots_49 (by decide) ?_
      refine lv_iconst (v := (1 : Int32)) hx hb dX1_knots_52 (by decide) ?_
      refine lv_iload_n hx hb dX1_knots_53 rfl (lv_at hl 3 rfl) ?_
      refine lv_ishl hx hb dX1_knots_54 ?_
      refine fr_calli (As := [.int ((255 : Int32)), .int (((1 : Int32)) <<< ((nI (i)) &&& 31))]) (rest := []) ⟨hx, hb, hml, hown, hts⟩ (met1_coming l G h a d _ to mk dm dn kd lf rt vl md sk ht ((255 : Int32)) (((1 : Int32)) <<< ((nI (i)) &&& 31))) (cwV 2 hts (lw_V q303 q305 qs22 q28 q306) rfl rfl rfl (by decide +kernel) ⟨Nat.le_of_ble_eq_true rfl, Nat.le_of_ble_eq_true rfl⟩) (va_recv hK hP (ci := 1) (q0 := 0) rfl rfl) hK hP hD hS hA rfl hl.1 rfl (Nat.le_of_ble_eq_true rfl) dX1_knots_55 ⟨Nat.le_refl _, Nat.le_refl _⟩ (fun r_2 u_2 H locs hw_2 hP hD hS => ?_)
      have hw_2 : r_2 = fr_bk to ((255 : Int32)) (((1 : Int32)) <<< ((nI (i)) &&& 31)) 8 := hw_2
      subst hw_2
      have hP : va_P G vwCl (w1 h a d to mk dm dn kd lf rt vl md sk ht) H := hP
      have hD : va_D A (w1 h a d to mk dm dn kd lf rt vl md sk ht) := hD
      refine lv_istore (lv' := [(5, .int (fr_bk to ((255 : Int32)) (((1 : Int32)) <<< ((nI (i)) &&& 31)) 8)), (4, .int (fr_fw to (fr_beh to ((1 : Int32) <<< (nI i &&& 31)) 8) 8)), (3, .int ((fr_beh to ((1 : Int32) <<< (nI i &&& 31)) 8))), (2, .int (nI (i))), (1, .int (nI (fr_k1 to i))), (0, .ref (h))]) hx hb dX1_knots_58 hl (by decide) rfl (fun ls hl => ?_)
      refine lv_iload hx hb dX1_knots_60 (lv_at hl 1 rfl) ?_
      refine lv_iload hx hb dX1_knots_62 (lv_at hl 0 rfl) ?_
      refine lv_iand hx hb dX1_knots_64 ?_
      refine fr_top (show _ = fr_kt to i from rfl) ?_
      refine lv_istore (lv' := [(6, .int (fr_kt to i)), (5, .int (fr_bk to ((255 : Int32)) (((1 : Int32)) <<< ((nI (i)) &&& 31)) 8)), (4, .int (fr_fw to (fr_beh to ((1 : Int32) <<< (nI i &&& 31)) 8) 8)), (3, .int ((fr_beh to ((1 : Int32) <<< (nI i &&& 31)) 8))), (2, .int (nI (i))), (1, .int (nI (fr_k1 to i))), (0, .ref (h))]) hx hb dX1_knots_65 hl (by decide) rfl (fun ls hl => ?_)
      refine lv_iload hx hb dX1_knots_67 (lv_at hl 0 rfl) ?_
      refine lv_iload_n hx hb dX1_knots_69 rfl (lv_at hl 4 rfl) ?_
      refine lv_ishr hx hb dX1_knots_70 ?_
      refine lv_iconst (v := (1 : Int32)) hx hb dX1_knots_71 (by decide) ?_
      refine lv_iand hx hb dX1_knots_72 ?_
      refine lv_iconst (v := (1 : Int32)) hx hb dX1_knots_73 (by decide) ?_
      refine lv_icmp_ne (tgt := 94) hx hb dX1_knots_74 (by decide) (fun c_3 => ?_) (fun c_3 => ?_)
      · refine lv_iload_n hx hb dX1_knots_94 rfl (lv_at hl 5 rfl) ?_
        refine lv_istore_n (lv' := [(1, .int (nI (fr_k1 to i))), (6, .int (fr_kt to i)), (5, .int (fr_bk to ((255 : Int32)) (((1 : Int32)) <<< ((nI (i)) &&& 31)) 8)), (4, .int (fr_fw to (fr_beh to ((1 : Int32) <<< (nI i &&& 31)) 8) 8)), (3, .int ((fr_beh to ((1 : Int32) <<< (nI i &&& 31)) 8))), (2, .int (nI (i))), (0, .ref (h))]) hx hb dX1_knots_95 rfl hl (by decide) rfl (fun ls hl => ?_)
        refine lv_iinc (v := nI (i + 1)) (lv' := [(2, .int (nI (i + 1))), (1, .int (nI (fr_k1 to i))), (6, .int (fr_kt to i)), (5, .int (fr_bk to ((255 : Int32)) (((1 : Int32)) <<< ((nI (i)) &&& 31)) 8)), (4, .int (fr_fw to (fr_beh to ((1 : Int32) <<< (nI i &&& 31)) 8) 8)), (3, .int ((fr_beh to ((1 : Int32) <<< (nI i &&& 31)) 8))), (0, .ref (h))]) hx hb dX1_knots_96 hl (k := 5) rfl (nI_1 _) (by decide) rfl (fun ls hl => ?_)
        refine lv_goto (tgt := 4) hx hb dX1_knots_99 (by decide) ?_
        have e_1 : nI (fr_k1 to (i + 1)) = nI (fr_k1 to i) := (by rw [fr_k1, if_neg c_3])
        exact ih_i _ _ _ ⟨hP, hD, hS, (by rw [e_1]; exact lv_sub hl [0, 1, 6] rfl)⟩
      · refine lv_iload hx hb dX1_knots_77 (lv_at hl 0 rfl) ?_
        refine lv_iconst (v := (1 : Int32)) hx hb dX1_knots_79 (by decide) ?_
        refine lv_iload_n hx hb dX1_knots_80 rfl (lv_at hl 4 rfl) ?_
        refine lv_ishl hx hb dX1_knots_81 ?_
        refine lv_iconst (v := (1 : Int32)) hx hb dX1_knots_82 (by decide) ?_
        refine lv_isub hx hb dX1_knots_83 ?_
        refine lv_iand hx hb dX1_knots_84 ?_
        refine lv_if_ne (tgt := 94) hx hb dX1_knots_85 (by decide) (fun c_4 => ?_) (fun c_4 => ?_)
        · refine lv_iload_n hx hb dX1_knots_94 rfl (lv_at hl 5 rfl) ?_
          refine lv_istore_n (lv' := [(1, .int (nI (fr_k1 to i))), (6, .int (fr_kt to i)), (5, .int (fr_bk to ((255 : Int32)) (((1 : Int32)) <<< ((nI (i)) &&& 31)) 8)), (4, .int (fr_fw to (fr_beh to ((1 : Int32) <<< (nI i &&& 31)) 8) 8)), (3, .int ((fr_beh to ((1 : Int32) <<< (nI i &&& 31)) 8))), (2, .int (nI (i))), (0, .ref (h))]) hx hb dX1_knots_95 rfl hl (by decide) rfl (fun ls hl => ?_)
          refine lv_iinc (v := nI (i + 1)) (lv' := [(2, .int (nI (i + 1))), (1, .int (nI (fr_k1 to i))), (6, .int (fr_kt to i)), (5, .int (fr_bk to ((255 : Int32)) (((1 : Int32)) <<< ((nI (i)) &&& 31)) 8)), (4, .int (fr_fw to (fr_beh to ((1 : Int32) <<< (nI i &&& 31)) 8) 8)), (3, .int ((fr_beh to ((1 : Int32) <<< (nI i &&& 31)) 8))), (0, .ref (h))]) hx hb dX1_knots_96 hl (k := 5) rfl (nI_1 _) (by decide) rfl (fun ls hl => ?_)
          refine lv_goto (tgt := 4) hx hb dX1_knots_99 (by decide) ?_
          have e_1 : nI (fr_k1 to (i + 1)) = nI (fr_k1 to i) := (by rw [fr_k1, if_pos c_3, if_neg c_4])
          exact ih_i _ _ _ ⟨hP, hD, hS, (by rw [e_1]; exact lv_sub hl [0, 1, 6] rfl)⟩
        · refine lv_iload_n hx hb dX1_knots_88 rfl (lv_at hl 5 rfl) ?_
          refine lv_iconst (v := (1 : Int32)) hx hb dX1_knots_89 (by decide) ?_
          refine lv_iadd hx hb dX1_knots_90 ?_
          refine fr_top (nI_add (fr_k1 to i) 1) ?_
          refine lv_goto (tgt := 95) hx hb dX1_knots_91 (by decide) ?_
          refine lv_istore_n (lv' := [(1, .int (nI ((fr_k1 to i) + 1))), (6, .int (fr_kt to i)), (5, .int (fr_bk to ((255 : Int32)) (((1 : Int32)) <<< ((nI (i)) &&& 31)) 8)), (4, .int (fr_fw to (fr_beh to ((1 : Int32) <<< (nI i &&& 31)) 8) 8)), (3, .int ((fr_beh to ((1 : Int32) <<< (nI i &&& 31)) 8))), (2, .int (nI (i))), (0, .ref (h))]) hx hb dX1_knots_95 rfl hl (by decide) rfl (fun ls hl => ?_)
          refine lv_iinc (v := nI (i + 1)) (lv' := [(2, .int (nI (i + 1))), (1, .int (nI ((fr_k1 to i) + 1))), (6, .int (fr_kt to i)), (5, .int (fr_bk to ((255 : Int32)) (((1 : Int32)) <<< ((nI (i)) &&& 31)) 8)), (4, .int (fr_fw to (fr_beh to ((1 : Int32) <<< (nI i &&& 31)) 8) 8)), (3, .int ((fr_beh to ((1 : Int32) <<< (nI i &&& 31)) 8))), (0, .ref (h))]) hx hb dX1_knots_96 hl (k := 5) rfl (nI_1 _) (by decide) rfl (fun ls hl => ?_)
          refine lv_goto (tgt := 4) hx hb dX1_knots_99 (by decide) ?_
          have e_1 : nI (fr_k1 to (i + 1)) = nI ((fr_k1 to i) + 1) := (by rw [fr_k1, if_pos c_3, if_pos c_4])
          exact ih_i _ _ _ ⟨hP, hD, hS, (by rw [e_1]; exact lv_sub hl [0, 1, 6] rfl)⟩
    · intro j hj ih_j H locs ls hI
      obtain ⟨hP, hD, hS, hl⟩ := hI
      refine lv_iload hx hb dX1_knots_24 (lv_at hl 0 rfl) ?_
      refine lv_bipush (v := (8 : Int32)) hx hb dX1_knots_26 (by decide) ?_
      refine lv_icmp_ge (tgt := 48) hx hb dX1_knots_28 (by decide) (fun q_ => absurd q_ (nI_ge hj (by decide))) (fun _ => ?_)
      refine lv_iload hx hb dX1_knots_31 (lv_at hl 1 rfl) ?_
      refine lv_aload_n hx hb dX1_knots_33 rfl (lv_at hl 5 rfl) ?_
      refine lv_iload hx hb dX1_knots_34 (lv_at hl 1 rfl) ?_
      refine fr_calli (As := [.int (fr_fw to (fr_beh to ((1 : Int32) <<< (nI i &&& 31)) 8) j)]) (rest := [.int (fr_fw to (fr_beh to ((1 : Int32) <<< (nI i &&& 31)) 8) j)]) ⟨hx, hb, hml, hown, hts⟩ (met1_behind l G h a d _ to mk dm dn kd lf rt vl md sk ht (fr_fw to (fr_beh to ((1 : Int32) <<< (nI i &&& 31)) 8) j)) (cwV 1 hts (lw_V q327 q329 qs25 q28 q330) rfl rfl rfl (by decide +kernel) ⟨Nat.le_of_ble_eq_true rfl, Nat.le_of_ble_eq_true rfl⟩) (va_recv hK hP (ci := 1) (q0 := 0) rfl rfl) hK hP hD hS hA rfl hl.1 rfl (Nat.le_of_ble_eq_true rfl) dX1_knots_36 ⟨Nat.le_refl _, Nat.le_refl _⟩ (fun r_5 u_5 H locs hw_5 hP hD hS => ?_)
      have hw_5 : r_5 = fr_beh to (fr_fw to (fr_beh to ((1 : Int32) <<< (nI i &&& 31)) 8) j) 8 := hw_5
      subst hw_5
      have hP : va_P G vwCl (w1 h a d to mk dm dn kd lf rt vl md sk ht) H := hP
      have hD : va_D A (w1 h a d to mk dm dn kd lf rt vl md sk ht) := hD
      refine lv_ior hx hb dX1_knots_39 ?_
      refine lv_istore (lv' := [(4, .int ((fr_fw to (fr_beh to ((1 : Int32) <<< (nI i &&& 31)) 8) j) ||| (fr_beh to (fr_fw to (fr_beh to ((1 : Int32) <<< (nI i &&& 31)) 8) j) 8))), (5, .int (nI (j))), (3, .int ((fr_beh to ((1 : Int32) <<< (nI i &&& 31)) 8))), (2, .int (nI (i))), (1, .int (nI (fr_k1 to i))), (0, .ref (h))]) hx hb dX1_knots_40 hl (by decide) rfl (fun ls hl => ?_)
      refine lv_iinc (v := nI (j + 1)) (lv' := [(5, .int (nI (j + 1))), (4, .int ((fr_fw to (fr_beh to ((1 : Int32) <<< (nI i &&& 31)) 8) j) ||| (fr_beh to (fr_fw to (fr_beh to ((1 : Int32) <<< (nI i &&& 31)) 8) j) 8))), (3, .int ((fr_beh to ((1 : Int32) <<< (nI i &&& 31)) 8))), (2, .int (nI (i))), (1, .int (nI (fr_k1 to i))), (0, .ref (h))]) hx hb dX1_knots_42 hl (k := 1) rfl (nI_1 _) (by decide) rfl (fun ls hl => ?_)
      refine lv_goto (tgt := 24) hx hb dX1_knots_45 (by decide) ?_
      have e_1 : fr_fw to (fr_beh to ((1 : Int32) <<< (nI i &&& 31)) 8) (j + 1) = (fr_fw to (fr_beh to ((1 : Int32) <<< (nI i &&& 31)) 8) j) ||| (fr_beh to (fr_fw to (fr_beh to ((1 : Int32) <<< (nI i &&& 31)) 8) j) 8) := rfl
      exact ih_j _ _ _ ⟨hP, hD, hS, (by rw [e_1]; exact lv_sub hl [0, 1, 2, 3, 4, 5] rfl)⟩
end
section
/-! FairRunsModel: arcs .. depth -/
set_option maxRecDepth 100000
set_option maxHeartbeats 4000000 in
theorem met1_arcs (l : Launch) (G : va_G) (h : Nat) (a : Nat → Nat) (d : ClassId) (sz : Nat) (to : Nat → Int32) (mk : Nat → Int32) (dm : Nat → Int32) (dn : Nat) (kd : Nat → Int32) (lf : Nat → Int32) (rt : Nat → Int32) (vl : Nat → Int32) (md : Nat) (sk : Nat → Int32) (ht : Nat) (p1 : Int32) (p2 : Int32) : fr_I l yX1_arcs cX1_arcs 4 (some .int) ({ frames := 1, cells := 0, slots := 0, locals := 21 } : Room) [.ref (h), .int (p1), .int (p2)] G d sz (w1 h a d to mk dm dn kd lf rt vl md sk ht) (fun (r : Int32) (u : Unit) => r = (fr_arcs 8 to p1 p2).1) (fun (u : Unit) => (w1 h a d ((fr_arcs 8 to p1 p2).2) mk dm dn kd lf rt vl md sk ht)) := by
  refine fr_startI RX1 rfl (by decide +kernel) (Nat.le_of_ble_eq_true rfl) ?_
  intro p e s m below meth c A ls hx hb hr hlocks hml hown hts hA hK hP hD hS hl
  have hl : lv_has ls 4 [(0, .ref (h)), (1, .int (p1)), (2, .int (p2))] := hl
  refine lv_aload_n hx hb dX1_arcs_0 rfl (lv_at hl 0 rfl) ?_
  refine lv_iload_n hx hb dX1_arcs_1 rfl (lv_at hl 1 rfl) ?_
  refine fr_calli (As := [.int (p1)]) (rest := []) ⟨hx, hb, hml, hown, hts⟩ (met1_isState l G h a d _ to mk dm dn kd lf rt vl md sk ht p1) (cwV 1 hts (lw_V q239 q241 qs15 q28 q242) rfl rfl rfl (by decide +kernel) ⟨Nat.le_of_ble_eq_true rfl, Nat.le_of_ble_eq_true rfl⟩) (va_recv hK hP (ci := 1) (q0 := 0) rfl rfl) hK hP hD hS hA rfl hl.1 rfl (Nat.le_of_ble_eq_true rfl) dX1_arcs_2 ⟨Nat.le_refl _, Nat.le_refl _⟩ (fun r_1 u_1 H locs hw_1 hP hD hS => ?_)
  have hw_1 : r_1 = fr_b (fr_in 8 p1) := hw_1
  subst hw_1
  have hP : va_P G vwCl (w1 h a d to mk dm dn kd lf rt vl md sk ht) H := hP
  have hD : va_D A (w1 h a d to mk dm dn kd lf rt vl md sk ht) := hD
  refine lv_if_eq (tgt := 16) hx hb dX1_arcs_5 (by decide) (fun c_2 => ?_) (fun c_2 => ?_)
  · refine lv_iconst (v := (-1 : Int32)) hx hb dX1_arcs_16 (by decide) ?_
    have ew_1 : ((fr_arcs 8 to p1 p2).2) = to := (congrArg Prod.snd (fr_arcs_1 (fr_b_eq c_2)))
    exact fr_reti () hx hb hr hlocks hK (by rw [ew_1]; exact hP) (by rw [ew_1]; exact hD) hS (congrArg Prod.fst (fr_arcs_1 (fr_b_eq c_2))).symm dX1_arcs_17
  · refine lv_aload_n hx hb dX1_arcs_8 rfl (lv_at hl 0 rfl) ?_
    refine lv_iload_n hx hb dX1_arcs_9 rfl (lv_at hl 2 rfl) ?_
    refine fr_calli (As := [.int (p2)]) (rest := []) ⟨hx, hb, hml, hown, hts⟩ (met1_isSet l G h a d _ to mk dm dn kd lf rt vl md sk ht p2) (cwV 1 hts (lw_V q243 q245 qs16 q28 q246) rfl rfl rfl (by decide +kernel) ⟨Nat.le_of_ble_eq_true rfl, Nat.le_of_ble_eq_true rfl⟩) (va_recv hK hP (ci := 1) (q0 := 0) rfl rfl) hK hP hD hS hA rfl hl.1 rfl (Nat.le_of_ble_eq_true rfl) dX1_arcs_10 ⟨Nat.le_refl _, Nat.le_refl _⟩ (fun r_3 u_3 H locs hw_3 hP hD hS => ?_)
    have hw_3 : r_3 = fr_b (fr_in 256 p2) := hw_3
    subst hw_3
    have hP : va_P G vwCl (w1 h a d to mk dm dn kd lf rt vl md sk ht) H := hP
    have hD : va_D A (w1 h a d to mk dm dn kd lf rt vl md sk ht) := hD
    refine lv_if_ne (tgt := 18) hx hb dX1_arcs_13 (by decide) (fun c_4 => ?_) (fun c_4 => ?_)
    · refine lv_aload_n hx hb dX1_arcs_18 rfl (lv_at hl 0 rfl) ?_
      refine va_get (D := G) (ci := 1) (v := .ref (a 0)) (C := RX1) (T := TX1) (N := 11) hx hb hts in_X1 hown hK hP 0 rfl rfl 0 (by decide) (hts _ q201) (fun _ h9 => h9) rfl dX1_arcs_19 ?_
      refine lv_iload_n hx hb dX1_arcs_22 rfl (lv_at hl 1 rfl) ?_
      refine va_iald hx hb hK hP 1 0 rfl rfl (fr_in_vp (fr_b_ne c_2)) dX1_arcs_23 ?_
      refine lv_istore_n (lv' := [(3, .int (to (p1).toNatClampNeg)), (0, .ref (h)), (1, .int (p1)), (2, .int (p2))]) hx hb dX1_arcs_24 rfl hl (by decide) rfl (fun ls hl => ?_)
      refine lv_aload_n hx hb dX1_arcs_25 rfl (lv_at hl 1 rfl) ?_
      refine va_get (D := G) (ci := 1) (v := .ref (a 0)) (C := RX1) (T := TX1) (N := 11) hx hb hts in_X1 hown hK hP 0 rfl rfl 0 (by decide) (hts _ q201) (fun _ h9 => h9) rfl dX1_arcs_26 ?_
      refine lv_iload_n hx hb dX1_arcs_29 rfl (lv_at hl 2 rfl) ?_
      refine lv_iload_n hx hb dX1_arcs_30 rfl (lv_at hl 3 rfl) ?_
      refine va_iast hx hb hK hP hD hS 1 0 rfl rfl (fr_in_vp (fr_b_ne c_2)) dX1_arcs_31 (fun H locs hP hD hS => ?_)
      have hP : va_P G vwCl (w1 h a d (upd to (p1).toNatClampNeg (p2)) mk dm dn kd lf rt vl md sk ht) H := hP
      have hD : va_D A (w1 h a d (upd to (p1).toNatClampNeg (p2)) mk dm dn kd lf rt vl md sk ht) := hD
      refine lv_iload_n hx hb dX1_arcs_32 rfl (lv_at hl 0 rfl) ?_
      have ew_1 : ((fr_arcs 8 to p1 p2).2) = (upd to (p1).toNatClampNeg (p2)) := (congrArg Prod.snd (fr_arcs_0 (fr_b_ne c_2) (fr_b_ne c_4)))
      exact fr_reti () hx hb hr hlocks hK (by rw [ew_1]; exact hP) (by rw [ew_1]; exact hD) hS (congrArg Prod.fst (fr_arcs_0 (fr_b_ne c_2) (fr_b_ne c_4))).symm dX1_arcs_33
    · refine lv_iconst (v := (-1 : Int32)) hx hb dX1_arcs_16 (by decide) ?_
      have ew_1 : ((fr_arcs 8 to p1 p2).2) = to := (congrArg Prod.snd (fr_arcs_2 (fr_b_eq c_4)))
      exact fr_reti () hx hb hr hlocks hK (by rw [ew_1]; exact hP) (by rw [ew_1]; exact hD) hS (congrArg Prod.fst (fr_arcs_2 (fr_b_eq c_4))).symm dX1_arcs_17
set_option maxHeartbeats 4000000 in
theorem met1_mark (l : Launch) (G : va_G) (h : Nat) (a : Nat → Nat) (d : ClassId) (sz : Nat) (to : Nat → Int32) (mk : Nat → Int32) (dm : Nat → Int32) (dn : Nat) (kd : Nat → Int32) (lf : Nat → Int32) (rt : Nat → Int32) (vl : Nat → Int32) (md : Nat) (sk : Nat → Int32) (ht : Nat) (p1 : Int32) (p2 : Int32) : fr_I l yX1_mark cX1_mark 4 (some .int) ({ frames := 1, cells := 0, slots := 0, locals := 21 } : Room) [.ref (h), .int (p1), .int (p2)] G d sz (w1 h a d to mk dm dn kd lf rt vl md sk ht) (fun (r : Int32) (u : Unit) => r = (fr_arcs 4 mk p1 p2).1) (fun (u : Unit) => (w1 h a d to ((fr_arcs 4 mk p1 p2).2) dm dn kd lf rt vl md sk ht)) := by
  refine fr_startI RX1 rfl (by decide +kernel) (Nat.le_of_ble_eq_true rfl) ?_
  intro p e s m below meth c A ls hx hb hr hlocks hml hown hts hA hK hP hD hS hl
  have hl : lv_has ls 4 [(0, .ref (h)), (1, .int (p1)), (2, .int (p2))] := hl
  refine lv_iload_n hx hb dX1_mark_0 rfl (lv_at hl 1 rfl) ?_
  refine lv_if_lt (tgt := 17) hx hb dX1_mark_1 (by decide) (fun c_1 => ?_) (fun c_1 => ?_)
  · refine lv_iconst (v := (-1 : Int32)) hx hb dX1_mark_17 (by decide) ?_
    have ew_1 : ((fr_arcs 4 mk p1 p2).2) = mk := (congrArg Prod.snd (fr_arcs_1 (fr_in_neg c_1)))
    exact fr_reti () hx hb hr hlocks hK (by rw [ew_1]; exact hP) (by rw [ew_1]; exact hD) hS (congrArg Prod.fst (fr_arcs_1 (fr_in_neg c_1))).symm dX1_mark_18
  · refine lv_iload_n hx hb dX1_mark_4 rfl (lv_at hl 1 rfl) ?_
    refine lv_iconst (v := (3 : Int32)) hx hb dX1_mark_5 (by decide) ?_
    refine lv_icmp_gt (tgt := 17) hx hb dX1_mark_6 (by decide) (fun c_2 => ?_) (fun c_2 => ?_)
    · refine lv_iconst (v := (-1 : Int32)) hx hb dX1_mark_17 (by decide) ?_
      have ew_1 : ((fr_arcs 4 mk p1 p2).2) = mk := (congrArg Prod.snd (fr_arcs_1 (fr_in_big' (n := 4) (y := 3) rfl c_2)))
      exact fr_reti () hx hb hr hlocks hK (by rw [ew_1]; exact hP) (by rw [ew_1]; exact hD) hS (congrArg Prod.fst (fr_arcs_1 (fr_in_big' (n := 4) (y := 3) rfl c_2))).symm dX1_mark_18
    · refine lv_aload_n hx hb dX1_mark_9 rfl (lv_at hl 0 rfl) ?_
      refine lv_iload_n hx hb dX1_mark_10 rfl (lv_at hl 2 rfl) ?_
      refine fr_calli (As := [.int (p2)]) (rest := []) ⟨hx, hb, hml, hown, hts⟩ (met1_isSet l G h a d _ to mk dm dn kd lf rt vl md sk ht p2) (cwV 1 hts (lw_V q243 q245 qs16 q28 q246) rfl rfl rfl (by decide +kernel) ⟨Nat.le_of_ble_eq_true rfl, Nat.le_of_ble_eq_true rfl⟩) (va_recv hK hP (ci := 1) (q0 := 0) rfl rfl) hK hP hD hS hA rfl hl.1 rfl (Nat.le_of_ble_eq_true rfl) dX1_mark_11 ⟨Nat.le_refl _, Nat.le_refl _⟩ (fun r_3 u_3 H locs hw_3 hP hD hS => ?_)
      have hw_3 : r_3 = fr_b (fr_in 256 p2) := hw_3
      subst hw_3
      have hP : va_P G vwCl (w1 h a d to mk dm dn kd lf rt vl md sk ht) H := hP
      have hD : va_D A (w1 h a d to mk dm dn kd lf rt vl md sk ht) := hD
      refine lv_if_ne (tgt := 19) hx hb dX1_mark_14 (by decide) (fun c_4 => ?_) (fun c_4 => ?_)
      · refine lv_aload_n hx hb dX1_mark_19 rfl (lv_at hl 0 rfl) ?_
        refine va_get (D := G) (ci := 1) (v := .ref (a 1)) (C := RX1) (T := TX1) (N := 11) hx hb hts in_X1 hown hK hP 0 rfl rfl 1 (by decide) (hts _ q202) (fun _ h9 => h9) rfl dX1_mark_20 ?_
        refine lv_iload_n hx hb dX1_mark_23 rfl (lv_at hl 1 rfl) ?_
        refine va_iald hx hb hK hP 2 0 rfl rfl (fr_in_vp (fr_in_t' (n := 4) (y := 3) rfl c_1 (fr_nlt c_2))) dX1_mark_24 ?_
        refine lv_istore_n (lv' := [(3, .int (mk (p1).toNatClampNeg)), (0, .ref (h)), (1, .int (p1)), (2, .int (p2))]) hx hb dX1_mark_25 rfl hl (by decide) rfl (fun ls hl => ?_)
        refine lv_aload_n hx hb dX1_mark_26 rfl (lv_at hl 1 rfl) ?_
        refine va_get (D := G) (ci := 1) (v := .ref (a 1)) (C := RX1) (T := TX1) (N := 11) hx hb hts in_X1 hown hK hP 0 rfl rfl 1 (by decide) (hts _ q202) (fun _ h9 => h9) rfl dX1_mark_27 ?_
        refine lv_iload_n hx hb dX1_mark_30 rfl (lv_at hl 2 rfl) ?_
        refine lv_iload_n hx hb dX1_mark_31 rfl (lv_at hl 3 rfl) ?_
        refine va_iast hx hb hK hP hD hS 2 0 rfl rfl (fr_in_vp (fr_in_t' (n := 4) (y := 3) rfl c_1 (fr_nlt c_2))) dX1_mark_32 (fun H locs hP hD hS => ?_)
        have hP : va_P G vwCl (w1 h a d to (upd mk (p1).toNatClampNeg (p2)) dm dn kd lf rt vl md sk ht) H := hP
        have hD : va_D A (w1 h a d to (upd mk (p1).toNatClampNeg (p2)) dm dn kd lf rt vl md sk ht) := hD
        refine lv_iload_n hx hb dX1_mark_33 rfl (lv_at hl 0 rfl) ?_
        have ew_1 : ((fr_arcs 4 mk p1 p2).2) = (upd mk (p1).toNatClampNeg (p2)) := (congrArg Prod.snd (fr_arcs_0 (fr_in_t' (n := 4) (y := 3) rfl c_1 (fr_nlt c_2)) (fr_b_ne c_4)))
        exact fr_reti () hx hb hr hlocks hK (by rw [ew_1]; exact hP) (by rw [ew_1]; exact hD) hS (congrArg Prod.fst (fr_arcs_0 (fr_in_t' (n := 4) (y := 3) rfl c_1 (fr_nlt c_2)) (fr_b_ne c_4))).symm dX1_mark_34
      · refine lv_iconst (v := (-1 : Int32)) hx hb dX1_mark_17 (by decide) ?_
        have ew_1 : ((fr_arcs 4 mk p1 p2).2) = mk := (congrArg Prod.snd (fr_arcs_2 (fr_b_eq c_4)))
        exact fr_reti () hx hb hr hlocks hK (by rw [ew_1]; exact hP) (by rw [ew_1]; exact hD) hS (congrArg Prod.fst (fr_arcs_2 (fr_b_eq c_4))).symm dX1_mark_18
set_option maxHeartbeats 4000000 in
theorem met1_demand (l : Launch) (G : va_G) (h : Nat) (a : Nat → Nat) (d : ClassId) (sz : Nat) (to : Nat → Int32) (mk : Nat → Int32) (dm : Nat → Int32) (dn : Nat) (kd : Nat → Int32) (lf : Nat → Int32) (rt : Nat → Int32) (vl : Nat → Int32) (md : Nat) (sk : Nat → Int32) (ht : Nat) (p1 : Int32) (hdn : dn ≤ 3) : fr_I l yX1_demand cX1_demand 2 (some .int) ({ frames := 1, cells := 0, slots := 0, locals := 21 } : Room) [.ref (h), .int (p1)] G d sz (w1 h a d to mk dm dn kd lf rt vl md sk ht) (fun (r : Int32) (u : Unit) => r = (fr_dem dn dm p1).1) (fun (u : Unit) => (w1 h a d to mk ((fr_dem dn dm p1).2.2) ((fr_dem dn dm p1).2.1) kd lf rt vl md sk ht)) := by
  refine fr_startI RX1 rfl (by decide +kernel) (Nat.le_of_ble_eq_true rfl) ?_
  intro p e s m below meth c A ls hx hb hr hlocks hml hown hts hA hK hP hD hS hl
  have hl : lv_has ls 2 [(0, .ref (h)), (1, .int (p1))] := hl
  refine lv_aload_n hx hb dX1_demand_0 rfl (lv_at hl 0 rfl) ?_
  refine lv_iload_n hx hb dX1_demand_1 rfl (lv_at hl 1 rfl) ?_
  refine fr_calli (As := [.int (p1)]) (rest := []) ⟨hx, hb, hml, hown, hts⟩ (met1_isSet l G h a d _ to mk dm dn kd lf rt vl md sk ht p1) (cwV 1 hts (lw_V q243 q245 qs16 q28 q246) rfl rfl rfl (by decide +kernel) ⟨Nat.le_of_ble_eq_true rfl, Nat.le_of_ble_eq_true rfl⟩) (va_recv hK hP (ci := 1) (q0 := 0) rfl rfl) hK hP hD hS hA rfl hl.1 rfl (Nat.le_of_ble_eq_true rfl) dX1_demand_2 ⟨Nat.le_refl _, Nat.le_refl _⟩ (fun r_1 u_1 H locs hw_1 hP hD hS => ?_)
  have hw_1 : r_1 = fr_b (fr_in 256 p1) := hw_1
  subst hw_1
  have hP : va_P G vwCl (w1 h a d to mk dm dn kd lf rt vl md sk ht) H := hP
  have hD : va_D A (w1 h a d to mk dm dn kd lf rt vl md sk ht) := hD
  refine lv_if_ne (tgt := 10) hx hb dX1_demand_5 (by decide) (fun c_2 => ?_) (fun c_2 => ?_)
  · refine lv_aload_n hx hb dX1_demand_10 rfl (lv_at hl 0 rfl) ?_
    refine va_get (D := G) (ci := 1) (v := .int (nI (dn))) (C := RX1) (T := TX1) (N := 11) hx hb hts in_X1 hown hK hP 0 rfl rfl 3 (by decide) (hts _ q204) (fun _ h9 => h9) rfl dX1_demand_11 ?_
    refine lv_iconst (v := (3 : Int32)) hx hb dX1_demand_14 (by decide) ?_
    refine lv_icmp_ne (tgt := 21) hx hb dX1_demand_15 (by decide) (fun c_3 => ?_) (fun c_3 => ?_)
    · have hd3 : dn ≠ 3 := fun q => c_3 (by rw [q]; rfl)
      refine lv_aload_n hx hb dX1_demand_21 rfl (lv_at hl 0 rfl) ?_
      refine va_get (D := G) (ci := 1) (v := .ref (a 2)) (C := RX1) (T := TX1) (N := 11) hx hb hts in_X1 hown hK hP 0 rfl rfl 2 (by decide) (hts _ q203) (fun _ h9 => h9) rfl dX1_demand_22 ?_
      refine lv_aload_n hx hb dX1_demand_25 rfl (lv_at hl 0 rfl) ?_
      refine va_get (D := G) (ci := 1) (v := .int (nI (dn))) (C := RX1) (T := TX1) (N := 11) hx hb hts in_X1 hown hK hP 0 rfl rfl 3 (by decide) (hts _ q204) (fun _ h9 => h9) rfl dX1_demand_26 ?_
      refine lv_iload_n hx hb dX1_demand_29 rfl (lv_at hl 1 rfl) ?_
      refine fr_iast hx hb hK hP hD hS 3 0 rfl rfl (by omega) (by decide) dX1_demand_30 (fun H locs hP hD hS => ?_)
      have hP : va_P G vwCl (w1 h a d to mk (upd dm dn (p1)) dn kd lf rt vl md sk ht) H := hP
      have hD : va_D A (w1 h a d to mk (upd dm dn (p1)) dn kd lf rt vl md sk ht) := hD
      refine lv_aload_n hx hb dX1_demand_31 rfl (lv_at hl 0 rfl) ?_
      refine lv_dup hx hb dX1_demand_32 rfl ?_
      refine va_get (D := G) (ci := 1) (v := .int (nI (dn))) (C := RX1) (T := TX1) (N := 11) hx hb hts in_X1 hown hK hP 0 rfl rfl 3 (by decide) (hts _ q204) (fun _ h9 => h9) rfl dX1_demand_33 ?_
      refine lv_iconst (v := (1 : Int32)) hx hb dX1_demand_36 (by decide) ?_
      refine lv_iadd hx hb dX1_demand_37 ?_
      refine fr_top (nI_add dn 1) ?_
      refine va_put (D := G) (ci := 1) (v := .int (nI (dn + 1))) (ty := .int) (C := RX1) (T := TX1) (N := 11) hx hb hts in_X1 tyX1 tyX1_ok nmX1 hown hK hP hD hS 0 rfl rfl 3 (by decide) (hts _ q204) (fun _ h9 => h9) rfl (by decide +kernel) rfl rfl (Nat.le_of_ble_eq_true rfl) dX1_demand_38 (fun H locs hP hD hS => ?_)
      have hP : va_P G vwCl (w1 h a d to mk (upd dm dn (p1)) (dn + 1) kd lf rt vl md sk ht) H := hP
      have hD : va_D A (w1 h a d to mk (upd dm dn (p1)) (dn + 1) kd lf rt vl md sk ht) := hD
      refine lv_aload_n hx hb dX1_demand_41 rfl (lv_at hl 0 rfl) ?_
      refine va_get (D := G) (ci := 1) (v := .int (nI (dn + 1))) (C := RX1) (T := TX1) (N := 11) hx hb hts in_X1 hown hK hP 0 rfl rfl 3 (by decide) (hts _ q204) (fun _ h9 => h9) rfl dX1_demand_42 ?_
      have ew_1 : ((fr_dem dn dm p1).2.2) = (upd dm dn (p1)) := (congrArg (fun z => z.2.2) (fr_dem_0 (fr_b_ne c_2) hd3))
      have ew_2 : ((fr_dem dn dm p1).2.1) = (dn + 1) := (congrArg (fun z => z.2.1) (fr_dem_0 (fr_b_ne c_2) hd3))
      exact fr_reti () hx hb hr hlocks hK (by rw [ew_1, ew_2]; exact hP) (by rw [ew_1, ew_2]; exact hD) hS (congrArg Prod.fst (fr_dem_0 (fr_b_ne c_2) hd3)).symm dX1_demand_45
    · refine lv_bipush (v := (-2 : Int32)) hx hb dX1_demand_18 (by decide) ?_
      have ew_1 : ((fr_dem dn dm p1).2.2) = dm := (congrArg (fun z => z.2.2) (fr_dem_2 (fr_b_ne c_2) ((nI_eq (a := dn) (b := 3) (by omega) (by decide)).mp c_3)))
      have ew_2 : ((fr_dem dn dm p1).2.1) = dn := (congrArg (fun z => z.2.1) (fr_dem_2 (fr_b_ne c_2) ((nI_eq (a := dn) (b := 3) (by omega) (by decide)).mp c_3)))
      exact fr_reti () hx hb hr hlocks hK (by rw [ew_1, ew_2]; exact hP) (by rw [ew_1, ew_2]; exact hD) hS (congrArg Prod.fst (fr_dem_2 (fr_b_ne c_2) ((nI_eq (a := dn) (b := 3) (by omega) (by decide)).mp c_3))).symm dX1_demand_20
  · refine lv_iconst (v := (-1 : Int32)) hx hb dX1_demand_8 (by decide) ?_
    have ew_1 : ((fr_dem dn dm p1).2.2) = dm := (congrArg (fun z => z.2.2) (fr_dem_1 (fr_b_eq c_2)))
    have ew_2 : ((fr_dem dn dm p1).2.1) = dn := (congrArg (fun z => z.2.1) (fr_dem_1 (fr_b_eq c_2)))
    exact fr_reti () hx hb hr hlocks hK (by rw [ew_1, ew_2]; exact hP) (by rw [ew_1, ew_2]; exact hD) hS (congrArg Prod.fst (fr_dem_1 (fr_b_eq c_2))).symm dX1_demand_9
set_option maxHeartbeats 4000000 in
theorem met1_undemand (l : Launch) (G : va_G) (h : Nat) (a : Nat → Nat) (d : ClassId) (sz : Nat) (to : Nat → Int32) (mk : Nat → Int32) (dm : Nat → Int32) (dn : Nat) (kd : Nat → Int32) (lf : Nat → Int32) (rt : Nat → Int32) (vl : Nat → Int32) (md : Nat) (sk : Nat → Int32) (ht : Nat) (hdn : dn ≤ 3) : fr_I l yX1_undemand cX1_undemand 1 (some .int) ({ frames := 0, cells := 0, slots := 0, locals := 0 } : Room) [.ref (h)] G d sz (w1 h a d to mk dm dn kd lf rt vl md sk ht) (fun (r : Int32) (u : Unit) => r = (fr_und dn dm).1) (fun (u : Unit) => (w1 h a d to mk dm ((fr_und dn dm).2) kd lf rt vl md sk ht)) := by
  refine fr_startI RX1 rfl (by decide +kernel) (Nat.le_of_ble_eq_true rfl) ?_
  intro p e s m below meth c A ls hx hb hr hlocks hml hown hts hA hK hP hD hS hl
  have hl : lv_has ls 1 [(0, .ref (h))] := hl
  refine lv_aload_n hx hb dX1_undemand_0 rfl (lv_at hl 0 rfl) ?_
  refine va_get (D := G) (ci := 1) (v := .int (nI (dn))) (C := RX1) (T := TX1) (N := 11) hx hb hts in_X1 hown hK hP 0 rfl rfl 3 (by decide) (hts _ q204) (fun _ h9 => h9) rfl dX1_undemand_1 ?_
  refine lv_if_ne (tgt := 10) hx hb dX1_undemand_4 (by decide) (fun c_1 => ?_) (fun c_1 => ?_)
  · have hd0 : dn ≠ 0 := fun q => c_1 (by rw [q]; rfl)
    refine lv_aload_n hx hb dX1_undemand_10 rfl (lv_at hl 0 rfl) ?_
    refine lv_dup hx hb dX1_undemand_11 rfl ?_
    refine va_get (D := G) (ci := 1) (v := .int (nI (dn))) (C := RX1) (T := TX1) (N := 11) hx hb hts in_X1 hown hK hP 0 rfl rfl 3 (by decide) (hts _ q204) (fun _ h9 => h9) rfl dX1_undemand_12 ?_
    refine lv_iconst (v := (1 : Int32)) hx hb dX1_undemand_15 (by decide) ?_
    refine lv_isub hx hb dX1_undemand_16 ?_
    refine fr_top (pk_sub (a := dn) (b := 1) (by omega)) ?_
    refine va_put (D := G) (ci := 1) (v := .int (nI (dn - 1))) (ty := .int) (C := RX1) (T := TX1) (N := 11) hx hb hts in_X1 tyX1 tyX1_ok nmX1 hown hK hP hD hS 0 rfl rfl 3 (by decide) (hts _ q204) (fun _ h9 => h9) rfl (by decide +kernel) rfl rfl (Nat.le_of_ble_eq_true rfl) dX1_undemand_17 (fun H locs hP hD hS => ?_)
    have hP : va_P G vwCl (w1 h a d to mk dm (dn - 1) kd lf rt vl md sk ht) H := hP
    have hD : va_D A (w1 h a d to mk dm (dn - 1) kd lf rt vl md sk ht) := hD
    refine lv_aload_n hx hb dX1_undemand_20 rfl (lv_at hl 0 rfl) ?_
    refine va_get (D := G) (ci := 1) (v := .ref (a 2)) (C := RX1) (T := TX1) (N := 11) hx hb hts in_X1 hown hK hP 0 rfl rfl 2 (by decide) (hts _ q203) (fun _ h9 => h9) rfl dX1_undemand_21 ?_
    refine lv_aload_n hx hb dX1_undemand_24 rfl (lv_at hl 0 rfl) ?_
    refine va_get (D := G) (ci := 1) (v := .int (nI (dn - 1))) (C := RX1) (T := TX1) (N := 11) hx hb hts in_X1 hown hK hP 0 rfl rfl 3 (by decide) (hts _ q204) (fun _ h9 => h9) rfl dX1_undemand_25 ?_
    refine fr_iald hx hb hK hP 3 0 rfl rfl (by omega) (by decide) dX1_undemand_28 ?_
    have ew_1 : ((fr_und dn dm).2) = (dn - 1) := (congrArg Prod.snd (fr_und_0 hd0))
    exact fr_reti () hx hb hr hlocks hK (by rw [ew_1]; exact hP) (by rw [ew_1]; exact hD) hS (congrArg Prod.fst (fr_und_0 hd0)).symm dX1_undemand_29
  · refine lv_bipush (v := (-4 : Int32)) hx hb dX1_undemand_7 (by decide) ?_
    have ew_1 : ((fr_und dn dm).2) = dn := (congrArg Prod.snd (fr_und_1 ((nI_eq (a := dn) (b := 0) (by omega) (by decide)).mp c_1)))
    exact fr_reti () hx hb hr hlocks hK (by rw [ew_1]; exact hP) (by rw [ew_1]; exact hD) hS (congrArg Prod.fst (fr_und_1 ((nI_eq (a := dn) (b := 0) (by omega) (by decide)).mp c_1))).symm dX1_undemand_9
set_option maxHeartbeats 4000000 in
theorem met1_note (l : Launch) (G : va_G) (h : Nat) (a : Nat → Nat) (d : ClassId) (sz : Nat) (to : Nat → Int32) (mk : Nat → Int32) (dm : Nat → Int32) (dn : Nat) (kd : Nat → Int32) (lf : Nat → Int32) (rt : Nat → Int32) (vl : Nat → Int32) (md : Nat) (sk : Nat → Int32) (ht : Nat) (p1 : Int32) (p2 : Int32) (p3 : Int32) (hmd : md < 20) (hht : ht < 6) : fr_I l yX1_note cX1_note 4 (some .int) ({ frames := 0, cells := 0, slots := 0, locals := 0 } : Room) [.ref (h), .int (p1), .int (p2), .int (p3)] G d sz (w1 h a d to mk dm dn kd lf rt vl md sk ht) (fun (r : Int32) (u : Unit) => r = nI (ht + 1)) (fun (u : Unit) => (w1 h a d to mk dm dn (upd kd md p1) (upd lf md p2) (upd rt md p3) vl (md + 1) (upd sk ht (nI md)) (ht + 1))) := by
  refine fr_startI RX1 rfl (by decide +kernel) (Nat.le_of_ble_eq_true rfl) ?_
  intro p e s m below meth c A ls hx hb hr hlocks hml hown hts hA hK hP hD hS hl
  have hl : lv_has ls 4 [(0, .ref (h)), (1, .int (p1)), (2, .int (p2)), (3, .int (p3))] := hl
  refine lv_aload_n hx hb dX1_note_0 rfl (lv_at hl 0 rfl) ?_
  refine va_get (D := G) (ci := 1) (v := .ref (a 4)) (C := RX1) (T := TX1) (N := 11) hx hb hts in_X1 hown hK hP 0 rfl rfl 4 (by decide) (hts _ q205) (fun _ h9 => h9) rfl dX1_note_1 ?_
  refine lv_aload_n hx hb dX1_note_4 rfl (lv_at hl 0 rfl) ?_
  refine va_get (D := G) (ci := 1) (v := .int (nI (md))) (C := RX1) (T := TX1) (N := 11) hx hb hts in_X1 hown hK hP 0 rfl rfl 8 (by decide) (hts _ q209) (fun _ h9 => h9) rfl dX1_note_5 ?_
  refine lv_iload_n hx hb dX1_note_8 rfl (lv_at hl 1 rfl) ?_
  refine fr_iast hx hb hK hP hD hS 4 0 rfl rfl (by omega) (by decide) dX1_note_9 (fun H locs hP hD hS => ?_)
  have hP : va_P G vwCl (w1 h a d to mk dm dn (upd kd md (p1)) lf rt vl md sk ht) H := hP
  have hD : va_D A (w1 h a d to mk dm dn (upd kd md (p1)) lf rt vl md sk ht) := hD
  refine lv_aload_n hx hb dX1_note_10 rfl (lv_at hl 0 rfl) ?_
  refine va_get (D := G) (ci := 1) (v := .ref (a 5)) (C := RX1) (T := TX1) (N := 11) hx hb hts in_X1 hown hK hP 0 rfl rfl 5 (by decide) (hts _ q206) (fun _ h9 => h9) rfl dX1_note_11 ?_
  refine lv_aload_n hx hb dX1_note_14 rfl (lv_at hl 0 rfl) ?_
  refine va_get (D := G) (ci := 1) (v := .int (nI (md))) (C := RX1) (T := TX1) (N := 11) hx hb hts in_X1 hown hK hP 0 rfl rfl 8 (by decide) (hts _ q209) (fun _ h9 => h9) rfl dX1_note_15 ?_
  refine lv_iload_n hx hb dX1_note_18 rfl (lv_at hl 2 rfl) ?_
  refine fr_iast hx hb hK hP hD hS 5 0 rfl rfl (by omega) (by decide) dX1_note_19 (fun H locs hP hD hS => ?_)
  have hP : va_P G vwCl (w1 h a d to mk dm dn (upd kd md (p1)) (upd lf md (p2)) rt vl md sk ht) H := hP
  have hD : va_D A (w1 h a d to mk dm dn (upd kd md (p1)) (upd lf md (p2)) rt vl md sk ht) := hD
  refine lv_aload_n hx hb dX1_note_20 rfl (lv_at hl 0 rfl) ?_
  refine va_get (D := G) (ci := 1) (v := .ref (a 6)) (C := RX1) (T := TX1) (N := 11) hx hb hts in_X1 hown hK hP 0 rfl rfl 6 (by decide) (hts _ q207) (fun _ h9 => h9) rfl dX1_note_21 ?_
  refine lv_aload_n hx hb dX1_note_24 rfl (lv_at hl 0 rfl) ?_
  refine va_get (D := G) (ci := 1) (v := .int (nI (md))) (C := RX1) (T := TX1) (N := 11) hx hb hts in_X1 hown hK hP 0 rfl rfl 8 (by decide) (hts _ q209) (fun _ h9 => h9) rfl dX1_note_25 ?_
  refine lv_iload_n hx hb dX1_note_28 rfl (lv_at hl 3 rfl) ?_
  refine fr_iast hx hb hK hP hD hS 6 0 rfl rfl (by omega) (by decide) dX1_note_29 (fun H locs hP hD hS => ?_)
  have hP : va_P G vwCl (w1 h a d to mk dm dn (upd kd md (p1)) (upd lf md (p2)) (upd rt md (p3)) vl md sk ht) H := hP
  have hD : va_D A (w1 h a d to mk dm dn (upd kd md (p1)) (upd lf md (p2)) (upd rt md (p3)) vl md sk ht) := hD
  refine lv_aload_n hx hb dX1_note_30 rfl (lv_at hl 0 rfl) ?_
  refine va_get (D := G) (ci := 1) (v := .ref (a 9)) (C := RX1) (T := TX1) (N := 11) hx hb hts in_X1 hown hK hP 0 rfl rfl 9 (by decide) (hts _ q210) (fun _ h9 => h9) rfl dX1_note_31 ?_
  refine lv_aload_n hx hb dX1_note_34 rfl (lv_at hl 0 rfl) ?_
  refine va_get (D := G) (ci := 1) (v := .int (nI (ht))) (C := RX1) (T := TX1) (N := 11) hx hb hts in_X1 hown hK hP 0 rfl rfl 10 (by decide) (hts _ q211) (fun _ h9 => h9) rfl dX1_note_35 ?_
  refine lv_aload_n hx hb dX1_note_38 rfl (lv_at hl 0 rfl) ?_
  refine va_get (D := G) (ci := 1) (v := .int (nI (md))) (C := RX1) (T := TX1) (N := 11) hx hb hts in_X1 hown hK hP 0 rfl rfl 8 (by decide) (hts _ q209) (fun _ h9 => h9) rfl dX1_note_39 ?_
  refine fr_iast hx hb hK hP hD hS 8 0 rfl rfl (by omega) (by decide) dX1_note_42 (fun H locs hP hD hS => ?_)
  have hP : va_P G vwCl (w1 h a d to mk dm dn (upd kd md (p1)) (upd lf md (p2)) (upd rt md (p3)) vl md (upd sk ht (nI (md))) ht) H := hP
  have hD : va_D A (w1 h a d to mk dm dn (upd kd md (p1)) (upd lf md (p2)) (upd rt md (p3)) vl md (upd sk ht (nI (md))) ht) := hD
  refine lv_aload_n hx hb dX1_note_43 rfl (lv_at hl 0 rfl) ?_
  refine lv_dup hx hb dX1_note_44 rfl ?_
  refine va_get (D := G) (ci := 1) (v := .int (nI (md))) (C := RX1) (T := TX1) (N := 11) hx hb hts in_X1 hown hK hP 0 rfl rfl 8 (by decide) (hts _ q209) (fun _ h9 => h9) rfl dX1_note_45 ?_
  refine lv_iconst (v := (1 : Int32)) hx hb dX1_note_48 (by decide) ?_
  refine lv_iadd hx hb dX1_note_49 ?_
  refine fr_top (nI_add md 1) ?_
  refine va_put (D := G) (ci := 1) (v := .int (nI (md + 1))) (ty := .int) (C := RX1) (T := TX1) (N := 11) hx hb hts in_X1 tyX1 tyX1_ok nmX1 hown hK hP hD hS 0 rfl rfl 8 (by decide) (hts _ q209) (fun _ h9 => h9) rfl (by decide +kernel) rfl rfl (Nat.le_of_ble_eq_true rfl) dX1_note_50 (fun H locs hP hD hS => ?_)
  have hP : va_P G vwCl (w1 h a d to mk dm dn (upd kd md (p1)) (upd lf md (p2)) (upd rt md (p3)) vl (md + 1) (upd sk ht (nI (md))) ht) H := hP
  have hD : va_D A (w1 h a d to mk dm dn (upd kd md (p1)) (upd lf md (p2)) (upd rt md (p3)) vl (md + 1) (upd sk ht (nI (md))) ht) := hD
  refine lv_aload_n hx hb dX1_note_53 rfl (lv_at hl 0 rfl) ?_
  refine lv_dup hx hb dX1_note_54 rfl ?_
  refine va_get (D := G) (ci := 1) (v := .int (nI (ht))) (C := RX1) (T := TX1) (N := 11) hx hb hts in_X1 hown hK hP 0 rfl rfl 10 (by decide) (hts _ q211) (fun _ h9 => h9) rfl dX1_note_55 ?_
  refine lv_iconst (v := (1 : Int32)) hx hb dX1_note_58 (by decide) ?_
  refine lv_iadd hx hb dX1_note_59 ?_
  refine fr_top (nI_add ht 1) ?_
  refine va_put (D := G) (ci := 1) (v := .int (nI (ht + 1))) (ty := .int) (C := RX1) (T := TX1) (N := 11) hx hb hts in_X1 tyX1 tyX1_ok nmX1 hown hK hP hD hS 0 rfl rfl 10 (by decide) (hts _ q211) (fun _ h9 => h9) rfl (by decide +kernel) rfl rfl (Nat.le_of_ble_eq_true rfl) dX1_note_60 (fun H locs hP hD hS => ?_)
  have hP : va_P G vwCl (w1 h a d to mk dm dn (upd kd md (p1)) (upd lf md (p2)) (upd rt md (p3)) vl (md + 1) (upd sk ht (nI (md))) (ht + 1)) H := hP
  have hD : va_D A (w1 h a d to mk dm dn (upd kd md (p1)) (upd lf md (p2)) (upd rt md (p3)) vl (md + 1) (upd sk ht (nI (md))) (ht + 1)) := hD
  refine lv_aload_n hx hb dX1_note_63 rfl (lv_at hl 0 rfl) ?_
  refine va_get (D := G) (ci := 1) (v := .int (nI (ht + 1))) (C := RX1) (T := TX1) (N := 11) hx hb hts in_X1 hown hK hP 0 rfl rfl 10 (by decide) (hts _ q211) (fun _ h9 => h9) rfl dX1_note_64 ?_
  exact fr_reti () hx hb hr hlocks hK hP hD hS rfl dX1_note_67
set_option maxHeartbeats 4000000 in
theorem met1_push (l : Launch) (G : va_G) (h : Nat) (a : Nat → Nat) (d : ClassId) (sz : Nat) (to : Nat → Int32) (mk : Nat → Int32) (dm : Nat → Int32) (dn : Nat) (kd : Nat → Int32) (lf : Nat → Int32) (rt : Nat → Int32) (vl : Nat → Int32) (md : Nat) (sk : Nat → Int32) (ht : Nat) (p1 : Int32) (hmd : md ≤ 20) (hht : ht ≤ 6) : fr_I l yX1_push cX1_push 2 (some .int) ({ frames := 1, cells := 0, slots := 0, locals := 23 } : Room) [.ref (h), .int (p1)] G d sz (w1 h a d to mk dm dn kd lf rt vl md sk ht) (fun (r : Int32) (u : Unit) => r = fr_puR p1 md ht) (fun (u : Unit) => (w1 h a d to mk dm dn (if fr_puO p1 md ht then upd kd md (20 + p1) else kd) (if fr_puO p1 md ht then upd lf md 0 else lf) (if fr_puO p1 md ht then upd rt md 0 else rt) vl (if fr_puO p1 md ht then md + 1 else md) (if fr_puO p1 md ht then upd sk ht (nI md) else sk) (if fr_puO p1 md ht then ht + 1 else ht))) := by
  refine fr_startI RX1 rfl (by decide +kernel) (Nat.le_of_ble_eq_true rfl) ?_
  intro p e s m below meth c A ls hx hb hr hlocks hml hown hts hA hK hP hD hS hl
  have hl : lv_has ls 2 [(0, .ref (h)), (1, .int (p1))] := hl
  refine lv_iload_n hx hb dX1_push_0 rfl (lv_at hl 1 rfl) ?_
  refine lv_if_lt (tgt := 9) hx hb dX1_push_1 (by decide) (fun c_1 => ?_) (fun c_1 => ?_)
  · refine lv_iconst (v := (-1 : Int32)) hx hb dX1_push_9 (by decide) ?_
    have ew_1 : (if fr_puO p1 md ht then upd kd md (20 + p1) else kd) = kd := (if_neg (fr_puO_1 (Or.inl (fr_in_neg c_1))))
    have ew_2 : (if fr_puO p1 md ht then upd lf md 0 else lf) = lf := (if_neg (fr_puO_1 (Or.inl (fr_in_neg c_1))))
    have ew_3 : (if fr_puO p1 md ht then upd rt md 0 else rt) = rt := (if_neg (fr_puO_1 (Or.inl (fr_in_neg c_1))))
    have ew_4 : (if fr_puO p1 md ht then md + 1 else md) = md := (if_neg (fr_puO_1 (Or.inl (fr_in_neg c_1))))
    have ew_5 : (if fr_puO p1 md ht then upd sk ht (nI md) else sk) = sk := (if_neg (fr_puO_1 (Or.inl (fr_in_neg c_1))))
    have ew_6 : (if fr_puO p1 md ht then ht + 1 else ht) = ht := (if_neg (fr_puO_1 (Or.inl (fr_in_neg c_1))))
    exact fr_reti () hx hb hr hlocks hK (by rw [ew_1, ew_2, ew_3, ew_4, ew_5, ew_6]; exact hP) (by rw [ew_1, ew_2, ew_3, ew_4, ew_5, ew_6]; exact hD) hS (by rw [fr_puR, (fr_in_neg c_1)]; rfl) dX1_push_10
  · refine lv_iload_n hx hb dX1_push_4 rfl (lv_at hl 1 rfl) ?_
    refine lv_iconst (v := (3 : Int32)) hx hb dX1_push_5 (by decide) ?_
    refine lv_icmp_le (tgt := 11) hx hb dX1_push_6 (by decide) (fun c_2 => ?_) (fun c_2 => ?_)
    · refine lv_aload_n hx hb dX1_push_11 rfl (lv_at hl 0 rfl) ?_
      refine va_get (D := G) (ci := 1) (v := .int (nI (ht))) (C := RX1) (T := TX1) (N := 11) hx hb hts in_X1 hown hK hP 0 rfl rfl 10 (by decide) (hts _ q211) (fun _ h9 => h9) rfl dX1_push_12 ?_
      refine lv_bipush (v := (6 : Int32)) hx hb dX1_push_15 (by decide) ?_
      refine lv_icmp_eq (tgt := 29) hx hb dX1_push_17 (by decide) (fun c_3 => ?_) (fun c_3 => ?_)
      · refine lv_bipush (v := (-2 : Int32)) hx hb dX1_push_29 (by decide) ?_
        refine lv_goto (tgt := 44) hx hb dX1_push_31 (by decide) ?_
        have ew_1 : (if fr_puO p1 md ht then upd kd md (20 + p1) else kd) = kd := (if_neg (fr_puO_1 (Or.inr (Or.inl ((nI_eq (a := ht) (b := 6) (by omega) (by decide)).mp c_3)))))
        have ew_2 : (if fr_puO p1 md ht then upd lf md 0 else lf) = lf := (if_neg (fr_puO_1 (Or.inr (Or.inl ((nI_eq (a := ht) (b := 6) (by omega) (by decide)).mp c_3)))))
        have ew_3 : (if fr_puO p1 md ht then upd rt md 0 else rt) = rt := (if_neg (fr_puO_1 (Or.inr (Or.inl ((nI_eq (a := ht) (b := 6) (by omega) (by decide)).mp c_3)))))
        have ew_4 : (if fr_puO p1 md ht then md + 1 else md) = md := (if_neg (fr_puO_1 (Or.inr (Or.inl ((nI_eq (a := ht) (b := 6) (by omega) (by decide)).mp c_3)))))
        have ew_5 : (if fr_puO p1 md ht then upd sk ht (nI md) else sk) = sk := (if_neg (fr_puO_1 (Or.inr (Or.inl ((nI_eq (a := ht) (b := 6) (by omega) (by decide)).mp c_3)))))
        have ew_6 : (if fr_puO p1 md ht then ht + 1 else ht) = ht := (if_neg (fr_puO_1 (Or.inr (Or.inl ((nI_eq (a := ht) (b := 6) (by omega) (by decide)).mp c_3)))))
        exact fr_reti () hx hb hr hlocks hK (by rw [ew_1, ew_2, ew_3, ew_4, ew_5, ew_6]; exact hP) (by rw [ew_1, ew_2, ew_3, ew_4, ew_5, ew_6]; exact hD) hS (by rw [fr_puR, (fr_in_t' (n := 4) (y := 3) rfl c_1 c_2), if_pos rfl, if_pos ((nI_eq (a := ht) (b := 6) (by omega) (by decide)).mp c_3)]) dX1_push_44
      · refine lv_aload_n hx hb dX1_push_20 rfl (lv_at hl 0 rfl) ?_
        refine va_get (D := G) (ci := 1) (v := .int (nI (md))) (C := RX1) (T := TX1) (N := 11) hx hb hts in_X1 hown hK hP 0 rfl rfl 8 (by decide) (hts _ q209) (fun _ h9 => h9) rfl dX1_push_21 ?_
        refine lv_bipush (v := (20 : Int32)) hx hb dX1_push_24 (by decide) ?_
        refine lv_icmp_ne (tgt := 34) hx hb dX1_push_26 (by decide) (fun c_4 => ?_) (fun c_4 => ?_)
        · have h6 : ht ≠ 6 := fun q => c_3 (by rw [q]; rfl)
          have h20 : md ≠ 20 := fun q => c_4 (by rw [q]; rfl)
          refine lv_aload_n hx hb dX1_push_34 rfl (lv_at hl 0 rfl) ?_
          refine lv_bipush (v := (20 : Int32)) hx hb dX1_push_35 (by decide) ?_
          refine lv_iload_n hx hb dX1_push_37 rfl (lv_at hl 1 rfl) ?_
          refine lv_iadd hx hb dX1_push_38 ?_
          refine lv_iconst (v := (0 : Int32)) hx hb dX1_push_39 (by decide) ?_
          refine lv_iconst (v := (0 : Int32)) hx hb dX1_push_40 (by decide) ?_
          refine fr_calli (As := [.int (((20 : Int32)) + (p1)), .int ((0 : Int32)), .int ((0 : Int32))]) (rest := []) ⟨hx, hb, hml, hown, hts⟩ (met1_note l G h a d _ to mk dm dn kd lf rt vl md sk ht (((20 : Int32)) + (p1)) ((0 : Int32)) ((0 : Int32)) (by omega) (by omega)) (cwV 3 hts (lw_V q263 q265 qs17 q28 q266) rfl rfl rfl (by decide +kernel) ⟨Nat.le_of_ble_eq_true rfl, Nat.le_of_ble_eq_true rfl⟩) (va_recv hK hP (ci := 1) (q0 := 0) rfl rfl) hK hP hD hS hA rfl hl.1 rfl (Nat.le_of_ble_eq_true rfl) dX1_push_41 ⟨Nat.le_refl _, Nat.le_refl _⟩ (fun r_5 u_5 H locs hw_5 hP hD hS => ?_)
          have hw_5 : r_5 = nI (ht + 1) := hw_5
          subst hw_5
          have hP : va_P G vwCl (w1 h a d to mk dm dn (upd kd md (((20 : Int32)) + (p1))) (upd lf md ((0 : Int32))) (upd rt md ((0 : Int32))) vl (md + 1) (upd sk ht (nI md)) (ht + 1)) H := hP
          have hD : va_D A (w1 h a d to mk dm dn (upd kd md (((20 : Int32)) + (p1))) (upd lf md ((0 : Int32))) (upd rt md ((0 : Int32))) vl (md + 1) (upd sk ht (nI md)) (ht + 1)) := hD
          have ew_1 : (if fr_puO p1 md ht then upd kd md (20 + p1) else kd) = (upd kd md (((20 : Int32)) + (p1))) := (if_pos (fr_puO_0 (fr_in_t' (n := 4) (y := 3) rfl c_1 c_2) h6 h20))
          have ew_2 : (if fr_puO p1 md ht then upd lf md 0 else lf) = (upd lf md ((0 : Int32))) := (if_pos (fr_puO_0 (fr_in_t' (n := 4) (y := 3) rfl c_1 c_2) h6 h20))
          have ew_3 : (if fr_puO p1 md ht then upd rt md 0 else rt) = (upd rt md ((0 : Int32))) := (if_pos (fr_puO_0 (fr_in_t' (n := 4) (y := 3) rfl c_1 c_2) h6 h20))
          have ew_4 : (if fr_puO p1 md ht then md + 1 else md) = (md + 1) := (if_pos (fr_puO_0 (fr_in_t' (n := 4) (y := 3) rfl c_1 c_2) h6 h20))
          have ew_5 : (if fr_puO p1 md ht then upd sk ht (nI md) else sk) = (upd sk ht (nI md)) := (if_pos (fr_puO_0 (fr_in_t' (n := 4) (y := 3) rfl c_1 c_2) h6 h20))
          have ew_6 : (if fr_puO p1 md ht then ht + 1 else ht) = (ht + 1) := (if_pos (fr_puO_0 (fr_in_t' (n := 4) (y := 3) rfl c_1 c_2) h6 h20))
          exact fr_reti () hx hb hr hlocks hK (by rw [ew_1, ew_2, ew_3, ew_4, ew_5, ew_6]; exact hP) (by rw [ew_1, ew_2, ew_3, ew_4, ew_5, ew_6]; exact hD) hS (by rw [fr_puR, (fr_in_t' (n := 4) (y := 3) rfl c_1 c_2), if_pos rfl, if_neg h6, if_neg h20]) dX1_push_44
        · refine lv_bipush (v := (-2 : Int32)) hx hb dX1_push_29 (by decide) ?_
          refine lv_goto (tgt := 44) hx hb dX1_push_31 (by decide) ?_
          have ew_1 : (if fr_puO p1 md ht then upd kd md (20 + p1) else kd) = kd := (if_neg (fr_puO_1 (Or.inr (Or.inr ((nI_eq (a := md) (b := 20) (by omega) (by decide)).mp c_4)))))
          have ew_2 : (if fr_puO p1 md ht then upd lf md 0 else lf) = lf := (if_neg (fr_puO_1 (Or.inr (Or.inr ((nI_eq (a := md) (b := 20) (by omega) (by decide)).mp c_4)))))
          have ew_3 : (if fr_puO p1 md ht then upd rt md 0 else rt) = rt := (if_neg (fr_puO_1 (Or.inr (Or.inr ((nI_eq (a := md) (b := 20) (by omega) (by decide)).mp c_4)))))
          have ew_4 : (if fr_puO p1 md ht then md + 1 else md) = md := (if_neg (fr_puO_1 (Or.inr (Or.inr ((nI_eq (a := md) (b := 20) (by omega) (by decide)).mp c_4)))))
          have ew_5 : (if fr_puO p1 md ht then upd sk ht (nI md) else sk) = sk := (if_neg (fr_puO_1 (Or.inr (Or.inr ((nI_eq (a := md) (b := 20) (by omega) (by decide)).mp c_4)))))
          have ew_6 : (if fr_puO p1 md ht then ht + 1 else ht) = ht := (if_neg (fr_puO_1 (Or.inr (Or.inr ((nI_eq (a := md) (b := 20) (by omega) (by decide)).mp c_4)))))
          exact fr_reti () hx hb hr hlocks hK (by rw [ew_1, ew_2, ew_3, ew_4, ew_5, ew_6]; exact hP) (by rw [ew_1, ew_2, ew_3, ew_4, ew_5, ew_6]; exact hD) hS (by rw [fr_puR, (fr_in_t' (n := 4) (y := 3) rfl c_1 c_2), if_pos rfl, if_neg (fun q => c_3 (by rw [q]; rfl)), if_pos ((nI_eq (a := md) (b := 20) (by omega) (by decide)).mp c_4)]) dX1_push_44
    · refine lv_iconst (v := (-1 : Int32)) hx hb dX1_push_9 (by decide) ?_
      have ew_1 : (if fr_puO p1 md ht then upd kd md (20 + p1) else kd) = kd := (if_neg (fr_puO_1 (Or.inl (fr_in_big' (n := 4) (y := 3) rfl (fr_nle c_2)))))
      have ew_2 : (if fr_puO p1 md ht then upd lf md 0 else lf) = lf := (if_neg (fr_puO_1 (Or.inl (fr_in_big' (n := 4) (y := 3) rfl (fr_nle c_2)))))
      have ew_3 : (if fr_puO p1 md ht then upd rt md 0 else rt) = rt := (if_neg (fr_puO_1 (Or.inl (fr_in_big' (n := 4) (y := 3) rfl (fr_nle c_2)))))
      have ew_4 : (if fr_puO p1 md ht then md + 1 else md) = md := (if_neg (fr_puO_1 (Or.inl (fr_in_big' (n := 4) (y := 3) rfl (fr_nle c_2)))))
      have ew_5 : (if fr_puO p1 md ht then upd sk ht (nI md) else sk) = sk := (if_neg (fr_puO_1 (Or.inl (fr_in_big' (n := 4) (y := 3) rfl (fr_nle c_2)))))
      have ew_6 : (if fr_puO p1 md ht then ht + 1 else ht) = ht := (if_neg (fr_puO_1 (Or.inl (fr_in_big' (n := 4) (y := 3) rfl (fr_nle c_2)))))
      exact fr_reti () hx hb hr hlocks hK (by rw [ew_1, ew_2, ew_3, ew_4, ew_5, ew_6]; exact hP) (by rw [ew_1, ew_2, ew_3, ew_4, ew_5, ew_6]; exact hD) hS (by rw [fr_puR, (fr_in_big' (n := 4) (y := 3) rfl (fr_nle c_2))]; rfl) dX1_push_10
set_option maxHeartbeats 4000000 in
theorem met1_one (l : Launch) (G : va_G) (h : Nat) (a : Nat → Nat) (d : ClassId) (sz : Nat) (to : Nat → Int32) (mk : Nat → Int32) (dm : Nat → Int32) (dn : Nat) (kd : Nat → Int32) (lf : Nat → Int32) (rt : Nat → Int32) (vl : Nat → Int32) (md : Nat) (sk : Nat → Int32) (ht : Nat) (p1 : Int32) (hmd : md ≤ 20) (hht : ht ≤ 6) : fr_I l yX1_one cX1_one 2 (some .int) ({ frames := 1, cells := 0, slots := 0, locals := 23 } : Room) [.ref (h), .int (p1)] G d sz (w1 h a d to mk dm dn kd lf rt vl md sk ht) (fun (r : Int32) (u : Unit) => r = fr_onR p1 md ht) (fun (u : Unit) => (w1 h a d to mk dm dn (if fr_onO p1 md ht then upd kd md p1 else kd) (if fr_onO p1 md ht then upd lf md (sk (ht - 1)) else lf) (if fr_onO p1 md ht then upd rt md 0 else rt) vl (if fr_onO p1 md ht then md + 1 else md) (if fr_onO p1 md ht then upd sk (ht - 1) (nI md) else sk) (if fr_onO p1 md ht then ht - 1 + 1 else ht))) := by
  refine fr_startI RX1 rfl (by decide +kernel) (Nat.le_of_ble_eq_true rfl) ?_
  intro p e s m below meth c A ls hx hb hr hlocks hml hown hts hA hK hP hD hS hl
  have hl : lv_has ls 2 [(0, .ref (h)), (1, .int (p1))] := hl
  refine lv_iload_n hx hb dX1_one_0 rfl (lv_at hl 1 rfl) ?_
  refine lv_if_lt (tgt := 10) hx hb dX1_one_1 (by decide) (fun c_1 => ?_) (fun c_1 => ?_)
  · refine lv_iconst (v := (-1 : Int32)) hx hb dX1_one_10 (by decide) ?_
    have ew_1 : (if fr_onO p1 md ht then upd kd md p1 else kd) = kd := (if_neg (fr_onO_1 (Or.inl (fr_in_neg c_1))))
    have ew_2 : (if fr_onO p1 md ht then upd lf md (sk (ht - 1)) else lf) = lf := (if_neg (fr_onO_1 (Or.inl (fr_in_neg c_1))))
    have ew_3 : (if fr_onO p1 md ht then upd rt md 0 else rt) = rt := (if_neg (fr_onO_1 (Or.inl (fr_in_neg c_1))))
    have ew_4 : (if fr_onO p1 md ht then md + 1 else md) = md := (if_neg (fr_onO_1 (Or.inl (fr_in_neg c_1))))
    have ew_5 : (if fr_onO p1 md ht then upd sk (ht - 1) (nI md) else sk) = sk := (if_neg (fr_onO_1 (Or.inl (fr_in_neg c_1))))
    have ew_6 : (if fr_onO p1 md ht then ht - 1 + 1 else ht) = ht := (if_neg (fr_onO_1 (Or.inl (fr_in_neg c_1))))
    exact fr_reti () hx hb hr hlocks hK (by rw [ew_1, ew_2, ew_3, ew_4, ew_5, ew_6]; exact hP) (by rw [ew_1, ew_2, ew_3, ew_4, ew_5, ew_6]; exact hD) hS (by rw [fr_onR, (fr_in_neg c_1)]; rfl) dX1_one_11
  · refine lv_iload_n hx hb dX1_one_4 rfl (lv_at hl 1 rfl) ?_
    refine lv_bipush (v := (6 : Int32)) hx hb dX1_one_5 (by decide) ?_
    refine lv_icmp_le (tgt := 12) hx hb dX1_one_7 (by decide) (fun c_2 => ?_) (fun c_2 => ?_)
    · refine lv_aload_n hx hb dX1_one_12 rfl (lv_at hl 0 rfl) ?_
      refine va_get (D := G) (ci := 1) (v := .int (nI (ht))) (C := RX1) (T := TX1) (N := 11) hx hb hts in_X1 hown hK hP 0 rfl rfl 10 (by decide) (hts _ q211) (fun _ h9 => h9) rfl dX1_one_13 ?_
      refine lv_if_ne (tgt := 22) hx hb dX1_one_16 (by decide) (fun c_3 => ?_) (fun c_3 => ?_)
      · have h0 : ht ≠ 0 := fun q => c_3 (by rw [q]; rfl)
        refine lv_aload_n hx hb dX1_one_22 rfl (lv_at hl 0 rfl) ?_
        refine va_get (D := G) (ci := 1) (v := .int (nI (md))) (C := RX1) (T := TX1) (N := 11) hx hb hts in_X1 hown hK hP 0 rfl rfl 8 (by decide) (hts _ q209) (fun _ h9 => h9) rfl dX1_one_23 ?_
        refine lv_bipush (v := (20 : Int32)) hx hb dX1_one_26 (by decide) ?_
        refine lv_icmp_ne (tgt := 34) hx hb dX1_one_28 (by decide) (fun c_4 => ?_) (fun c_4 => ?_)
        · have h20 : md ≠ 20 := fun q => c_4 (by rw [q]; rfl)
          refine lv_aload_n hx hb dX1_one_34 rfl (lv_at hl 0 rfl) ?_
          refine lv_dup hx hb dX1_one_35 rfl ?_
          refine va_get (D := G) (ci := 1) (v := .int (nI (ht))) (C := RX1) (T := TX1) (N := 11) hx hb hts in_X1 hown hK hP 0 rfl rfl 10 (by decide) (hts _ q211) (fun _ h9 => h9) rfl dX1_one_36 ?_
          refine lv_iconst (v := (1 : Int32)) hx hb dX1_one_39 (by decide) ?_
          refine lv_isub hx hb dX1_one_40 ?_
          refine fr_top (pk_sub (a := ht) (b := 1) (by omega)) ?_
          refine va_put (D := G) (ci := 1) (v := .int (nI (ht - 1))) (ty := .int) (C := RX1) (T := TX1) (N := 11) hx hb hts in_X1 tyX1 tyX1_ok nmX1 hown hK hP hD hS 0 rfl rfl 10 (by decide) (hts _ q211) (fun _ h9 => h9) rfl (by decide +kernel) rfl rfl (Nat.le_of_ble_eq_true rfl) dX1_one_41 (fun H locs hP hD hS => ?_)
          have hP : va_P G vwCl (w1 h a d to mk dm dn kd lf rt vl md sk (ht - 1)) H := hP
          have hD : va_D A (w1 h a d to mk dm dn kd lf rt vl md sk (ht - 1)) := hD
          refine lv_aload_n hx hb dX1_one_44 rfl (lv_at hl 0 rfl) ?_
          refine lv_iload_n hx hb dX1_one_45 rfl (lv_at hl 1 rfl) ?_
          refine lv_aload_n hx hb dX1_one_46 rfl (lv_at hl 0 rfl) ?_
          refine va_get (D := G) (ci := 1) (v := .ref (a 9)) (C := RX1) (T := TX1) (N := 11) hx hb hts in_X1 hown hK hP 0 rfl rfl 9 (by decide) (hts _ q210) (fun _ h9 => h9) rfl dX1_one_47 ?_
          refine lv_aload_n hx hb dX1_one_50 rfl (lv_at hl 0 rfl) ?_
          refine va_get (D := G) (ci := 1) (v := .int (nI (ht - 1))) (C := RX1) (T := TX1) (N := 11) hx hb hts in_X1 hown hK hP 0 rfl rfl 10 (by decide) (hts _ q211) (fun _ h9 => h9) rfl dX1_one_51 ?_
          refine fr_iald hx hb hK hP 8 0 rfl rfl (by omega) (by decide) dX1_one_54 ?_
          refine lv_iconst (v := (0 : Int32)) hx hb dX1_one_55 (by decide) ?_
          refine fr_calli (As := [.int (p1), .int (sk (ht - 1)), .int ((0 : Int32))]) (rest := []) ⟨hx, hb, hml, hown, hts⟩ (met1_note l G h a d _ to mk dm dn kd lf rt vl md sk (ht - 1) p1 (sk (ht - 1)) ((0 : Int32)) (by omega) (by omega)) (cwV 3 hts (lw_V q263 q265 qs17 q28 q266) rfl rfl rfl (by decide +kernel) ⟨Nat.le_of_ble_eq_true rfl, Nat.le_of_ble_eq_true rfl⟩) (va_recv hK hP (ci := 1) (q0 := 0) rfl rfl) hK hP hD hS hA rfl hl.1 rfl (Nat.le_of_ble_eq_true rfl) dX1_one_56 ⟨Nat.le_refl _, Nat.le_refl _⟩ (fun r_5 u_5 H locs hw_5 hP hD hS => ?_)
          have hw_5 : r_5 = nI ((ht - 1) + 1) := hw_5
          subst hw_5
          have hP : va_P G vwCl (w1 h a d to mk dm dn (upd kd md p1) (upd lf md (sk (ht - 1))) (upd rt md ((0 : Int32))) vl (md + 1) (upd sk (ht - 1) (nI md)) ((ht - 1) + 1)) H := hP
          have hD : va_D A (w1 h a d to mk dm dn (upd kd md p1) (upd lf md (sk (ht - 1))) (upd rt md ((0 : Int32))) vl (md + 1) (upd sk (ht - 1) (nI md)) ((ht - 1) + 1)) := hD
          have ew_1 : (if fr_onO p1 md ht then upd kd md p1 else kd) = (upd kd md p1) := (if_pos (fr_onO_0 (fr_in_t' (n := 7) (y := 6) rfl c_1 c_2) h0 h20))
          have ew_2 : (if fr_onO p1 md ht then upd lf md (sk (ht - 1)) else lf) = (upd lf md (sk (ht - 1))) := (if_pos (fr_onO_0 (fr_in_t' (n := 7) (y := 6) rfl c_1 c_2) h0 h20))
          have ew_3 : (if fr_onO p1 md ht then upd rt md 0 else rt) = (upd rt md ((0 : Int32))) := (if_pos (fr_onO_0 (fr_in_t' (n := 7) (y := 6) rfl c_1 c_2) h0 h20))
          have ew_4 : (if fr_onO p1 md ht then md + 1 else md) = (md + 1) := (if_pos (fr_onO_0 (fr_in_t' (n := 7) (y := 6) rfl c_1 c_2) h0 h20))
          have ew_5 : (if fr_onO p1 md ht then upd sk (ht - 1) (nI md) else sk) = (upd sk (ht - 1) (nI md)) := (if_pos (fr_onO_0 (fr_in_t' (n := 7) (y := 6) rfl c_1 c_2) h0 h20))
          have ew_6 : (if fr_onO p1 md ht then ht - 1 + 1 else ht) = ((ht - 1) + 1) := (if_pos (fr_onO_0 (fr_in_t' (n := 7) (y := 6) rfl c_1 c_2) h0 h20))
          exact fr_reti () hx hb hr hlocks hK (by rw [ew_1, ew_2, ew_3, ew_4, ew_5, ew_6]; exact hP) (by rw [ew_1, ew_2, ew_3, ew_4, ew_5, ew_6]; exact hD) hS (by rw [show ht - 1 + 1 = ht by omega, fr_onR, (fr_in_t' (n := 7) (y := 6) rfl c_1 c_2), if_pos rfl, if_neg h0, if_neg h20]) dX1_one_59
        · refine lv_bipush (v := (-2 : Int32)) hx hb dX1_one_31 (by decide) ?_
          have ew_1 : (if fr_onO p1 md ht then upd kd md p1 else kd) = kd := (if_neg (fr_onO_1 (Or.inr (Or.inr ((nI_eq (a := md) (b := 20) (by omega) (by decide)).mp c_4)))))
          have ew_2 : (if fr_onO p1 md ht then upd lf md (sk (ht - 1)) else lf) = lf := (if_neg (fr_onO_1 (Or.inr (Or.inr ((nI_eq (a := md) (b := 20) (by omega) (by decide)).mp c_4)))))
          have ew_3 : (if fr_onO p1 md ht then upd rt md 0 else rt) = rt := (if_neg (fr_onO_1 (Or.inr (Or.inr ((nI_eq (a := md) (b := 20) (by omega) (by decide)).mp c_4)))))
          have ew_4 : (if fr_onO p1 md ht then md + 1 else md) = md := (if_neg (fr_onO_1 (Or.inr (Or.inr ((nI_eq (a := md) (b := 20) (by omega) (by decide)).mp c_4)))))
          have ew_5 : (if fr_onO p1 md ht then upd sk (ht - 1) (nI md) else sk) = sk := (if_neg (fr_onO_1 (Or.inr (Or.inr ((nI_eq (a := md) (b := 20) (by omega) (by decide)).mp c_4)))))
          have ew_6 : (if fr_onO p1 md ht then ht - 1 + 1 else ht) = ht := (if_neg (fr_onO_1 (Or.inr (Or.inr ((nI_eq (a := md) (b := 20) (by omega) (by decide)).mp c_4)))))
          exact fr_reti () hx hb hr hlocks hK (by rw [ew_1, ew_2, ew_3, ew_4, ew_5, ew_6]; exact hP) (by rw [ew_1, ew_2, ew_3, ew_4, ew_5, ew_6]; exact hD) hS (by rw [fr_onR, (fr_in_t' (n := 7) (y := 6) rfl c_1 c_2), if_pos rfl, if_neg h0, if_pos ((nI_eq (a := md) (b := 20) (by omega) (by decide)).mp c_4)]) dX1_one_33
      · refine lv_bipush (v := (-3 : Int32)) hx hb dX1_one_19 (by decide) ?_
        have ew_1 : (if fr_onO p1 md ht then upd kd md p1 else kd) = kd := (if_neg (fr_onO_1 (Or.inr (Or.inl ((nI_eq (a := ht) (b := 0) (by omega) (by decide)).mp c_3)))))
        have ew_2 : (if fr_onO p1 md ht then upd lf md (sk (ht - 1)) else lf) = lf := (if_neg (fr_onO_1 (Or.inr (Or.inl ((nI_eq (a := ht) (b := 0) (by omega) (by decide)).mp c_3)))))
        have ew_3 : (if fr_onO p1 md ht then upd rt md 0 else rt) = rt := (if_neg (fr_onO_1 (Or.inr (Or.inl ((nI_eq (a := ht) (b := 0) (by omega) (by decide)).mp c_3)))))
        have ew_4 : (if fr_onO p1 md ht then md + 1 else md) = md := (if_neg (fr_onO_1 (Or.inr (Or.inl ((nI_eq (a := ht) (b := 0) (by omega) (by decide)).mp c_3)))))
        have ew_5 : (if fr_onO p1 md ht then upd sk (ht - 1) (nI md) else sk) = sk := (if_neg (fr_onO_1 (Or.inr (Or.inl ((nI_eq (a := ht) (b := 0) (by omega) (by decide)).mp c_3)))))
        have ew_6 : (if fr_onO p1 md ht then ht - 1 + 1 else ht) = ht := (if_neg (fr_onO_1 (Or.inr (Or.inl ((nI_eq (a := ht) (b := 0) (by omega) (by decide)).mp c_3)))))
        exact fr_reti () hx hb hr hlocks hK (by rw [ew_1, ew_2, ew_3, ew_4, ew_5, ew_6]; exact hP) (by rw [ew_1, ew_2, ew_3, ew_4, ew_5, ew_6]; exact hD) hS (by rw [fr_onR, (fr_in_t' (n := 7) (y := 6) rfl c_1 c_2), if_pos rfl, if_pos ((nI_eq (a := ht) (b := 0) (by omega) (by decide)).mp c_3)]) dX1_one_21
    · refine lv_iconst (v := (-1 : Int32)) hx hb dX1_one_10 (by decide) ?_
      have ew_1 : (if fr_onO p1 md ht then upd kd md p1 else kd) = kd := (if_neg (fr_onO_1 (Or.inl (fr_in_big' (n := 7) (y := 6) rfl (fr_nle c_2)))))
      have ew_2 : (if fr_onO p1 md ht then upd lf md (sk (ht - 1)) else lf) = lf := (if_neg (fr_onO_1 (Or.inl (fr_in_big' (n := 7) (y := 6) rfl (fr_nle c_2)))))
      have ew_3 : (if fr_onO p1 md ht then upd rt md 0 else rt) = rt := (if_neg (fr_onO_1 (Or.inl (fr_in_big' (n := 7) (y := 6) rfl (fr_nle c_2)))))
      have ew_4 : (if fr_onO p1 md ht then md + 1 else md) = md := (if_neg (fr_onO_1 (Or.inl (fr_in_big' (n := 7) (y := 6) rfl (fr_nle c_2)))))
      have ew_5 : (if fr_onO p1 md ht then upd sk (ht - 1) (nI md) else sk) = sk := (if_neg (fr_onO_1 (Or.inl (fr_in_big' (n := 7) (y := 6) rfl (fr_nle c_2)))))
      have ew_6 : (if fr_onO p1 md ht then ht - 1 + 1 else ht) = ht := (if_neg (fr_onO_1 (Or.inl (fr_in_big' (n := 7) (y := 6) rfl (fr_nle c_2)))))
      exact fr_reti () hx hb hr hlocks hK (by rw [ew_1, ew_2, ew_3, ew_4, ew_5, ew_6]; exact hP) (by rw [ew_1, ew_2, ew_3, ew_4, ew_5, ew_6]; exact hD) hS (by rw [fr_onR, (fr_in_big' (n := 7) (y := 6) rfl (fr_nle c_2))]; rfl) dX1_one_11
set_option maxHeartbeats 4000000 in
theorem met1_two (l : Launch) (G : va_G) (h : Nat) (a : Nat → Nat) (d : ClassId) (sz : Nat) (to : Nat → Int32) (mk : Nat → Int32) (dm : Nat → Int32) (dn : Nat) (kd : Nat → Int32) (lf : Nat → Int32) (rt : Nat → Int32) (vl : Nat → Int32) (md : Nat) (sk : Nat → Int32) (ht : Nat) (p1 : Int32) (hmd : md ≤ 20) (hht : ht ≤ 6) : fr_I l yX1_two cX1_two 2 (some .int) ({ frames := 1, cells := 0, slots := 0, locals := 23 } : Room) [.ref (h), .int (p1)] G d sz (w1 h a d to mk dm dn kd lf rt vl md sk ht) (fun (r : Int32) (u : Unit) => r = fr_twR p1 md ht) (fun (u : Unit) => (w1 h a d to mk dm dn (if fr_twO p1 md ht then upd kd md (10 + p1) else kd) (if fr_twO p1 md ht then upd lf md (sk (ht - 2)) else lf) (if fr_twO p1 md ht then upd rt md (sk (ht - 2 + 1)) else rt) vl (if fr_twO p1 md ht then md + 1 else md) (if fr_twO p1 md ht then upd sk (ht - 2) (nI md) else sk) (if fr_twO p1 md ht then ht - 2 + 1 else ht))) := by
  refine fr_startI RX1 rfl (by decide +kernel) (Nat.le_of_ble_eq_true rfl) ?_
  intro p e s m below meth c A ls hx hb hr hlocks hml hown hts hA hK hP hD hS hl
  have hl : lv_has ls 2 [(0, .ref (h)), (1, .int (p1))] := hl
  refine lv_iload_n hx hb dX1_two_0 rfl (lv_at hl 1 rfl) ?_
  refine lv_if_lt (tgt := 9) hx hb dX1_two_1 (by decide) (fun c_1 => ?_) (fun c_1 => ?_)
  · refine lv_iconst (v := (-1 : Int32)) hx hb dX1_two_9 (by decide) ?_
    have ew_1 : (if fr_twO p1 md ht then upd kd md (10 + p1) else kd) = kd := (if_neg (fr_twO_1 (Or.inl (fr_in_neg c_1))))
    have ew_2 : (if fr_twO p1 md ht then upd lf md (sk (ht - 2)) else lf) = lf := (if_neg (fr_twO_1 (Or.inl (fr_in_neg c_1))))
    have ew_3 : (if fr_twO p1 md ht then upd rt md (sk (ht - 2 + 1)) else rt) = rt := (if_neg (fr_twO_1 (Or.inl (fr_in_neg c_1))))
    have ew_4 : (if fr_twO p1 md ht then md + 1 else md) = md := (if_neg (fr_twO_1 (Or.inl (fr_in_neg c_1))))
    have ew_5 : (if fr_twO p1 md ht then upd sk (ht - 2) (nI md) else sk) = sk := (if_neg (fr_twO_1 (Or.inl (fr_in_neg c_1))))
    have ew_6 : (if fr_twO p1 md ht then ht - 2 + 1 else ht) = ht := (if_neg (fr_twO_1 (Or.inl (fr_in_neg c_1))))
    exact fr_reti () hx hb hr hlocks hK (by rw [ew_1, ew_2, ew_3, ew_4, ew_5, ew_6]; exact hP) (by rw [ew_1, ew_2, ew_3, ew_4, ew_5, ew_6]; exact hD) hS (by rw [fr_twR, (fr_in_neg c_1)]; rfl) dX1_two_10
  · refine lv_iload_n hx hb dX1_two_4 rfl (lv_at hl 1 rfl) ?_
    refine lv_iconst (v := (3 : Int32)) hx hb dX1_two_5 (by decide) ?_
    refine lv_icmp_le (tgt := 11) hx hb dX1_two_6 (by decide) (fun c_2 => ?_) (fun c_2 => ?_)
    · refine lv_aload_n hx hb dX1_two_11 rfl (lv_at hl 0 rfl) ?_
      refine va_get (D := G) (ci := 1) (v := .int (nI (ht))) (C := RX1) (T := TX1) (N := 11) hx hb hts in_X1 hown hK hP 0 rfl rfl 10 (by decide) (hts _ q211) (fun _ h9 => h9) rfl dX1_two_12 ?_
      refine lv_iconst (v := (2 : Int32)) hx hb dX1_two_15 (by decide) ?_
      refine lv_icmp_ge (tgt := 22) hx hb dX1_two_16 (by decide) (fun c_3 => ?_) (fun c_3 => ?_)
      · have h2 : ¬ ht < 2 := Nat.not_lt.mpr ((nI_leI (a := 2) (b := ht) (by decide) (by omega)).mp c_3)
        refine lv_aload_n hx hb dX1_two_22 rfl (lv_at hl 0 rfl) ?_
        refine va_get (D := G) (ci := 1) (v := .int (nI (md))) (C := RX1) (T := TX1) (N := 11) hx hb hts in_X1 hown hK hP 0 rfl rfl 8 (by decide) (hts _ q209) (fun _ h9 => h9) rfl dX1_two_23 ?_
        refine lv_bipush (v := (20 : Int32)) hx hb dX1_two_26 (by decide) ?_
        refine lv_icmp_ne (tgt := 34) hx hb dX1_two_28 (by decide) (fun c_4 => ?_) (fun c_4 => ?_)
        · have h20 : md ≠ 20 := fun q => c_4 (by rw [q]; rfl)
          refine lv_aload_n hx hb dX1_two_34 rfl (lv_at hl 0 rfl) ?_
          refine lv_aload_n hx hb dX1_two_35 rfl (lv_at hl 0 rfl) ?_
          refine va_get (D := G) (ci := 1) (v := .int (nI (ht))) (C := RX1) (T := TX1) (N := 11) hx hb hts in_X1 hown hK hP 0 rfl rfl 10 (by decide) (hts _ q211) (fun _ h9 => h9) rfl dX1_two_36 ?_
          refine lv_iconst (v := (2 : Int32)) hx hb dX1_two_39 (by decide) ?_
          refine lv_isub hx hb dX1_two_40 ?_
          refine fr_top (pk_sub (a := ht) (b := 2) (by omega)) ?_
          refine va_put (D := G) (ci := 1) (v := .int (nI (ht - 2))) (ty := .int) (C := RX1) (T := TX1) (N := 11) hx hb hts in_X1 tyX1 tyX1_ok nmX1 hown hK hP hD hS 0 rfl rfl 10 (by decide) (hts _ q211) (fun _ h9 => h9) rfl (by decide +kernel) rfl rfl (Nat.le_of_ble_eq_true rfl) dX1_two_41 (fun H locs hP hD hS => ?_)
          have hP : va_P G vwCl (w1 h a d to mk dm dn kd lf rt vl md sk (ht - 2)) H := hP
          have hD : va_D A (w1 h a d to mk dm dn kd lf rt vl md sk (ht - 2)) := hD
          refine lv_aload_n hx hb dX1_two_44 rfl (lv_at hl 0 rfl) ?_
          refine lv_bipush (v := (10 : Int32)) hx hb dX1_two_45 (by decide) ?_
          refine lv_iload_n hx hb dX1_two_47 rfl (lv_at hl 1 rfl) ?_
          refine lv_iadd hx hb dX1_two_48 ?_
          refine lv_aload_n hx hb dX1_two_49 rfl (lv_at hl 0 rfl) ?_
          refine va_get (D := G) (ci := 1) (v := .ref (a 9)) (C := RX1) (T := TX1) (N := 11) hx hb hts in_X1 hown hK hP 0 rfl rfl 9 (by decide) (hts _ q210) (fun _ h9 => h9) rfl dX1_two_50 ?_
          refine lv_aload_n hx hb dX1_two_53 rfl (lv_at hl 0 rfl) ?_
          refine va_get (D := G) (ci := 1) (v := .int (nI (ht - 2))) (C := RX1) (T := TX1) (N := 11) hx hb hts in_X1 hown hK hP 0 rfl rfl 10 (by decide) (hts _ q211) (fun _ h9 => h9) rfl dX1_two_54 ?_
          refine fr_iald hx hb hK hP 8 0 rfl rfl (by omega) (by decide) dX1_two_57 ?_
          refine lv_aload_n hx hb dX1_two_58 rfl (lv_at hl 0 rfl) ?_
          refine va_get (D := G) (ci := 1) (v := .ref (a 9)) (C := RX1) (T := TX1) (N := 11) hx hb hts in_X1 hown hK hP 0 rfl rfl 9 (by decide) (hts _ q210) (fun _ h9 => h9) rfl dX1_two_59 ?_
          refine lv_aload_n hx hb dX1_two_62 rfl (lv_at hl 0 rfl) ?_
          refine va_get (D := G) (ci := 1) (v := .int (nI (ht - 2))) (C := RX1) (T := TX1) (N := 11) hx hb hts in_X1 hown hK hP 0 rfl rfl 10 (by decide) (hts _ q211) (fun _ h9 => h9) rfl dX1_two_63 ?_
          refine lv_iconst (v := (1 : Int32)) hx hb dX1_two_66 (by decide) ?_
          refine lv_iadd hx hb dX1_two_67 ?_
          refine fr_top (nI_add (ht - 2) 1) ?_
          refine fr_iald hx hb hK hP 8 0 rfl rfl (by omega) (by decide) dX1_two_68 ?_
          refine fr_calli (As := [.int (((10 : Int32)) + (p1)), .int (sk (ht - 2)), .int (sk ((ht - 2) + 1))]) (rest := []) ⟨hx, hb, hml, hown, hts⟩ (met1_note l G h a d _ to mk dm dn kd lf rt vl md sk (ht - 2) (((10 : Int32)) + (p1)) (sk (ht - 2)) (sk ((ht - 2) + 1)) (by omega) (by omega)) (cwV 3 hts (lw_V q263 q265 qs17 q28 q266) rfl rfl rfl (by decide +kernel) ⟨Nat.le_of_ble_eq_true rfl, Nat.le_of_ble_eq_true rfl⟩) (va_recv hK hP (ci := 1) (q0 := 0) rfl rfl) hK hP hD hS hA rfl hl.1 rfl (Nat.le_of_ble_eq_true rfl) dX1_two_69 ⟨Nat.le_refl _, Nat.le_refl _⟩ (fun r_5 u_5 H locs hw_5 hP hD hS => ?_)
          have hw_5 : r_5 = nI ((ht - 2) + 1) := hw_5
          subst hw_5
          have hP : va_P G vwCl (w1 h a d to mk dm dn (upd kd md (((10 : Int32)) + (p1))) (upd lf md (sk (ht - 2))) (upd rt md (sk ((ht - 2) + 1))) vl (md + 1) (upd sk (ht - 2) (nI md)) ((ht - 2) + 1)) H := hP
          have hD : va_D A (w1 h a d to mk dm dn (upd kd md (((10 : Int32)) + (p1))) (upd lf md (sk (ht - 2))) (upd rt md (sk ((ht - 2) + 1))) vl (md + 1) (upd sk (ht - 2) (nI md)) ((ht - 2) + 1)) := hD
          have ew_1 : (if fr_twO p1 md ht then upd kd md (10 + p1) else kd) = (upd kd md (((10 : Int32)) + (p1))) := (if_pos (fr_twO_0 (fr_in_t' (n := 4) (y := 3) rfl c_1 c_2) h2 h20))
          have ew_2 : (if fr_twO p1 md ht then upd lf md (sk (ht - 2)) else lf) = (upd lf md (sk (ht - 2))) := (if_pos (fr_twO_0 (fr_in_t' (n := 4) (y := 3) rfl c_1 c_2) h2 h20))
          have ew_3 : (if fr_twO p1 md ht then upd rt md (sk (ht - 2 + 1)) else rt) = (upd rt md (sk ((ht - 2) + 1))) := (if_pos (fr_twO_0 (fr_in_t' (n := 4) (y := 3) rfl c_1 c_2) h2 h20))
          have ew_4 : (if fr_twO p1 md ht then md + 1 else md) = (md + 1) := (if_pos (fr_twO_0 (fr_in_t' (n := 4) (y := 3) rfl c_1 c_2) h2 h20))
          have ew_5 : (if fr_twO p1 md ht then upd sk (ht - 2) (nI md) else sk) = (upd sk (ht - 2) (nI md)) := (if_pos (fr_twO_0 (fr_in_t' (n := 4) (y := 3) rfl c_1 c_2) h2 h20))
          have ew_6 : (if fr_twO p1 md ht then ht - 2 + 1 else ht) = ((ht - 2) + 1) := (if_pos (fr_twO_0 (fr_in_t' (n := 4) (y := 3) rfl c_1 c_2) h2 h20))
          exact fr_reti () hx hb hr hlocks hK (by rw [ew_1, ew_2, ew_3, ew_4, ew_5, ew_6]; exact hP) (by rw [ew_1, ew_2, ew_3, ew_4, ew_5, ew_6]; exact hD) hS (by rw [show ht - 2 + 1 = ht - 1 by omega, fr_twR, (fr_in_t' (n := 4) (y := 3) rfl c_1 c_2), if_pos rfl, if_neg h2, if_neg h20]) dX1_two_72
        · refine lv_bipush (v := (-2 : Int32)) hx hb dX1_two_31 (by decide) ?_
          have ew_1 : (if fr_twO p1 md ht then upd kd md (10 + p1) else kd) = kd := (if_neg (fr_twO_1 (Or.inr (Or.inr ((nI_eq (a := md) (b := 20) (by omega) (by decide)).mp c_4)))))
          have ew_2 : (if fr_twO p1 md ht then upd lf md (sk (ht - 2)) else lf) = lf := (if_neg (fr_twO_1 (Or.inr (Or.inr ((nI_eq (a := md) (b := 20) (by omega) (by decide)).mp c_4)))))
          have ew_3 : (if fr_twO p1 md ht then upd rt md (sk (ht - 2 + 1)) else rt) = rt := (if_neg (fr_twO_1 (Or.inr (Or.inr ((nI_eq (a := md) (b := 20) (by omega) (by decide)).mp c_4)))))
          have ew_4 : (if fr_twO p1 md ht then md + 1 else md) = md := (if_neg (fr_twO_1 (Or.inr (Or.inr ((nI_eq (a := md) (b := 20) (by omega) (by decide)).mp c_4)))))
          have ew_5 : (if fr_twO p1 md ht then upd sk (ht - 2) (nI md) else sk) = sk := (if_neg (fr_twO_1 (Or.inr (Or.inr ((nI_eq (a := md) (b := 20) (by omega) (by decide)).mp c_4)))))
          have ew_6 : (if fr_twO p1 md ht then ht - 2 + 1 else ht) = ht := (if_neg (fr_twO_1 (Or.inr (Or.inr ((nI_eq (a := md) (b := 20) (by omega) (by decide)).mp c_4)))))
          exact fr_reti () hx hb hr hlocks hK (by rw [ew_1, ew_2, ew_3, ew_4, ew_5, ew_6]; exact hP) (by rw [ew_1, ew_2, ew_3, ew_4, ew_5, ew_6]; exact hD) hS (by rw [fr_twR, (fr_in_t' (n := 4) (y := 3) rfl c_1 c_2), if_pos rfl, if_neg h2, if_pos ((nI_eq (a := md) (b := 20) (by omega) (by decide)).mp c_4)]) dX1_two_33
      · refine lv_bipush (v := (-3 : Int32)) hx hb dX1_two_19 (by decide) ?_
        have ew_1 : (if fr_twO p1 md ht then upd kd md (10 + p1) else kd) = kd := (if_neg (fr_twO_1 (Or.inr (Or.inl (Nat.not_le.mp (fun q => c_3 (nI_le (a := 2) q (by omega))))))))
        have ew_2 : (if fr_twO p1 md ht then upd lf md (sk (ht - 2)) else lf) = lf := (if_neg (fr_twO_1 (Or.inr (Or.inl (Nat.not_le.mp (fun q => c_3 (nI_le (a := 2) q (by omega))))))))
        have ew_3 : (if fr_twO p1 md ht then upd rt md (sk (ht - 2 + 1)) else rt) = rt := (if_neg (fr_twO_1 (Or.inr (Or.inl (Nat.not_le.mp (fun q => c_3 (nI_le (a := 2) q (by omega))))))))
        have ew_4 : (if fr_twO p1 md ht then md + 1 else md) = md := (if_neg (fr_twO_1 (Or.inr (Or.inl (Nat.not_le.mp (fun q => c_3 (nI_le (a := 2) q (by omega))))))))
        have ew_5 : (if fr_twO p1 md ht then upd sk (ht - 2) (nI md) else sk) = sk := (if_neg (fr_twO_1 (Or.inr (Or.inl (Nat.not_le.mp (fun q => c_3 (nI_le (a := 2) q (by omega))))))))
        have ew_6 : (if fr_twO p1 md ht then ht - 2 + 1 else ht) = ht := (if_neg (fr_twO_1 (Or.inr (Or.inl (Nat.not_le.mp (fun q => c_3 (nI_le (a := 2) q (by omega))))))))
        exact fr_reti () hx hb hr hlocks hK (by rw [ew_1, ew_2, ew_3, ew_4, ew_5, ew_6]; exact hP) (by rw [ew_1, ew_2, ew_3, ew_4, ew_5, ew_6]; exact hD) hS (by rw [fr_twR, (fr_in_t' (n := 4) (y := 3) rfl c_1 c_2), if_pos rfl, if_pos (Nat.not_le.mp (fun q => c_3 (nI_le (a := 2) q (by omega))))]) dX1_two_21
    · refine lv_iconst (v := (-1 : Int32)) hx hb dX1_two_9 (by decide) ?_
      have ew_1 : (if fr_twO p1 md ht then upd kd md (10 + p1) else kd) = kd := (if_neg (fr_twO_1 (Or.inl (fr_in_big' (n := 4) (y := 3) rfl (fr_nle c_2)))))
      have ew_2 : (if fr_twO p1 md ht then upd lf md (sk (ht - 2)) else lf) = lf := (if_neg (fr_twO_1 (Or.inl (fr_in_big' (n := 4) (y := 3) rfl (fr_nle c_2)))))
      have ew_3 : (if fr_twO p1 md ht then upd rt md (sk (ht - 2 + 1)) else rt) = rt := (if_neg (fr_twO_1 (Or.inl (fr_in_big' (n := 4) (y := 3) rfl (fr_nle c_2)))))
      have ew_4 : (if fr_twO p1 md ht then md + 1 else md) = md := (if_neg (fr_twO_1 (Or.inl (fr_in_big' (n := 4) (y := 3) rfl (fr_nle c_2)))))
      have ew_5 : (if fr_twO p1 md ht then upd sk (ht - 2) (nI md) else sk) = sk := (if_neg (fr_twO_1 (Or.inl (fr_in_big' (n := 4) (y := 3) rfl (fr_nle c_2)))))
      have ew_6 : (if fr_twO p1 md ht then ht - 2 + 1 else ht) = ht := (if_neg (fr_twO_1 (Or.inl (fr_in_big' (n := 4) (y := 3) rfl (fr_nle c_2)))))
      exact fr_reti () hx hb hr hlocks hK (by rw [ew_1, ew_2, ew_3, ew_4, ew_5, ew_6]; exact hP) (by rw [ew_1, ew_2, ew_3, ew_4, ew_5, ew_6]; exact hD) hS (by rw [fr_twR, (fr_in_big' (n := 4) (y := 3) rfl (fr_nle c_2))]; rfl) dX1_two_10
set_option maxHeartbeats 4000000 in
theorem met1_discard (l : Launch) (G : va_G) (h : Nat) (a : Nat → Nat) (d : ClassId) (sz : Nat) (to : Nat → Int32) (mk : Nat → Int32) (dm : Nat → Int32) (dn : Nat) (kd : Nat → Int32) (lf : Nat → Int32) (rt : Nat → Int32) (vl : Nat → Int32) (md : Nat) (sk : Nat → Int32) (ht : Nat) : fr_V l yX1_discard cX1_discard 1 ({ frames := 0, cells := 0, slots := 0, locals := 0 } : Room) [.ref (h)] G d sz (w1 h a d to mk dm dn kd lf rt vl md sk ht) (fun (u : Unit) => True) (fun (u : Unit) => (w1 h a d to mk dm dn kd lf rt vl 0 sk 0)) := by
  refine fr_startV RX1 rfl (by decide +kernel) (Nat.le_of_ble_eq_true rfl) ?_
  intro p e s m below meth c A ls hx hb hr hlocks hml hown hts hA hK hP hD hS hl
  have hl : lv_has ls 1 [(0, .ref (h))] := hl
  refine lv_aload_n hx hb dX1_discard_0 rfl (lv_at hl 0 rfl) ?_
  refine lv_iconst (v := (0 : Int32)) hx hb dX1_discard_1 (by decide) ?_
  refine fr_top (y := nI 0) rfl ?_
  refine va_put (D := G) (ci := 1) (v := .int (nI (0))) (ty := .int) (C := RX1) (T := TX1) (N := 11) hx hb hts in_X1 tyX1 tyX1_ok nmX1 hown hK hP hD hS 0 rfl rfl 10 (by decide) (hts _ q211) (fun _ h9 => h9) rfl (by decide +kernel) rfl rfl (Nat.le_of_ble_eq_true rfl) dX1_discard_2 (fun H locs hP hD hS => ?_)
  have hP : va_P G vwCl (w1 h a d to mk dm dn kd lf rt vl md sk 0) H := hP
  have hD : va_D A (w1 h a d to mk dm dn kd lf rt vl md sk 0) := hD
  refine lv_aload_n hx hb dX1_discard_5 rfl (lv_at hl 0 rfl) ?_
  refine lv_iconst (v := (0 : Int32)) hx hb dX1_discard_6 (by decide) ?_
  refine fr_top (y := nI 0) rfl ?_
  refine va_put (D := G) (ci := 1) (v := .int (nI (0))) (ty := .int) (C := RX1) (T := TX1) (N := 11) hx hb hts in_X1 tyX1 tyX1_ok nmX1 hown hK hP hD hS 0 rfl rfl 8 (by decide) (hts _ q209) (fun _ h9 => h9) rfl (by decide +kernel) rfl rfl (Nat.le_of_ble_eq_true rfl) dX1_discard_7 (fun H locs hP hD hS => ?_)
  have hP : va_P G vwCl (w1 h a d to mk dm dn kd lf rt vl 0 sk 0) H := hP
  have hD : va_D A (w1 h a d to mk dm dn kd lf rt vl 0 sk 0) := hD
  exact fr_retv () hx hb hr hlocks hK hP hD hS trivial dX1_discard_10
set_option maxHeartbeats 4000000 in
theorem met1_depth (l : Launch) (G : va_G) (h : Nat) (a : Nat → Nat) (d : ClassId) (sz : Nat) (to : Nat → Int32) (mk : Nat → Int32) (dm : Nat → Int32) (dn : Nat) (kd : Nat → Int32) (lf : Nat → Int32) (rt : Nat → Int32) (vl : Nat → Int32) (md : Nat) (sk : Nat → Int32) (ht : Nat) : fr_I l yX1_depth cX1_depth 1 (some .int) ({ frames := 0, cells := 0, slots := 0, locals := 0 } : Room) [.ref (h)] G d sz (w1 h a d to mk dm dn kd lf rt vl md sk ht) (fun (r : Int32) (u : Unit) => r = nI ht) (fun (u : Unit) => (w1 h a d to mk dm dn kd lf rt vl md sk ht)) := by
  refine fr_startI RX1 rfl (by decide +kernel) (Nat.le_of_ble_eq_true rfl) ?_
  intro p e s m below meth c A ls hx hb hr hlocks hml hown hts hA hK hP hD hS hl
  have hl : lv_has ls 1 [(0, .ref (h))] := hl
  refine lv_aload_n hx hb dX1_depth_0 rfl (lv_at hl 0 rfl) ?_
  refine va_get (D := G) (ci := 1) (v := .int (nI (ht))) (C := RX1) (T := TX1) (N := 11) hx hb hts in_X1 hown hK hP 0 rfl rfl 10 (by decide) (hts _ q211) (fun _ h9 => h9) rfl dX1_depth_1 ?_
  exact fr_reti () hx hb hr hlocks hK hP hD hS rfl dX1_depth_4
end
section
/-! the constructors -/
set_option maxRecDepth 100000
set_option maxHeartbeats 4000000 in
/-- FairRuns(): the object with its arrays, all zero -/
theorem met0_init (l : Launch) (G : va_G) (h : Nat) (sz : Nat) : Met l yX0_init (ws_ yX0_init cX0_init 1 none) ({ frames := 1, cells := 9, slots := 109, locals := 12 } : Room) (va_Pc [.ref h] (fun U => U.heap.size = sz ∧ va_P G vwCl [(h, .inr (0, [.null, .null, .int 0, .null, .int 0, .null, .null, .null, .null, .int 0, .null, .null]))] U.heap ∧ va_K G vwCl [] U ∧ va_D (fun _ => True) [(h, .inr (0, [.null, .null, .int 0, .null, .int 0, .null, .null, .null, .null, .int 0, .null, .null]))])) (va_Qv (fun (_ : (Nat → Nat) × ClassId) => True) (fun u => fr_B G u.2 (va_A [(h, .inr (0, [.null, .null, .int 0, .null, .int 0, .null, .null, .null, .null, .int 0, .null, .null]))] sz) (w0 h u.1 u.2 (fun _ => 0) (fun _ => 0) 0 (fun _ => 0) 0 (fun _ => 0) (fun _ => 0) (fun _ => 0) (fun _ => 0) 0 (fun _ => 0) (fun _ => 0))) (va_A [(h, .inr (0, [.null, .null, .int 0, .null, .int 0, .null, .null, .null, .null, .int 0, .null, .null]))] sz)) 9 109 (va_A [(h, .inr (0, [.null, .null, .int 0, .null, .int 0, .null, .null, .null, .null, .int 0, .null, .null]))] sz) := by
  refine Met.ofW (cc := cX0_init) (maxL := 1) (ret := none) (by decide +kernel) rfl ?_
  intro p e s m args below meth c s₁ B hml hv
  obtain ⟨rfl, hsz, hP, hK, hD0⟩ := hv
  have hx := B.exec
  have hb := B.bytes
  have hr := B.returns
  have hts := atoms_spec (ws := ws_ yX0_init cX0_init 1 none) B.pre
  have hts : ∀ w ∈ lw_all, w.before _ s = true := fun w h => hts w (List.mem_cons_of_mem _ h)
  have hown : s.vm.findClass RX0 = some m.cls := findClass_of_methodNamed B.named
  have hlocks := B.notSynchronized
  have hin : meth.name = "<init>" := (name_of_methodNamed B.named B.method).1
  subst hsz
  have hD := hD0.self (sz := s.heap.size)
  generalize hAe : va_A [(h, .inr (0, [.null, .null, .int 0, .null, .int 0, .null, .null, .null, .null, .int 0, .null, .null]))] s.heap.size = A at hD ⊢
  have hA : ∀ q : Nat, s.heap.size ≤ q → A q := fun q h => by rw [← hAe]; exact Or.inr h
  have hS : va_S A s.heap s.heap [] := va_S.rf
  have hl := lv_entry ([.ref h]) (n := 1) (Nat.le_of_ble_eq_true rfl)
  rw [lg_entry_eq]
  generalize (lg_sl ([.ref h]) ++ List.replicate (1 - (lg_sl ([.ref h])).length) Slot.unset).toArray = ls at hl ⊢
  have hl : lv_has ls 1 [(0, .ref h)] := hl
  refine lv_aload_n hx hb dX0_init_0 rfl (lv_at hl 0 rfl) ?_
  refine W.objInit hx hb hown (hts _ q34) (hts _ q35) (hts _ q36) rfl (by rw [hml]; exact hl.1) rfl dX0_init_1 (Nat.le_of_ble_eq_true rfl) (Nat.le_of_ble_eq_true rfl) ?_
  refine W.eq (g2 := F0 m 4 ls []) rfl ?_
  refine lv_aload_n hx hb dX0_init_4 rfl (lv_at hl 0 rfl) ?_
  refine lv_bipush (v := (8 : Int32)) hx hb dX0_init_5 (by decide) ?_
  refine va_newa (atype := .int) (a0 := (8, .inl (fun _ => 0))) hx hb (hts _ q74) rfl hK hP hD hS hA (fun cA => rfl) (by decide) rfl (by decide) (Nat.le_of_ble_eq_true rfl) (Nat.le_of_ble_eq_true rfl) dX0_init_7 (fun q0 c0 H hK hP hD hS => ?_)
  have hK : va_K G vwCl [(c0, .int)] s := hK
  have hP : va_P G vwCl [(h, .inr (0, [.null, .null, .int 0, .null, .int 0, .null, .null, .null, .null, .int 0, .null, .null])), (q0, .inl (c0, 8, .inl (fun _ => 0)))] H := hP
  have hD : va_D A [(h, .inr (0, [.null, .null, .int 0, .null, .int 0, .null, .null, .null, .null, .int 0, .null, .null])), (q0, .inl (c0, 8, .inl (fun _ => 0)))] := hD
  refine W.cs (cells' := 1) (slots' := 8) rfl rfl ?_
  refine va_putF (D := G) (ci := 0) (v := .ref q0) (ty := .array .int) (C := RX0) (T := TX0) (N := 12) hx hb hts in_X0 tyX0 tyX0_ok nmX0 hown hK hP hD hS 0 rfl rfl 0 (by decide) (hts _ q37) (fun _ h9 => h9) rfl hin rfl (by decide +kernel) rfl rfl (Nat.le_of_ble_eq_true rfl) dX0_init_9 (fun H locs hP hD hS => ?_)
  have hP : va_P G vwCl [(h, .inr (0, [.ref q0, .null, .int 0, .null, .int 0, .null, .null, .null, .null, .int 0, .null, .null])), (q0, .inl (c0, 8, .inl (fun _ => 0)))] H := hP
  have hD : va_D A [(h, .inr (0, [.ref q0, .null, .int 0, .null, .int 0, .null, .null, .null, .null, .int 0, .null, .null])), (q0, .inl (c0, 8, .inl (fun _ => 0)))] := hD
  refine lv_aload_n hx hb dX0_init_12 rfl (lv_at hl 0 rfl) ?_
  refine lv_iconst (v := (4 : Int32)) hx hb dX0_init_13 (by decide) ?_
  refine va_newa (atype := .int) (a0 := (4, .inl (fun _ => 0))) hx hb (hts _ q74) rfl hK hP hD hS hA (fun cA => rfl) (by decide) rfl (by decide) (Nat.le_of_ble_eq_true rfl) (Nat.le_of_ble_eq_true rfl) dX0_init_14 (fun q1 c1 H hK hP hD hS => ?_)
  have hK : va_K G vwCl [(c0, .int), (c1, .int)] s := hK
  have hP : va_P G vwCl [(h, .inr (0, [.ref q0, .null, .int 0, .null, .int 0, .null, .null, .null, .null, .int 0, .null, .null])), (q0, .inl (c0, 8, .inl (fun _ => 0))), (q1, .inl (c1, 4, .inl (fun _ => 0)))] H := hP
  have hD : va_D A [(h, .inr (0, [.ref q0, .null, .int 0, .null, .int 0, .null, .null, .null, .null, .int 0, .null, .null])), (q0, .inl (c0, 8, .inl (fun _ => 0))), (q1, .inl (c1, 4, .inl (fun _ => 0)))] := hD
  refine W.cs (cells' := 2) (slots' := 12) rfl rfl ?_
  refine va_putF (D := G) (ci := 0) (v := .ref q1) (ty := .array .int) (C := RX0) (T := TX0) (N := 12) hx hb hts in_X0 tyX0 tyX0_ok nmX0 hown hK hP hD hS 0 rfl rfl 1 (by decide) (hts _ q38) (fun _ h9 => h9) rfl hin rfl (by decide +kernel) rfl rfl (Nat.le_of_ble_eq_true rfl) dX0_init_16 (fun H locs hP hD hS => ?_)
  have hP : va_P G vwCl [(h, .inr (0, [.ref q0, .ref q1, .int 0, .null, .int 0, .null, .null, .null, .null, .int 0, .null, .null])), (q0, .inl (c0, 8, .inl (fun _ => 0))), (q1, .inl (c1, 4, .inl (fun _ => 0)))] H := hP
  have hD : va_D A [(h, .inr (0, [.ref q0, .ref q1, .int 0, .null, .int 0, .null, .null, .null, .null, .int 0, .null, .null])), (q0, .inl (c0, 8, .inl (fun _ => 0))), (q1, .inl (c1, 4, .inl (fun _ => 0)))] := hD
  refine lv_aload_n hx hb dX0_init_19 rfl (lv_at hl 0 rfl) ?_
  refine lv_iconst (v := (3 : Int32)) hx hb dX0_init_20 (by decide) ?_
  refine va_newa (atype := .int) (a0 := (3, .inl (fun _ => 0))) hx hb (hts _ q74) rfl hK hP hD hS hA (fun cA => rfl) (by decide) rfl (by decide) (Nat.le_of_ble_eq_true rfl) (Nat.le_of_ble_eq_true rfl) dX0_init_21 (fun q2 c2 H hK hP hD hS => ?_)
  have hK : va_K G vwCl [(c0, .int), (c1, .int), (c2, .int)] s := hK
  have hP : va_P G vwCl [(h, .inr (0, [.ref q0, .ref q1, .int 0, .null, .int 0, .null, .null, .null, .null, .int 0, .null, .null])), (q0, .inl (c0, 8, .inl (fun _ => 0))), (q1, .inl (c1, 4, .inl (fun _ => 0))), (q2, .inl (c2, 3, .inl (fun _ => 0)))] H := hP
  have hD : va_D A [(h, .inr (0, [.ref q0, .ref q1, .int 0, .null, .int 0, .null, .null, .null, .null, .int 0, .null, .null])), (q0, .inl (c0, 8, .inl (fun _ => 0))), (q1, .inl (c1, 4, .inl (fun _ => 0))), (q2, .inl (c2, 3, .inl (fun _ => 0)))] := hD
  refine W.cs (cells' := 3) (slots' := 15) rfl rfl ?_
  refine va_putF (D := G) (ci := 0) (v := .ref q2) (ty := .array .int) (C := RX0) (T := TX0) (N := 12) hx hb hts in_X0 tyX0 tyX0_ok nmX0 hown hK hP hD hS 0 rfl rfl 3 (by decide) (hts _ q40) (fun _ h9 => h9) rfl hin rfl (by decide +kernel) rfl rfl (Nat.le_of_ble_eq_true rfl) dX0_init_23 (fun H locs hP hD hS => ?_)
  have hP : va_P G vwCl [(h, .inr (0, [.ref q0, .ref q1, .int 0, .ref q2, .int 0, .null, .null, .null, .null, .int 0, .null, .null])), (q0, .inl (c0, 8, .inl (fun _ => 0))), (q1, .inl (c1, 4, .inl (fun _ => 0))), (q2, .inl (c2, 3, .inl (fun _ => 0)))] H := hP
  have hD : va_D A [(h, .inr (0, [.ref q0, .ref q1, .int 0, .ref q2, .int 0, .null, .null, .null, .null, .int 0, .null, .null])), (q0, .inl (c0, 8, .inl (fun _ => 0))), (q1, .inl (c1, 4, .inl (fun _ => 0))), (q2, .inl (c2, 3, .inl (fun _ => 0)))] := hD
  refine lv_aload_n hx hb dX0_init_26 rfl (lv_at hl 0 rfl) ?_
  refine lv_bipush (v := (20 : Int32)) hx hb dX0_init_27 (by decide) ?_
  refine va_newa (atype := .int) (a0 := (20, .inl (fun _ => 0))) hx hb (hts _ q74) rfl hK hP hD hS hA (fun cA => rfl) (by decide) rfl (by decide) (Nat.le_of_ble_eq_true rfl) (Nat.le_of_ble_eq_true rfl) dX0_init_29 (fun q3 c3 H hK hP hD hS => ?_)
  have hK : va_K G vwCl [(c0, .int), (c1, .int), (c2, .int), (c3, .int)] s := hK
  have hP : va_P G vwCl [(h, .inr (0, [.ref q0, .ref q1, .int 0, .ref q2, .int 0, .null, .null, .null, .null, .int 0, .null, .null])), (q0, .inl (c0, 8, .inl (fun _ => 0))), (q1, .inl (c1, 4, .inl (fun _ => 0))), (q2, .inl (c2, 3, .inl (fun _ => 0))), (q3, .inl (c3, 20, .inl (fun _ => 0)))] H := hP
  have hD : va_D A [(h, .inr (0, [.ref q0, .ref q1, .int 0, .ref q2, .int 0, .null, .null, .null, .null, .int 0, .null, .null])), (q0, .inl (c0, 8, .inl (fun _ => 0))), (q1, .inl (c1, 4, .inl (fun _ => 0))), (q2, .inl (c2, 3, .inl (fun _ => 0))), (q3, .inl (c3, 20, .inl (fun _ => 0)))] := hD
  refine W.cs (cells' := 4) (slots' := 35) rfl rfl ?_
  refine va_putF (D := G) (ci := 0) (v := .ref q3) (ty := .array .int) (C := RX0) (T := TX0) (N := 12) hx hb hts in_X0 tyX0 tyX0_ok nmX0 hown hK hP hD hS 0 rfl rfl 5 (by decide) (hts _ q42) (fun _ h9 => h9) rfl hin rfl (by decide +kernel) rfl rfl (Nat.le_of_ble_eq_true rfl) dX0_init_31 (fun H locs hP hD hS => ?_)
  have hP : va_P G vwCl [(h, .inr (0, [.ref q0, .ref q1, .int 0, .ref q2, .int 0, .ref q3, .null, .null, .null, .int 0, .null, .null])), (q0, .inl (c0, 8, .inl (fun _ => 0))), (q1, .inl (c1, 4, .inl (fun _ => 0))), (q2, .inl (c2, 3, .inl (fun _ => 0))), (q3, .inl (c3, 20, .inl (fun _ => 0)))] H := hP
  have hD : va_D A [(h, .inr (0, [.ref q0, .ref q1, .int 0, .ref q2, .int 0, .ref q3, .null, .null, .null, .int 0, .null, .null])), (q0, .inl (c0, 8, .inl (fun _ => 0))), (q1, .inl (c1, 4, .inl (fun _ => 0))), (q2, .inl (c2, 3, .inl (fun _ => 0))), (q3, .inl (c3, 20, .inl (fun _ => 0)))] := hD
  refine lv_aload_n hx hb dX0_init_34 rfl (lv_at hl 0 rfl) ?_
  refine lv_bipush (v := (20 : Int32)) hx hb dX0_init_35 (by decide) ?_
  refine va_newa (atype := .int) (a0 := (20, .inl (fun _ => 0))) hx hb (hts _ q74) rfl hK hP hD hS hA (fun cA => rfl) (by decide) rfl (by decide) (Nat.le_of_ble_eq_true rfl) (Nat.le_of_ble_eq_true rfl) dX0_init_37 (fun q4 c4 H hK hP hD hS => ?_)
  have hK : va_K G vwCl [(c0, .int), (c1, .int), (c2, .int), (c3, .int), (c4, .int)] s := hK
  have hP : va_P G vwCl [(h, .inr (0, [.ref q0, .ref q1, .int 0, .ref q2, .int 0, .ref q3, .null, .null, .null, .int 0, .null, .null])), (q0, .inl (c0, 8, .inl (fun _ => 0))), (q1, .inl (c1, 4, .inl (fun _ => 0))), (q2, .inl (c2, 3, .inl (fun _ => 0))), (q3, .inl (c3, 20, .inl (fun _ => 0))), (q4, .inl (c4, 20, .inl (fun _ => 0)))] H := hP
  have hD : va_D A [(h, .inr (0, [.ref q0, .ref q1, .int 0, .ref q2, .int 0, .ref q3, .null, .null, .null, .int 0, .null, .null])), (q0, .inl (c0, 8, .inl (fun _ => 0))), (q1, .inl (c1, 4, .inl (fun _ => 0))), (q2, .inl (c2, 3, .inl (fun _ => 0))), (q3, .inl (c3, 20, .inl (fun _ => 0))), (q4, .inl (c4, 20, .inl (fun _ => 0)))] := hD
  refine W.cs (cells' := 5) (slots' := 55) rfl rfl ?_
  refine va_putF (D := G) (ci := 0) (v := .ref q4) (ty := .array .int) (C := RX0) (T := TX0) (N := 12) hx hb hts in_X0 tyX0 tyX0_ok nmX0 hown hK hP hD hS 0 rfl rfl 6 (by decide) (hts _ q43) (fun _ h9 => h9) rfl hin rfl (by decide +kernel) rfl rfl (Nat.le_of_ble_eq_true rfl) dX0_init_39 (fun H locs hP hD hS => ?_)
  have hP : va_P G vwCl [(h, .inr (0, [.ref q0, .ref q1, .int 0, .ref q2, .int 0, .ref q3, .ref q4, .null, .null, .int 0, .null, .null])), (q0, .inl (c0, 8, .inl (fun _ => 0))), (q1, .inl (c1, 4, .inl (fun _ => 0))), (q2, .inl (c2, 3, .inl (fun _ => 0))), (q3, .inl (c3, 20, .inl (fun _ => 0))), (q4, .inl (c4, 20, .inl (fun _ => 0)))] H := hP
  have hD : va_D A [(h, .inr (0, [.ref q0, .ref q1, .int 0, .ref q2, .int 0, .ref q3, .ref q4, .null, .null, .int 0, .null, .null])), (q0, .inl (c0, 8, .inl (fun _ => 0))), (q1, .inl (c1, 4, .inl (fun _ => 0))), (q2, .inl (c2, 3, .inl (fun _ => 0))), (q3, .inl (c3, 20, .inl (fun _ => 0))), (q4, .inl (c4, 20, .inl (fun _ => 0)))] := hD
  refine lv_aload_n hx hb dX0_init_42 rfl (lv_at hl 0 rfl) ?_
  refine lv_bipush (v := (20 : Int32)) hx hb dX0_init_43 (by decide) ?_
  refine va_newa (atype := .int) (a0 := (20, .inl (fun _ => 0))) hx hb (hts _ q74) rfl hK hP hD hS hA (fun cA => rfl) (by decide) rfl (by decide) (Nat.le_of_ble_eq_true rfl) (Nat.le_of_ble_eq_true rfl) dX0_init_45 (fun q5 c5 H hK hP hD hS => ?_)
  have hK : va_K G vwCl [(c0, .int), (c1, .int), (c2, .int), (c3, .int), (c4, .int), (c5, .int)] s := hK
  have hP : va_P G vwCl [(h, .inr (0, [.ref q0, .ref q1, .int 0, .ref q2, .int 0, .ref q3, .ref q4, .null, .null, .int 0, .null, .null])), (q0, .inl (c0, 8, .inl (fun _ => 0))), (q1, .inl (c1, 4, .inl (fun _ => 0))), (q2, .inl (c2, 3, .inl (fun _ => 0))), (q3, .inl (c3, 20, .inl (fun _ => 0))), (q4, .inl (c4, 20, .inl (fun _ => 0))), (q5, .inl (c5, 20, .inl (fun _ => 0)))] H := hP
  have hD : va_D A [(h, .inr (0, [.ref q0, .ref q1, .int 0, .ref q2, .int 0, .ref q3, .ref q4, .null, .null, .int 0, .null, .null])), (q0, .inl (c0, 8, .inl (fun _ => 0))), (q1, .inl (c1, 4, .inl (fun _ => 0))), (q2, .inl (c2, 3, .inl (fun _ => 0))), (q3, .inl (c3, 20, .inl (fun _ => 0))), (q4, .inl (c4, 20, .inl (fun _ => 0))), (q5, .inl (c5, 20, .inl (fun _ => 0)))] := hD
  refine W.cs (cells' := 6) (slots' := 75) rfl rfl ?_
  refine va_putF (D := G) (ci := 0) (v := .ref q5) (ty := .array .int) (C := RX0) (T := TX0) (N := 12) hx hb hts in_X0 tyX0 tyX0_ok nmX0 hown hK hP hD hS 0 rfl rfl 7 (by decide) (hts _ q44) (fun _ h9 => h9) rfl hin rfl (by decide +kernel) rfl rfl (Nat.le_of_ble_eq_true rfl) dX0_init_47 (fun H locs hP hD hS => ?_)
  have hP : va_P G vwCl [(h, .inr (0, [.ref q0, .ref q1, .int 0, .ref q2, .int 0, .ref q3, .ref q4, .ref q5, .null, .int 0, .null, .null])), (q0, .inl (c0, 8, .inl (fun _ => 0))), (q1, .inl (c1, 4, .inl (fun _ => 0))), (q2, .inl (c2, 3, .inl (fun _ => 0))), (q3, .inl (c3, 20, .inl (fun _ => 0))), (q4, .inl (c4, 20, .inl (fun _ => 0))), (q5, .inl (c5, 20, .inl (fun _ => 0)))] H := hP
  have hD : va_D A [(h, .inr (0, [.ref q0, .ref q1, .int 0, .ref q2, .int 0, .ref q3, .ref q4, .ref q5, .null, .int 0, .null, .null])), (q0, .inl (c0, 8, .inl (fun _ => 0))), (q1, .inl (c1, 4, .inl (fun _ => 0))), (q2, .inl (c2, 3, .inl (fun _ => 0))), (q3, .inl (c3, 20, .inl (fun _ => 0))), (q4, .inl (c4, 20, .inl (fun _ => 0))), (q5, .inl (c5, 20, .inl (fun _ => 0)))] := hD
  refine lv_aload_n hx hb dX0_init_50 rfl (lv_at hl 0 rfl) ?_
  refine lv_bipush (v := (20 : Int32)) hx hb dX0_init_51 (by decide) ?_
  refine va_newa (atype := .int) (a0 := (20, .inl (fun _ => 0))) hx hb (hts _ q74) rfl hK hP hD hS hA (fun cA => rfl) (by decide) rfl (by decide) (Nat.le_of_ble_eq_true rfl) (Nat.le_of_ble_eq_true rfl) dX0_init_53 (fun q6 c6 H hK hP hD hS => ?_)
  have hK : va_K G vwCl [(c0, .int), (c1, .int), (c2, .int), (c3, .int), (c4, .int), (c5, .int), (c6, .int)] s := hK
  have hP : va_P G vwCl [(h, .inr (0, [.ref q0, .ref q1, .int 0, .ref q2, .int 0, .ref q3, .ref q4, .ref q5, .null, .int 0, .null, .null])), (q0, .inl (c0, 8, .inl (fun _ => 0))), (q1, .inl (c1, 4, .inl (fun _ => 0))), (q2, .inl (c2, 3, .inl (fun _ => 0))), (q3, .inl (c3, 20, .inl (fun _ => 0))), (q4, .inl (c4, 20, .inl (fun _ => 0))), (q5, .inl (c5, 20, .inl (fun _ => 0))), (q6, .inl (c6, 20, .inl (fun _ => 0)))] H := hP
  have hD : va_D A [(h, .inr (0, [.ref q0, .ref q1, .int 0, .ref q2, .int 0, .ref q3, .ref q4, .ref q5, .null, .int 0, .null, .null])), (q0, .inl (c0, 8, .inl (fun _ => 0))), (q1, .inl (c1, 4, .inl (fun _ => 0))), (q2, .inl (c2, 3, .inl (fun _ => 0))), (q3, .inl (c3, 20, .inl (fun _ => 0))), (q4, .inl (c4, 20, .inl (fun _ => 0))), (q5, .inl (c5, 20, .inl (fun _ => 0))), (q6, .inl (c6, 20, .inl (fun _ => 0)))] := hD
  refine W.cs (cells' := 7) (slots' := 95) rfl rfl ?_
  refine va_putF (D := G) (ci := 0) (v := .ref q6) (ty := .array .int) (C := RX0) (T := TX0) (N := 12) hx hb hts in_X0 tyX0 tyX0_ok nmX0 hown hK hP hD hS 0 rfl rfl 8 (by decide) (hts _ q45) (fun _ h9 => h9) rfl hin rfl (by decide +kernel) rfl rfl (Nat.le_of_ble_eq_true rfl) dX0_init_55 (fun H locs hP hD hS => ?_)
  have hP : va_P G vwCl [(h, .inr (0, [.ref q0, .ref q1, .int 0, .ref q2, .int 0, .ref q3, .ref q4, .ref q5, .ref q6, .int 0, .null, .null])), (q0, .inl (c0, 8, .inl (fun _ => 0))), (q1, .inl (c1, 4, .inl (fun _ => 0))), (q2, .inl (c2, 3, .inl (fun _ => 0))), (q3, .inl (c3, 20, .inl (fun _ => 0))), (q4, .inl (c4, 20, .inl (fun _ => 0))), (q5, .inl (c5, 20, .inl (fun _ => 0))), (q6, .inl (c6, 20, .inl (fun _ => 0)))] H := hP
  have hD : va_D A [(h, .inr (0, [.ref q0, .ref q1, .int 0, .ref q2, .int 0, .ref q3, .ref q4, .ref q5, .ref q6, .int 0, .null, .null])), (q0, .inl (c0, 8, .inl (fun _ => 0))), (q1, .inl (c1, 4, .inl (fun _ => 0))), (q2, .inl (c2, 3, .inl (fun _ => 0))), (q3, .inl (c3, 20, .inl (fun _ => 0))), (q4, .inl (c4, 20, .inl (fun _ => 0))), (q5, .inl (c5, 20, .inl (fun _ => 0))), (q6, .inl (c6, 20, .inl (fun _ => 0)))] := hD
  refine lv_aload_n hx hb dX0_init_58 rfl (lv_at hl 0 rfl) ?_
  refine lv_bipush (v := (6 : Int32)) hx hb dX0_init_59 (by decide) ?_
  refine va_newa (atype := .int) (a0 := (6, .inl (fun _ => 0))) hx hb (hts _ q74) rfl hK hP hD hS hA (fun cA => rfl) (by decide) rfl (by decide) (Nat.le_of_ble_eq_true rfl) (Nat.le_of_ble_eq_true rfl) dX0_init_61 (fun q7 c7 H hK hP hD hS => ?_)
  have hK : va_K G vwCl [(c0, .int), (c1, .int), (c2, .int), (c3, .int), (c4, .int), (c5, .int), (c6, .int), (c7, .int)] s := hK
  have hP : va_P G vwCl [(h, .inr (0, [.ref q0, .ref q1, .int 0, .ref q2, .int 0, .ref q3, .ref q4, .ref q5, .ref q6, .int 0, .null, .null])), (q0, .inl (c0, 8, .inl (fun _ => 0))), (q1, .inl (c1, 4, .inl (fun _ => 0))), (q2, .inl (c2, 3, .inl (fun _ => 0))), (q3, .inl (c3, 20, .inl (fun _ => 0))), (q4, .inl (c4, 20, .inl (fun _ => 0))), (q5, .inl (c5, 20, .inl (fun _ => 0))), (q6, .inl (c6, 20, .inl (fun _ => 0))), (q7, .inl (c7, 6, .inl (fun _ => 0)))] H := hP
  have hD : va_D A [(h, .inr (0, [.ref q0, .ref q1, .int 0, .ref q2, .int 0, .ref q3, .ref q4, .ref q5, .ref q6, .int 0, .null, .null])), (q0, .inl (c0, 8, .inl (fun _ => 0))), (q1, .inl (c1, 4, .inl (fun _ => 0))), (q2, .inl (c2, 3, .inl (fun _ => 0))), (q3, .inl (c3, 20, .inl (fun _ => 0))), (q4, .inl (c4, 20, .inl (fun _ => 0))), (q5, .inl (c5, 20, .inl (fun _ => 0))), (q6, .inl (c6, 20, .inl (fun _ => 0))), (q7, .inl (c7, 6, .inl (fun _ => 0)))] := hD
  refine W.cs (cells' := 8) (slots' := 101) rfl rfl ?_
  refine va_putF (D := G) (ci := 0) (v := .ref q7) (ty := .array .int) (C := RX0) (T := TX0) (N := 12) hx hb hts in_X0 tyX0 tyX0_ok nmX0 hown hK hP hD hS 0 rfl rfl 10 (by decide) (hts _ q47) (fun _ h9 => h9) rfl hin rfl (by decide +kernel) rfl rfl (Nat.le_of_ble_eq_true rfl) dX0_init_63 (fun H locs hP hD hS => ?_)
  have hP : va_P G vwCl [(h, .inr (0, [.ref q0, .ref q1, .int 0, .ref q2, .int 0, .ref q3, .ref q4, .ref q5, .ref q6, .int 0, .ref q7, .null])), (q0, .inl (c0, 8, .inl (fun _ => 0))), (q1, .inl (c1, 4, .inl (fun _ => 0))), (q2, .inl (c2, 3, .inl (fun _ => 0))), (q3, .inl (c3, 20, .inl (fun _ => 0))), (q4, .inl (c4, 20, .inl (fun _ => 0))), (q5, .inl (c5, 20, .inl (fun _ => 0))), (q6, .inl (c6, 20, .inl (fun _ => 0))), (q7, .inl (c7, 6, .inl (fun _ => 0)))] H := hP
  have hD : va_D A [(h, .inr (0, [.ref q0, .ref q1, .int 0, .ref q2, .int 0, .ref q3, .ref q4, .ref q5, .ref q6, .int 0, .ref q7, .null])), (q0, .inl (c0, 8, .inl (fun _ => 0))), (q1, .inl (c1, 4, .inl (fun _ => 0))), (q2, .inl (c2, 3, .inl (fun _ => 0))), (q3, .inl (c3, 20, .inl (fun _ => 0))), (q4, .inl (c4, 20, .inl (fun _ => 0))), (q5, .inl (c5, 20, .inl (fun _ => 0))), (q6, .inl (c6, 20, .inl (fun _ => 0))), (q7, .inl (c7, 6, .inl (fun _ => 0)))] := hD
  refine lv_aload_n hx hb dX0_init_66 rfl (lv_at hl 0 rfl) ?_
  refine lv_bipush (v := (8 : Int32)) hx hb dX0_init_67 (by decide) ?_
  refine va_newa (atype := .int) (a0 := (8, .inl (fun _ => 0))) hx hb (hts _ q74) rfl hK hP hD hS hA (fun cA => rfl) (by decide) rfl (by decide) (Nat.le_of_ble_eq_true rfl) (Nat.le_of_ble_eq_true rfl) dX0_init_69 (fun q8 c8 H hK hP hD hS => ?_)
  have hK : va_K G vwCl [(c0, .int), (c1, .int), (c2, .int), (c3, .int), (c4, .int), (c5, .int), (c6, .int), (c7, .int), (c8, .int)] s := hK
  have hP : va_P G vwCl [(h, .inr (0, [.ref q0, .ref q1, .int 0, .ref q2, .int 0, .ref q3, .ref q4, .ref q5, .ref q6, .int 0, .ref q7, .null])), (q0, .inl (c0, 8, .inl (fun _ => 0))), (q1, .inl (c1, 4, .inl (fun _ => 0))), (q2, .inl (c2, 3, .inl (fun _ => 0))), (q3, .inl (c3, 20, .inl (fun _ => 0))), (q4, .inl (c4, 20, .inl (fun _ => 0))), (q5, .inl (c5, 20, .inl (fun _ => 0))), (q6, .inl (c6, 20, .inl (fun _ => 0))), (q7, .inl (c7, 6, .inl (fun _ => 0))), (q8, .inl (c8, 8, .inl (fun _ => 0)))] H := hP
  have hD : va_D A [(h, .inr (0, [.ref q0, .ref q1, .int 0, .ref q2, .int 0, .ref q3, .ref q4, .ref q5, .ref q6, .int 0, .ref q7, .null])), (q0, .inl (c0, 8, .inl (fun _ => 0))), (q1, .inl (c1, 4, .inl (fun _ => 0))), (q2, .inl (c2, 3, .inl (fun _ => 0))), (q3, .inl (c3, 20, .inl (fun _ => 0))), (q4, .inl (c4, 20, .inl (fun _ => 0))), (q5, .inl (c5, 20, .inl (fun _ => 0))), (q6, .inl (c6, 20, .inl (fun _ => 0))), (q7, .inl (c7, 6, .inl (fun _ => 0))), (q8, .inl (c8, 8, .inl (fun _ => 0)))] := hD
  refine W.cs (cells' := 9) (slots' := 109) rfl rfl ?_
  refine va_putF (D := G) (ci := 0) (v := .ref q8) (ty := .array .int) (C := RX0) (T := TX0) (N := 12) hx hb hts in_X0 tyX0 tyX0_ok nmX0 hown hK hP hD hS 0 rfl rfl 11 (by decide) (hts _ q48) (fun _ h9 => h9) rfl hin rfl (by decide +kernel) rfl rfl (Nat.le_of_ble_eq_true rfl) dX0_init_71 (fun H locs hP hD hS => ?_)
  have hP : va_P G vwCl [(h, .inr (0, [.ref q0, .ref q1, .int 0, .ref q2, .int 0, .ref q3, .ref q4, .ref q5, .ref q6, .int 0, .ref q7, .ref q8])), (q0, .inl (c0, 8, .inl (fun _ => 0))), (q1, .inl (c1, 4, .inl (fun _ => 0))), (q2, .inl (c2, 3, .inl (fun _ => 0))), (q3, .inl (c3, 20, .inl (fun _ => 0))), (q4, .inl (c4, 20, .inl (fun _ => 0))), (q5, .inl (c5, 20, .inl (fun _ => 0))), (q6, .inl (c6, 20, .inl (fun _ => 0))), (q7, .inl (c7, 6, .inl (fun _ => 0))), (q8, .inl (c8, 8, .inl (fun _ => 0)))] H := hP
  have hD : va_D A [(h, .inr (0, [.ref q0, .ref q1, .int 0, .ref q2, .int 0, .ref q3, .ref q4, .ref q5, .ref q6, .int 0, .ref q7, .ref q8])), (q0, .inl (c0, 8, .inl (fun _ => 0))), (q1, .inl (c1, 4, .inl (fun _ => 0))), (q2, .inl (c2, 3, .inl (fun _ => 0))), (q3, .inl (c3, 20, .inl (fun _ => 0))), (q4, .inl (c4, 20, .inl (fun _ => 0))), (q5, .inl (c5, 20, .inl (fun _ => 0))), (q6, .inl (c6, 20, .inl (fun _ => 0))), (q7, .inl (c7, 6, .inl (fun _ => 0))), (q8, .inl (c8, 8, .inl (fun _ => 0)))] := hD
  have e1 : c1 = c0 := Option.some.inj ((va_nm_int (hK.2 1 _ rfl).2).symm.trans (va_nm_int (hK.2 0 _ rfl).2))
  have e2 : c2 = c0 := Option.some.inj ((va_nm_int (hK.2 2 _ rfl).2).symm.trans (va_nm_int (hK.2 0 _ rfl).2))
  have e3 : c3 = c0 := Option.some.inj ((va_nm_int (hK.2 3 _ rfl).2).symm.trans (va_nm_int (hK.2 0 _ rfl).2))
  have e4 : c4 = c0 := Option.some.inj ((va_nm_int (hK.2 4 _ rfl).2).symm.trans (va_nm_int (hK.2 0 _ rfl).2))
  have e5 : c5 = c0 := Option.some.inj ((va_nm_int (hK.2 5 _ rfl).2).symm.trans (va_nm_int (hK.2 0 _ rfl).2))
  have e6 : c6 = c0 := Option.some.inj ((va_nm_int (hK.2 6 _ rfl).2).symm.trans (va_nm_int (hK.2 0 _ rfl).2))
  have e7 : c7 = c0 := Option.some.inj ((va_nm_int (hK.2 7 _ rfl).2).symm.trans (va_nm_int (hK.2 0 _ rfl).2))
  have e8 : c8 = c0 := Option.some.inj ((va_nm_int (hK.2 8 _ rfl).2).symm.trans (va_nm_int (hK.2 0 _ rfl).2))
  rw [e1, e2, e3, e4, e5, e6, e7, e8] at hP hD
  have hK9 := hK.sub (tys' := [(c0, .int)]) [0] rfl
  have hP9 : va_P G vwCl (w0 h (fun k => match k with | 0 => q0 | 1 => q1 | 3 => q2 | 5 => q3 | 6 => q4 | 7 => q5 | 8 => q6 | 10 => q7 | _ => q8) c0 (fun _ => 0) (fun _ => 0) 0 (fun _ => 0) 0 (fun _ => 0) (fun _ => 0) (fun _ => 0) (fun _ => 0) 0 (fun _ => 0) (fun _ => 0)) H := hP
  have hD9 : va_D A (w0 h (fun k => match k with | 0 => q0 | 1 => q1 | 3 => q2 | 5 => q3 | 6 => q4 | 7 => q5 | 8 => q6 | 10 => q7 | _ => q8) c0 (fun _ => 0) (fun _ => 0) 0 (fun _ => 0) 0 (fun _ => 0) (fun _ => 0) (fun _ => 0) (fun _ => 0) 0 (fun _ => 0) (fun _ => 0)) := hD
  exact W.vret hx hb hr (fun t ht hW => ⟨⟨((fun k => match k with | 0 => q0 | 1 => q1 | 3 => q2 | 5 => q3 | 6 => q4 | 7 => q5 | 8 => q6 | 10 => q7 | _ => q8), c0), rfl, trivial, by rw [ht]; exact hP9, va_K.moved hW.alike hK9, hD9⟩, hS.F ht⟩) hS.2.2 dX0_init_74
set_option maxHeartbeats 4000000 in
/-- FairRunsModel(): the object with its arrays, all zero -/
theorem met1_init (l : Launch) (G : va_G) (h : Nat) (sz : Nat) : Met l yX1_init (ws_ yX1_init cX1_init 1 none) ({ frames := 1, cells := 8, slots := 101, locals := 12 } : Room) (va_Pc [.ref h] (fun U => U.heap.size = sz ∧ va_P G vwCl [(h, .inr (1, [.null, .null, .null, .int 0, .null, .null, .null, .null, .int 0, .null, .int 0]))] U.heap ∧ va_K G vwCl [] U ∧ va_D (fun _ => True) [(h, .inr (1, [.null, .null, .null, .int 0, .null, .null, .null, .null, .int 0, .null, .int 0]))])) (va_Qv (fun (_ : (Nat → Nat) × ClassId) => True) (fun u => fr_B G u.2 (va_A [(h, .inr (1, [.null, .null, .null, .int 0, .null, .null, .null, .null, .int 0, .null, .int 0]))] sz) (w1 h u.1 u.2 (fun _ => 0) (fun _ => 0) (fun _ => 0) 0 (fun _ => 0) (fun _ => 0) (fun _ => 0) (fun _ => 0) 0 (fun _ => 0) 0)) (va_A [(h, .inr (1, [.null, .null, .null, .int 0, .null, .null, .null, .null, .int 0, .null, .int 0]))] sz)) 8 101 (va_A [(h, .inr (1, [.null, .null, .null, .int 0, .null, .null, .null, .null, .int 0, .null, .int 0]))] sz) := by
  refine Met.ofW (cc := cX1_init) (maxL := 1) (ret := none) (by decide +kernel) rfl ?_
  intro p e s m args below meth c s₁ B hml hv
  obtain ⟨rfl, hsz, hP, hK, hD0⟩ := hv
  have hx := B.exec
  have hb := B.bytes
  have hr := B.returns
  have hts := atoms_spec (ws := ws_ yX1_init cX1_init 1 none) B.pre
  have hts : ∀ w ∈ lw_all, w.before _ s = true := fun w h => hts w (List.mem_cons_of_mem _ h)
  have hown : s.vm.findClass RX1 = some m.cls := findClass_of_methodNamed B.named
  have hlocks := B.notSynchronized
  have hin : meth.name = "<init>" := (name_of_methodNamed B.named B.method).1
  subst hsz
  have hD := hD0.self (sz := s.heap.size)
  generalize hAe : va_A [(h, .inr (1, [.null, .null, .null, .int 0, .null, .null, .null, .null, .int 0, .null, .int 0]))] s.heap.size = A at hD ⊢
  have hA : ∀ q : Nat, s.heap.size ≤ q → A q := fun q h => by rw [← hAe]; exact Or.inr h
  have hS : va_S A s.heap s.heap [] := va_S.rf
  have hl := lv_entry ([.ref h]) (n := 1) (Nat.le_of_ble_eq_true rfl)
  rw [lg_entry_eq]
  generalize (lg_sl ([.ref h]) ++ List.replicate (1 - (lg_sl ([.ref h])).length) Slot.unset).toArray = ls at hl ⊢
  have hl : lv_has ls 1 [(0, .ref h)] := hl
  refine lv_aload_n hx hb dX1_init_0 rfl (lv_at hl 0 rfl) ?_
  refine W.objInit hx hb hown (hts _ q200) (hts _ q35) (hts _ q36) rfl (by rw [hml]; exact hl.1) rfl dX1_init_1 (Nat.le_of_ble_eq_true rfl) (Nat.le_of_ble_eq_true rfl) ?_
  refine W.eq (g2 := F0 m 4 ls []) rfl ?_
  refine lv_aload_n hx hb dX1_init_4 rfl (lv_at hl 0 rfl) ?_
  refine lv_bipush (v := (8 : Int32)) hx hb dX1_init_5 (by decide) ?_
  refine va_newa (atype := .int) (a0 := (8, .inl (fun _ => 0))) hx hb (hts _ q74) rfl hK hP hD hS hA (fun cA => rfl) (by decide) rfl (by decide) (Nat.le_of_ble_eq_true rfl) (Nat.le_of_ble_eq_true rfl) dX1_init_7 (fun q0 c0 H hK hP hD hS => ?_)
  have hK : va_K G vwCl [(c0, .int)] s := hK
  have hP : va_P G vwCl [(h, .inr (1, [.null, .null, .null, .int 0, .null, .null, .null, .null, .int 0, .null, .int 0])), (q0, .inl (c0, 8, .inl (fun _ => 0)))] H := hP
  have hD : va_D A [(h, .inr (1, [.null, .null, .null, .int 0, .null, .null, .null, .null, .int 0, .null, .int 0])), (q0, .inl (c0, 8, .inl (fun _ => 0)))] := hD
  refine W.cs (cells' := 1) (slots' := 8) rfl rfl ?_
  refine va_putF (D := G) (ci := 1) (v := .ref q0) (ty := .array .int) (C := RX1) (T := TX1) (N := 11) hx hb hts in_X1 tyX1 tyX1_ok nmX1 hown hK hP hD hS 0 rfl rfl 0 (by decide) (hts _ q201) (fun _ h9 => h9) rfl hin rfl (by decide +kernel) rfl rfl (Nat.le_of_ble_eq_true rfl) dX1_init_9 (fun H locs hP hD hS => ?_)
  have hP : va_P G vwCl [(h, .inr (1, [.ref q0, .null, .null, .int 0, .null, .null, .null, .null, .int 0, .null, .int 0])), (q0, .inl (c0, 8, .inl (fun _ => 0)))] H := hP
  have hD : va_D A [(h, .inr (1, [.ref q0, .null, .null, .int 0, .null, .null, .null, .null, .int 0, .null, .int 0])), (q0, .inl (c0, 8, .inl (fun _ => 0)))] := hD
  refine lv_aload_n hx hb dX1_init_12 rfl (lv_at hl 0 rfl) ?_
  refine lv_iconst (v := (4 : Int32)) hx hb dX1_init_13 (by decide) ?_
  refine va_newa (atype := .int) (a0 := (4, .inl (fun _ => 0))) hx hb (hts _ q74) rfl hK hP hD hS hA (fun cA => rfl) (by decide) rfl (by decide) (Nat.le_of_ble_eq_true rfl) (Nat.le_of_ble_eq_true rfl) dX1_init_14 (fun q1 c1 H hK hP hD hS => ?_)
  have hK : va_K G vwCl [(c0, .int), (c1, .int)] s := hK
  have hP : va_P G vwCl [(h, .inr (1, [.ref q0, .null, .null, .int 0, .null, .null, .null, .null, .int 0, .null, .int 0])), (q0, .inl (c0, 8, .inl (fun _ => 0))), (q1, .inl (c1, 4, .inl (fun _ => 0)))] H := hP
  have hD : va_D A [(h, .inr (1, [.ref q0, .null, .null, .int 0, .null, .null, .null, .null, .int 0, .null, .int 0])), (q0, .inl (c0, 8, .inl (fun _ => 0))), (q1, .inl (c1, 4, .inl (fun _ => 0)))] := hD
  refine W.cs (cells' := 2) (slots' := 12) rfl rfl ?_
  refine va_putF (D := G) (ci := 1) (v := .ref q1) (ty := .array .int) (C := RX1) (T := TX1) (N := 11) hx hb hts in_X1 tyX1 tyX1_ok nmX1 hown hK hP hD hS 0 rfl rfl 1 (by decide) (hts _ q202) (fun _ h9 => h9) rfl hin rfl (by decide +kernel) rfl rfl (Nat.le_of_ble_eq_true rfl) dX1_init_16 (fun H locs hP hD hS => ?_)
  have hP : va_P G vwCl [(h, .inr (1, [.ref q0, .ref q1, .null, .int 0, .null, .null, .null, .null, .int 0, .null, .int 0])), (q0, .inl (c0, 8, .inl (fun _ => 0))), (q1, .inl (c1, 4, .inl (fun _ => 0)))] H := hP
  have hD : va_D A [(h, .inr (1, [.ref q0, .ref q1, .null, .int 0, .null, .null, .null, .null, .int 0, .null, .int 0])), (q0, .inl (c0, 8, .inl (fun _ => 0))), (q1, .inl (c1, 4, .inl (fun _ => 0)))] := hD
  refine lv_aload_n hx hb dX1_init_19 rfl (lv_at hl 0 rfl) ?_
  refine lv_iconst (v := (3 : Int32)) hx hb dX1_init_20 (by decide) ?_
  refine va_newa (atype := .int) (a0 := (3, .inl (fun _ => 0))) hx hb (hts _ q74) rfl hK hP hD hS hA (fun cA => rfl) (by decide) rfl (by decide) (Nat.le_of_ble_eq_true rfl) (Nat.le_of_ble_eq_true rfl) dX1_init_21 (fun q2 c2 H hK hP hD hS => ?_)
  have hK : va_K G vwCl [(c0, .int), (c1, .int), (c2, .int)] s := hK
  have hP : va_P G vwCl [(h, .inr (1, [.ref q0, .ref q1, .null, .int 0, .null, .null, .null, .null, .int 0, .null, .int 0])), (q0, .inl (c0, 8, .inl (fun _ => 0))), (q1, .inl (c1, 4, .inl (fun _ => 0))), (q2, .inl (c2, 3, .inl (fun _ => 0)))] H := hP
  have hD : va_D A [(h, .inr (1, [.ref q0, .ref q1, .null, .int 0, .null, .null, .null, .null, .int 0, .null, .int 0])), (q0, .inl (c0, 8, .inl (fun _ => 0))), (q1, .inl (c1, 4, .inl (fun _ => 0))), (q2, .inl (c2, 3, .inl (fun _ => 0)))] := hD
  refine W.cs (cells' := 3) (slots' := 15) rfl rfl ?_
  refine va_putF (D := G) (ci := 1) (v := .ref q2) (ty := .array .int) (C := RX1) (T := TX1) (N := 11) hx hb hts in_X1 tyX1 tyX1_ok nmX1 hown hK hP hD hS 0 rfl rfl 2 (by decide) (hts _ q203) (fun _ h9 => h9) rfl hin rfl (by decide +kernel) rfl rfl (Nat.le_of_ble_eq_true rfl) dX1_init_23 (fun H locs hP hD hS => ?_)
  have hP : va_P G vwCl [(h, .inr (1, [.ref q0, .ref q1, .ref q2, .int 0, .null, .null, .null, .null, .int 0, .null, .int 0])), (q0, .inl (c0, 8, .inl (fun _ => 0))), (q1, .inl (c1, 4, .inl (fun _ => 0))), (q2, .inl (c2, 3, .inl (fun _ => 0)))] H := hP
  have hD : va_D A [(h, .inr (1, [.ref q0, .ref q1, .ref q2, .int 0, .null, .null, .null, .null, .int 0, .null, .int 0])), (q0, .inl (c0, 8, .inl (fun _ => 0))), (q1, .inl (c1, 4, .inl (fun _ => 0))), (q2, .inl (c2, 3, .inl (fun _ => 0)))] := hD
  refine lv_aload_n hx hb dX1_init_26 rfl (lv_at hl 0 rfl) ?_
  refine lv_bipush (v := (20 : Int32)) hx hb dX1_init_27 (by decide) ?_
  refine va_newa (atype := .int) (a0 := (20, .inl (fun _ => 0))) hx hb (hts _ q74) rfl hK hP hD hS hA (fun cA => rfl) (by decide) rfl (by decide) (Nat.le_of_ble_eq_true rfl) (Nat.le_of_ble_eq_true rfl) dX1_init_29 (fun q3 c3 H hK hP hD hS => ?_)
  have hK : va_K G vwCl [(c0, .int), (c1, .int), (c2, .int), (c3, .int)] s := hK
  have hP : va_P G vwCl [(h, .inr (1, [.ref q0, .ref q1, .ref q2, .int 0, .null, .null, .null, .null, .int 0, .null, .int 0])), (q0, .inl (c0, 8, .inl (fun _ => 0))), (q1, .inl (c1, 4, .inl (fun _ => 0))), (q2, .inl (c2, 3, .inl (fun _ => 0))), (q3, .inl (c3, 20, .inl (fun _ => 0)))] H := hP
  have hD : va_D A [(h, .inr (1, [.ref q0, .ref q1, .ref q2, .int 0, .null, .null, .null, .null, .int 0, .null, .int 0])), (q0, .inl (c0, 8, .inl (fun _ => 0))), (q1, .inl (c1, 4, .inl (fun _ => 0))), (q2, .inl (c2, 3, .inl (fun _ => 0))), (q3, .inl (c3, 20, .inl (fun _ => 0)))] := hD
  refine W.cs (cells' := 4) (slots' := 35) rfl rfl ?_
  refine va_putF (D := G) (ci := 1) (v := .ref q3) (ty := .array .int) (C := RX1) (T := TX1) (N := 11) hx hb hts in_X1 tyX1 tyX1_ok nmX1 hown hK hP hD hS 0 rfl rfl 4 (by decide) (hts _ q205) (fun _ h9 => h9) rfl hin rfl (by decide +kernel) rfl rfl (Nat.le_of_ble_eq_true rfl) dX1_init_31 (fun H locs hP hD hS => ?_)
  have hP : va_P G vwCl [(h, .inr (1, [.ref q0, .ref q1, .ref q2, .int 0, .ref q3, .null, .null, .null, .int 0, .null, .int 0])), (q0, .inl (c0, 8, .inl (fun _ => 0))), (q1, .inl (c1, 4, .inl (fun _ => 0))), (q2, .inl (c2, 3, .inl (fun _ => 0))), (q3, .inl (c3, 20, .inl (fun _ => 0)))] H := hP
  have hD : va_D A [(h, .inr (1, [.ref q0, .ref q1, .ref q2, .int 0, .ref q3, .null, .null, .null, .int 0, .null, .int 0])), (q0, .inl (c0, 8, .inl (fun _ => 0))), (q1, .inl (c1, 4, .inl (fun _ => 0))), (q2, .inl (c2, 3, .inl (fun _ => 0))), (q3, .inl (c3, 20, .inl (fun _ => 0)))] := hD
  refine lv_aload_n hx hb dX1_init_34 rfl (lv_at hl 0 rfl) ?_
  refine lv_bipush (v := (20 : Int32)) hx hb dX1_init_35 (by decide) ?_
  refine va_newa (atype := .int) (a0 := (20, .inl (fun _ => 0))) hx hb (hts _ q74) rfl hK hP hD hS hA (fun cA => rfl) (by decide) rfl (by decide) (Nat.le_of_ble_eq_true rfl) (Nat.le_of_ble_eq_true rfl) dX1_init_37 (fun q4 c4 H hK hP hD hS => ?_)
  have hK : va_K G vwCl [(c0, .int), (c1, .int), (c2, .int), (c3, .int), (c4, .int)] s := hK
  have hP : va_P G vwCl [(h, .inr (1, [.ref q0, .ref q1, .ref q2, .int 0, .ref q3, .null, .null, .null, .int 0, .null, .int 0])), (q0, .inl (c0, 8, .inl (fun _ => 0))), (q1, .inl (c1, 4, .inl (fun _ => 0))), (q2, .inl (c2, 3, .inl (fun _ => 0))), (q3, .inl (c3, 20, .inl (fun _ => 0))), (q4, .inl (c4, 20, .inl (fun _ => 0)))] H := hP
  have hD : va_D A [(h, .inr (1, [.ref q0, .ref q1, .ref q2, .int 0, .ref q3, .null, .null, .null, .int 0, .null, .int 0])), (q0, .inl (c0, 8, .inl (fun _ => 0))), (q1, .inl (c1, 4, .inl (fun _ => 0))), (q2, .inl (c2, 3, .inl (fun _ => 0))), (q3, .inl (c3, 20, .inl (fun _ => 0))), (q4, .inl (c4, 20, .inl (fun _ => 0)))] := hD
  refine W.cs (cells' := 5) (slots' := 55) rfl rfl ?_
  refine va_putF (D := G) (ci := 1) (v := .ref q4) (ty := .array .int) (C := RX1) (T := TX1) (N := 11) hx hb hts in_X1 tyX1 tyX1_ok nmX1 hown hK hP hD hS 0 rfl rfl 5 (by decide) (hts _ q206) (fun _ h9 => h9) rfl hin rfl (by decide +kernel) rfl rfl (Nat.le_of_ble_eq_true rfl) dX1_init_39 (fun H locs hP hD hS => ?_)
  have hP : va_P G vwCl [(h, .inr (1, [.ref q0, .ref q1, .ref q2, .int 0, .ref q3, .ref q4, .null, .null, .int 0, .null, .int 0])), (q0, .inl (c0, 8, .inl (fun _ => 0))), (q1, .inl (c1, 4, .inl (fun _ => 0))), (q2, .inl (c2, 3, .inl (fun _ => 0))), (q3, .inl (c3, 20, .inl (fun _ => 0))), (q4, .inl (c4, 20, .inl (fun _ => 0)))] H := hP
  have hD : va_D A [(h, .inr (1, [.ref q0, .ref q1, .ref q2, .int 0, .ref q3, .ref q4, .null, .null, .int 0, .null, .int 0])), (q0, .inl (c0, 8, .inl (fun _ => 0))), (q1, .inl (c1, 4, .inl (fun _ => 0))), (q2, .inl (c2, 3, .inl (fun _ => 0))), (q3, .inl (c3, 20, .inl (fun _ => 0))), (q4, .inl (c4, 20, .inl (fun _ => 0)))] := hD
  refine lv_aload_n hx hb dX1_init_42 rfl (lv_at hl 0 rfl) ?_
  refine lv_bipush (v := (20 : Int32)) hx hb dX1_init_43 (by decide) ?_
  refine va_newa (atype := .int) (a0 := (20, .inl (fun _ => 0))) hx hb (hts _ q74) rfl hK hP hD hS hA (fun cA => rfl) (by decide) rfl (by decide) (Nat.le_of_ble_eq_true rfl) (Nat.le_of_ble_eq_true rfl) dX1_init_45 (fun q5 c5 H hK hP hD hS => ?_)
  have hK : va_K G vwCl [(c0, .int), (c1, .int), (c2, .int), (c3, .int), (c4, .int), (c5, .int)] s := hK
  have hP : va_P G vwCl [(h, .inr (1, [.ref q0, .ref q1, .ref q2, .int 0, .ref q3, .ref q4, .null, .null, .int 0, .null, .int 0])), (q0, .inl (c0, 8, .inl (fun _ => 0))), (q1, .inl (c1, 4, .inl (fun _ => 0))), (q2, .inl (c2, 3, .inl (fun _ => 0))), (q3, .inl (c3, 20, .inl (fun _ => 0))), (q4, .inl (c4, 20, .inl (fun _ => 0))), (q5, .inl (c5, 20, .inl (fun _ => 0)))] H := hP
  have hD : va_D A [(h, .inr (1, [.ref q0, .ref q1, .ref q2, .int 0, .ref q3, .ref q4, .null, .null, .int 0, .null, .int 0])), (q0, .inl (c0, 8, .inl (fun _ => 0))), (q1, .inl (c1, 4, .inl (fun _ => 0))), (q2, .inl (c2, 3, .inl (fun _ => 0))), (q3, .inl (c3, 20, .inl (fun _ => 0))), (q4, .inl (c4, 20, .inl (fun _ => 0))), (q5, .inl (c5, 20, .inl (fun _ => 0)))] := hD
  refine W.cs (cells' := 6) (slots' := 75) rfl rfl ?_
  refine va_putF (D := G) (ci := 1) (v := .ref q5) (ty := .array .int) (C := RX1) (T := TX1) (N := 11) hx hb hts in_X1 tyX1 tyX1_ok nmX1 hown hK hP hD hS 0 rfl rfl 6 (by decide) (hts _ q207) (fun _ h9 => h9) rfl hin rfl (by decide +kernel) rfl rfl (Nat.le_of_ble_eq_true rfl) dX1_init_47 (fun H locs hP hD hS => ?_)
  have hP : va_P G vwCl [(h, .inr (1, [.ref q0, .ref q1, .ref q2, .int 0, .ref q3, .ref q4, .ref q5, .null, .int 0, .null, .int 0])), (q0, .inl (c0, 8, .inl (fun _ => 0))), (q1, .inl (c1, 4, .inl (fun _ => 0))), (q2, .inl (c2, 3, .inl (fun _ => 0))), (q3, .inl (c3, 20, .inl (fun _ => 0))), (q4, .inl (c4, 20, .inl (fun _ => 0))), (q5, .inl (c5, 20, .inl (fun _ => 0)))] H := hP
  have hD : va_D A [(h, .inr (1, [.ref q0, .ref q1, .ref q2, .int 0, .ref q3, .ref q4, .ref q5, .null, .int 0, .null, .int 0])), (q0, .inl (c0, 8, .inl (fun _ => 0))), (q1, .inl (c1, 4, .inl (fun _ => 0))), (q2, .inl (c2, 3, .inl (fun _ => 0))), (q3, .inl (c3, 20, .inl (fun _ => 0))), (q4, .inl (c4, 20, .inl (fun _ => 0))), (q5, .inl (c5, 20, .inl (fun _ => 0)))] := hD
  refine lv_aload_n hx hb dX1_init_50 rfl (lv_at hl 0 rfl) ?_
  refine lv_bipush (v := (20 : Int32)) hx hb dX1_init_51 (by decide) ?_
  refine va_newa (atype := .int) (a0 := (20, .inl (fun _ => 0))) hx hb (hts _ q74) rfl hK hP hD hS hA (fun cA => rfl) (by decide) rfl (by decide) (Nat.le_of_ble_eq_true rfl) (Nat.le_of_ble_eq_true rfl) dX1_init_53 (fun q6 c6 H hK hP hD hS => ?_)
  have hK : va_K G vwCl [(c0, .int), (c1, .int), (c2, .int), (c3, .int), (c4, .int), (c5, .int), (c6, .int)] s := hK
  have hP : va_P G vwCl [(h, .inr (1, [.ref q0, .ref q1, .ref q2, .int 0, .ref q3, .ref q4, .ref q5, .null, .int 0, .null, .int 0])), (q0, .inl (c0, 8, .inl (fun _ => 0))), (q1, .inl (c1, 4, .inl (fun _ => 0))), (q2, .inl (c2, 3, .inl (fun _ => 0))), (q3, .inl (c3, 20, .inl (fun _ => 0))), (q4, .inl (c4, 20, .inl (fun _ => 0))), (q5, .inl (c5, 20, .inl (fun _ => 0))), (q6, .inl (c6, 20, .inl (fun _ => 0)))] H := hP
  have hD : va_D A [(h, .inr (1, [.ref q0, .ref q1, .ref q2, .int 0, .ref q3, .ref q4, .ref q5, .null, .int 0, .null, .int 0])), (q0, .inl (c0, 8, .inl (fun _ => 0))), (q1, .inl (c1, 4, .inl (fun _ => 0))), (q2, .inl (c2, 3, .inl (fun _ => 0))), (q3, .inl (c3, 20, .inl (fun _ => 0))), (q4, .inl (c4, 20, .inl (fun _ => 0))), (q5, .inl (c5, 20, .inl (fun _ => 0))), (q6, .inl (c6, 20, .inl (fun _ => 0)))] := hD
  refine W.cs (cells' := 7) (slots' := 95) rfl rfl ?_
  refine va_putF (D := G) (ci := 1) (v := .ref q6) (ty := .array .int) (C := RX1) (T := TX1) (N := 11) hx hb hts in_X1 tyX1 tyX1_ok nmX1 hown hK hP hD hS 0 rfl rfl 7 (by decide) (hts _ q208) (fun _ h9 => h9) rfl hin rfl (by decide +kernel) rfl rfl (Nat.le_of_ble_eq_true rfl) dX1_init_55 (fun H locs hP hD hS => ?_)
  have hP : va_P G vwCl [(h, .inr (1, [.ref q0, .ref q1, .ref q2, .int 0, .ref q3, .ref q4, .ref q5, .ref q6, .int 0, .null, .int 0])), (q0, .inl (c0, 8, .inl (fun _ => 0))), (q1, .inl (c1, 4, .inl (fun _ => 0))), (q2, .inl (c2, 3, .inl (fun _ => 0))), (q3, .inl (c3, 20, .inl (fun _ => 0))), (q4, .inl (c4, 20, .inl (fun _ => 0))), (q5, .inl (c5, 20, .inl (fun _ => 0))), (q6, .inl (c6, 20, .inl (fun _ => 0)))] H := hP
  have hD : va_D A [(h, .inr (1, [.ref q0, .ref q1, .ref q2, .int 0, .ref q3, .ref q4, .ref q5, .ref q6, .int 0, .null, .int 0])), (q0, .inl (c0, 8, .inl (fun _ => 0))), (q1, .inl (c1, 4, .inl (fun _ => 0))), (q2, .inl (c2, 3, .inl (fun _ => 0))), (q3, .inl (c3, 20, .inl (fun _ => 0))), (q4, .inl (c4, 20, .inl (fun _ => 0))), (q5, .inl (c5, 20, .inl (fun _ => 0))), (q6, .inl (c6, 20, .inl (fun _ => 0)))] := hD
  refine lv_aload_n hx hb dX1_init_58 rfl (lv_at hl 0 rfl) ?_
  refine lv_bipush (v := (6 : Int32)) hx hb dX1_init_59 (by decide) ?_
  refine va_newa (atype := .int) (a0 := (6, .inl (fun _ => 0))) hx hb (hts _ q74) rfl hK hP hD hS hA (fun cA => rfl) (by decide) rfl (by decide) (Nat.le_of_ble_eq_true rfl) (Nat.le_of_ble_eq_true rfl) dX1_init_61 (fun q7 c7 H hK hP hD hS => ?_)
  have hK : va_K G vwCl [(c0, .int), (c1, .int), (c2, .int), (c3, .int), (c4, .int), (c5, .int), (c6, .int), (c7, .int)] s := hK
  have hP : va_P G vwCl [(h, .inr (1, [.ref q0, .ref q1, .ref q2, .int 0, .ref q3, .ref q4, .ref q5, .ref q6, .int 0, .null, .int 0])), (q0, .inl (c0, 8, .inl (fun _ => 0))), (q1, .inl (c1, 4, .inl (fun _ => 0))), (q2, .inl (c2, 3, .inl (fun _ => 0))), (q3, .inl (c3, 20, .inl (fun _ => 0))), (q4, .inl (c4, 20, .inl (fun _ => 0))), (q5, .inl (c5, 20, .inl (fun _ => 0))), (q6, .inl (c6, 20, .inl (fun _ => 0))), (q7, .inl (c7, 6, .inl (fun _ => 0)))] H := hP
  have hD : va_D A [(h, .inr (1, [.ref q0, .ref q1, .ref q2, .int 0, .ref q3, .ref q4, .ref q5, .ref q6, .int 0, .null, .int 0])), (q0, .inl (c0, 8, .inl (fun _ => 0))), (q1, .inl (c1, 4, .inl (fun _ => 0))), (q2, .inl (c2, 3, .inl (fun _ => 0))), (q3, .inl (c3, 20, .inl (fun _ => 0))), (q4, .inl (c4, 20, .inl (fun _ => 0))), (q5, .inl (c5, 20, .inl (fun _ => 0))), (q6, .inl (c6, 20, .inl (fun _ => 0))), (q7, .inl (c7, 6, .inl (fun _ => 0)))] := hD
  refine W.cs (cells' := 8) (slots' := 101) rfl rfl ?_
  refine va_putF (D := G) (ci := 1) (v := .ref q7) (ty := .array .int) (C := RX1) (T := TX1) (N := 11) hx hb hts in_X1 tyX1 tyX1_ok nmX1 hown hK hP hD hS 0 rfl rfl 9 (by decide) (hts _ q210) (fun _ h9 => h9) rfl hin rfl (by decide +kernel) rfl rfl (Nat.le_of_ble_eq_true rfl) dX1_init_63 (fun H locs hP hD hS => ?_)
  have hP : va_P G vwCl [(h, .inr (1, [.ref q0, .ref q1, .ref q2, .int 0, .ref q3, .ref q4, .ref q5, .ref q6, .int 0, .ref q7, .int 0])), (q0, .inl (c0, 8, .inl (fun _ => 0))), (q1, .inl (c1, 4, .inl (fun _ => 0))), (q2, .inl (c2, 3, .inl (fun _ => 0))), (q3, .inl (c3, 20, .inl (fun _ => 0))), (q4, .inl (c4, 20, .inl (fun _ => 0))), (q5, .inl (c5, 20, .inl (fun _ => 0))), (q6, .inl (c6, 20, .inl (fun _ => 0))), (q7, .inl (c7, 6, .inl (fun _ => 0)))] H := hP
  have hD : va_D A [(h, .inr (1, [.ref q0, .ref q1, .ref q2, .int 0, .ref q3, .ref q4, .ref q5, .ref q6, .int 0, .ref q7, .int 0])), (q0, .inl (c0, 8, .inl (fun _ => 0))), (q1, .inl (c1, 4, .inl (fun _ => 0))), (q2, .inl (c2, 3, .inl (fun _ => 0))), (q3, .inl (c3, 20, .inl (fun _ => 0))), (q4, .inl (c4, 20, .inl (fun _ => 0))), (q5, .inl (c5, 20, .inl (fun _ => 0))), (q6, .inl (c6, 20, .inl (fun _ => 0))), (q7, .inl (c7, 6, .inl (fun _ => 0)))] := hD
  have e1 : c1 = c0 := Option.some.inj ((va_nm_int (hK.2 1 _ rfl).2).symm.trans (va_nm_int (hK.2 0 _ rfl).2))
  have e2 : c2 = c0 := Option.some.inj ((va_nm_int (hK.2 2 _ rfl).2).symm.trans (va_nm_int (hK.2 0 _ rfl).2))
  have e3 : c3 = c0 := Option.some.inj ((va_nm_int (hK.2 3 _ rfl).2).symm.trans (va_nm_int (hK.2 0 _ rfl).2))
  have e4 : c4 = c0 := Option.some.inj ((va_nm_int (hK.2 4 _ rfl).2).symm.trans (va_nm_int (hK.2 0 _ rfl).2))
  have e5 : c5 = c0 := Option.some.inj ((va_nm_int (hK.2 5 _ rfl).2).symm.trans (va_nm_int (hK.2 0 _ rfl).2))
  have e6 : c6 = c0 := Option.some.inj ((va_nm_int (hK.2 6 _ rfl).2).symm.trans (va_nm_int (hK.2 0 _ rfl).2))
  have e7 : c7 = c0 := Option.some.inj ((va_nm_int (hK.2 7 _ rfl).2).symm.trans (va_nm_int (hK.2 0 _ rfl).2))
  rw [e1, e2, e3, e4, e5, e6, e7] at hP hD
  have hK9 := hK.sub (tys' := [(c0, .int)]) [0] rfl
  have hP9 : va_P G vwCl (w1 h (fun k => match k with | 0 => q0 | 1 => q1 | 2 => q2 | 4 => q3 | 5 => q4 | 6 => q5 | 7 => q6 | _ => q7) c0 (fun _ => 0) (fun _ => 0) (fun _ => 0) 0 (fun _ => 0) (fun _ => 0) (fun _ => 0) (fun _ => 0) 0 (fun _ => 0) 0) H := hP
  have hD9 : va_D A (w1 h (fun k => match k with | 0 => q0 | 1 => q1 | 2 => q2 | 4 => q3 | 5 => q4 | 6 => q5 | 7 => q6 | _ => q7) c0 (fun _ => 0) (fun _ => 0) (fun _ => 0) 0 (fun _ => 0) (fun _ => 0) (fun _ => 0) (fun _ => 0) 0 (fun _ => 0) 0) := hD
  exact W.vret hx hb hr (fun t ht hW => ⟨⟨((fun k => match k with | 0 => q0 | 1 => q1 | 2 => q2 | 4 => q3 | 5 => q4 | 6 => q5 | 7 => q6 | _ => q7), c0), rfl, trivial, by rw [ht]; exact hP9, va_K.moved hW.alike hK9, hD9⟩, hS.F ht⟩) hS.2.2 dX1_init_66
end
section
/-! bits of an Int32, and the sets as their bits -/
set_option maxRecDepth 100000
def bt (x : Int32) (i : Nat) : Bool := x.toBitVec.getLsbD i
theorem b_ext {x y : Int32} (h : ∀ i, i < 32 → bt x i = bt y i) : x = y := Int32.toBitVec_inj.mp (BitVec.eq_of_getLsbD_eq (fun i hi => h i hi))
theorem b_or (x y : Int32) (i : Nat) : bt (x ||| y) i = (bt x i || bt y i) := by unfold bt; rw [Int32.toBitVec_or, BitVec.getLsbD_or]
theorem b_and (x y : Int32) (i : Nat) : bt (x &&& y) i = (bt x i && bt y i) := by unfold bt; rw [Int32.toBitVec_and, BitVec.getLsbD_and]
theorem b_xor (x y : Int32) (i : Nat) : bt (x ^^^ y) i = (bt x i ^^ bt y i) := by unfold bt; rw [Int32.toBitVec_xor, BitVec.getLsbD_xor]
theorem b_big {x : Int32} {i : Nat} (h : 32 ≤ i) : bt x i = false := BitVec.getLsbD_of_ge _ _ h
theorem b_255 (i : Nat) : bt 255 i = decide (i < 8) := by
  rcases Nat.lt_or_ge i 32 with h | h
  · exact (by decide +kernel : ∀ i, i < 32 → bt 255 i = decide (i < 8)) i h
  · rw [b_big h, decide_eq_false (by omega)]
theorem b_m1 : ∀ i, i < 32 → bt (-1) i = true := by decide +kernel
theorem b_0 (i : Nat) : bt 0 i = false := BitVec.getLsbD_zero
theorem s_l : ∀ n, n < 32 → ((nI n &&& 31).toBitVec.smod 32).toNat = n := by decide +kernel
theorem b_shl (n : Nat) (hn : n < 32) (x : Int32) {i : Nat} (hi : i < 32) : bt (x <<< (nI n &&& 31)) i = (decide (n ≤ i) && bt x (i - n)) := by
  unfold bt
  rw [Int32.toBitVec_shiftLeft]
  show (x.toBitVec <<< ((nI n &&& 31).toBitVec.smod 32).toNat).getLsbD i = _
  rw [s_l n hn, BitVec.getLsbD_shiftLeft]
  rcases Nat.lt_or_ge i n with h | h
  · simp [h, Nat.not_le.mpr h]
  · simp [hi, h, Nat.not_lt.mpr h]
theorem b_sshr (n : Nat) (hn : n < 32) (x : Int32) {i : Nat} (hi : i < 32) : bt (x >>> (nI n &&& 31)) i = if n + i < 32 then bt x (n + i) else bt x 31 := by
  unfold bt
  rw [Int32.toBitVec_shiftRight]
  show (x.toBitVec.sshiftRight ((nI n &&& 31).toBitVec.smod 32).toNat).getLsbD i = _
  rw [s_l n hn, BitVec.getLsbD_sshiftRight, BitVec.msb_eq_getLsbD_last]
  simp [hi]
/-! ours -/
theorem b_1 (i : Nat) : bt 1 i = decide (i = 0) := by
  rcases Nat.lt_or_ge i 32 with h | h
  · exact (by decide +kernel : ∀ i, i < 32 → bt 1 i = decide (i = 0)) i h
  · rw [b_big h, decide_eq_false (by omega)]
theorem b_ext' {x y : Int32} (h : ∀ i, bt x i = true ↔ bt y i = true) : x = y := b_ext (fun i _ => Bool.eq_iff_iff.mpr (h i))
theorem b_sh (k : Nat) (hk : k < 32) (i : Nat) : bt ((1 : Int32) <<< (nI k &&& 31)) i = decide (i = k) := by
  rcases Nat.lt_or_ge i 32 with h | h
  · rw [b_shl k hk 1 h, b_1]
    by_cases e : i = k
    · subst e
      simp
    · rw [decide_eq_false e]
      by_cases q : k ≤ i
      · rw [decide_eq_false (p := i - k = 0) (by omega), Bool.and_false]
      · rw [decide_eq_false q, Bool.false_and]
  · rw [b_big h, decide_eq_false (by omega)]
theorem b_bit (x : Int32) (k : Nat) (hk : k < 32) : (x >>> (nI k &&& 31)) &&& 1 = if bt x k then 1 else 0 := by
  apply b_ext
  intro i hi
  rw [b_and, b_1, b_sshr k hk x hi]
  by_cases e : i = 0
  · subst e
    rw [if_pos (by omega), Nat.add_zero]
    cases bt x k
    · rfl
    · rfl
  · rw [decide_eq_false e, Bool.and_false]
    cases bt x k
    · rw [if_neg (by decide), b_0]
    · rw [if_pos rfl, b_1, decide_eq_false e]
theorem b_bit1 {x : Int32} {k : Nat} (hk : k < 32) : (x >>> (nI k &&& 31)) &&& 1 = 1 ↔ bt x k = true := by
  rw [b_bit x k hk]
  cases bt x k
  · simp
  · simp
theorem b_bit0 {x : Int32} {k : Nat} (hk : k < 32) : (x >>> (nI k &&& 31)) &&& 1 = 0 ↔ bt x k = false := by
  rw [b_bit x k hk]
  cases bt x k
  · simp
  · simp
theorem b_zero {x : Int32} : x = 0 ↔ ∀ i, ¬ bt x i = true := by
  constructor
  · intro h i
    rw [h, b_0]
    decide
  · intro h
    apply b_ext
    intro i _
    rw [b_0, Bool.eq_false_iff]
    exact h i
theorem b_ne0 {x : Int32} : ¬ x = 0 ↔ ∃ i, bt x i = true := by
  rw [b_zero]
  constructor
  · intro h
    exact Classical.not_forall_not.mp h
  · rintro ⟨i, hi⟩ h
    exact h i hi
theorem b_and0 {x y : Int32} : x &&& y = 0 ↔ ∀ i, ¬ (bt x i = true ∧ bt y i = true) := by
  rw [b_zero]
  constructor
  · intro h i q
    exact h i (by rw [b_and, q.1, q.2]; rfl)
  · intro h i q
    rw [b_and, Bool.and_eq_true] at q
    exact h i q
theorem b_and1 {x y : Int32} : ¬ x &&& y = 0 ↔ ∃ i, bt x i = true ∧ bt y i = true := by
  rw [b_and0]
  constructor
  · intro h
    exact Classical.not_forall_not.mp h
  · rintro ⟨i, hi⟩ h
    exact h i hi
theorem m_or {x y : Int32} {i : Nat} : bt (x ||| y) i = true ↔ bt x i = true ∨ bt y i = true := by rw [b_or, Bool.or_eq_true]
theorem m_and {x y : Int32} {i : Nat} : bt (x &&& y) i = true ↔ bt x i = true ∧ bt y i = true := by rw [b_and, Bool.and_eq_true]
/-- a set of states: nothing above bit 7 -/
def fr_ok (x : Int32) : Prop := ∀ i, bt x i = true → i < 8
theorem ok_255 : fr_ok 255 := fun i h => by rw [b_255, decide_eq_true_eq] at h; exact h
theorem ok_0 : fr_ok 0 := fun i h => by rw [b_0] at h; cases h
theorem ok_or {x y : Int32} (hx : fr_ok x) (hy : fr_ok y) : fr_ok (x ||| y) := fun i h => (m_or.mp h).elim (hx i) (hy i)
theorem ok_andl {x y : Int32} (hx : fr_ok x) : fr_ok (x &&& y) := fun i h => hx i (m_and.mp h).1
theorem ok_andr {x y : Int32} (hy : fr_ok y) : fr_ok (x &&& y) := fun i h => hy i (m_and.mp h).2
theorem ok_sh {k : Nat} (hk : k < 8) : fr_ok ((1 : Int32) <<< (nI k &&& 31)) := fun i h => by
  rw [b_sh k (by omega), decide_eq_true_eq] at h
  omega
theorem ok_ne {x : Int32} (h : fr_ok x) : x ≠ -1 := fun e => by
  have := h 31 (by rw [e]; exact b_m1 31 (by decide))
  omega
theorem ok_pos {x : Int32} (h : fr_ok x) : ¬ x < 0 := by
  intro q
  have h1 : x.toInt < 0 := by
    have := Int32.lt_iff_toInt_lt.mp q
    rwa [Int32.toInt_zero] at this
  have h2 : x.toBitVec.msb = true := by
    rw [BitVec.msb_eq_toInt]
    exact decide_eq_true h1
  rw [BitVec.msb_eq_getLsbD_last] at h2
  have := h 31 h2
  omega
theorem ok_nI {k : Nat} (hk : k < 256) : fr_ok (nI k) := by
  intro i hi
  have h1 : (BitVec.ofNat 32 k).getLsbD i = true := hi
  rw [BitVec.getLsbD_ofNat, Bool.and_eq_true, decide_eq_true_eq] at h1
  rcases Nat.lt_or_ge i 8 with q | q
  · exact q
  · have h2 : k < 2 ^ i := Nat.lt_of_lt_of_le (show k < 2 ^ 8 by omega) (Nat.pow_le_pow_right (by decide) q)
    rw [Nat.testBit_lt_two_pow h2] at h1
    cases h1.2
theorem ok_in {x : Int32} (h : fr_in 256 x = true) : fr_ok x := by
  obtain ⟨k, hk, rfl⟩ := vp_in_of (fr_in_vp h) (by decide)
  exact ok_nI hk
/-! counting -/
def fr_cnt (x : Int32) : Nat → Nat
  | 0 => 0
  | n + 1 => fr_cnt x n + (if bt x n then 1 else 0)
theorem cnt_le (x : Int32) (n : Nat) : fr_cnt x n ≤ n := by
  induction n with
  | zero => exact Nat.le_refl 0
  | succ n ih =>
    show fr_cnt x n + _ ≤ n + 1
    split <;> omega
theorem cnt_mono {x y : Int32} (h : ∀ i, bt x i = true → bt y i = true) (n : Nat) : fr_cnt x n ≤ fr_cnt y n := by
  induction n with
  | zero => exact Nat.le_refl 0
  | succ n ih =>
    show fr_cnt x n + _ ≤ fr_cnt y n + _
    by_cases q : bt x n = true
    · rw [if_pos q, if_pos (h n q)]
      omega
    · rw [if_neg q]
      omega
theorem cnt_lt {x y : Int32} (h : ∀ i, bt x i = true → bt y i = true) {j : Nat} (hx : ¬ bt x j = true) (hy : bt y j = true) (n : Nat) (hj : j < n) : fr_cnt x n < fr_cnt y n := by
  induction n with
  | zero => omega
  | succ n ih =>
    show fr_cnt x n + _ < fr_cnt y n + _
    by_cases e : j = n
    · subst e
      rw [if_neg hx, if_pos hy]
      have := cnt_mono h j
      omega
    · have := ih (by omega)
      by_cases q : bt x n = true
      · rw [if_pos q, if_pos (h n q)]
        omega
      · rw [if_neg q]
        omega
theorem cnt_pos {x : Int32} {j : Nat} (hx : bt x j = true) (n : Nat) (hj : j < n) : 1 ≤ fr_cnt x n := by
  have h : fr_cnt 0 n < fr_cnt x n := cnt_lt (x := 0) (fun i q => by rw [b_0] at q; cases q) (j := j) (by rw [b_0]; decide) hx n hj
  omega
/-- a growing row of sets of eight states stands still in time -/
theorem fr_stab (F : Int32 → Int32) (S : Nat → Int32) (hS : ∀ n, S (n + 1) = F (S n)) (hok : ∀ n, fr_ok (S n)) (hF : ∀ x i, bt x i = true → bt (F x) i = true) (n : Nat) : F (S n) = S n ∨ fr_cnt (S 0) 8 + n + 1 ≤ fr_cnt (S (n + 1)) 8 := by
  have up : ∀ n, F (S n) = S n ∨ fr_cnt (S n) 8 + 1 ≤ fr_cnt (S (n + 1)) 8 := by
    intro n
    by_cases q : ∀ i, bt (F (S n)) i = true → bt (S n) i = true
    · exact Or.inl (b_ext' (fun i => ⟨q i, hF _ i⟩))
    · refine Or.inr ?_
      obtain ⟨i, hi⟩ := Classical.not_forall.mp q
      have h1 : bt (F (S n)) i = true := Classical.byContradiction fun w => hi (fun v => absurd v w)
      have h2 : ¬ bt (S n) i = true := fun v => hi (fun _ => v)
      rw [hS n]
      exact cnt_lt (hF (S n)) h2 h1 8 (by have := hok (n + 1) i (by rw [hS n]; exact h1); exact this)
  induction n with
  | zero => exact up 0
  | succ n ih =>
    rcases ih with e | e
    · refine Or.inl ?_
      have : S (n + 1) = S n := (hS n).trans e
      rw [this]
      exact e
    · rcases up (n + 1) with q | q
      · exact Or.inl q
      · exact Or.inr (by omega)
theorem fr_stab8 (F : Int32 → Int32) (S : Nat → Int32) (hS : ∀ n, S (n + 1) = F (S n)) (hok : ∀ n, fr_ok (S n)) (hF : ∀ x i, bt x i = true → bt (F x) i = true) : F (S 8) = S 8 := by
  rcases fr_stab F S hS hok hF 8 with e | e
  · exact e
  · have := cnt_le (S (8 + 1)) 8
    omega
theorem fr_stab7 (F : Int32 → Int32) (S : Nat → Int32) (hS : ∀ n, S (n + 1) = F (S n)) (hok : ∀ n, fr_ok (S n)) (hF : ∀ x i, bt x i = true → bt (F x) i = true) (j : Nat) (hj : bt (S 0) j = true) : F (S 7) = S 7 := by
  rcases fr_stab F S hS hok hF 7 with e | e
  · exact e
  · have := cnt_le (S (7 + 1)) 8
    have := cnt_pos hj 8 (hok 0 j hj)
    omega
end
section
/-! the sets of states as the methods compute them, by their bits -/
theorem m_sh {k i : Nat} (hk : k < 32) : bt ((1 : Int32) <<< (nI k &&& 31)) i = true ↔ i = k := by rw [b_sh k hk, decide_eq_true_eq]
theorem m_bef (to : Nat → Int32) (x : Int32) (n : Nat) (hn : n ≤ 8) (i : Nat) : bt (fr_bef to x n) i = true ↔ i < n ∧ ∃ t, bt (to i) t = true ∧ bt x t = true := by
  induction n with
  | zero =>
    show bt 0 i = true ↔ _
    rw [b_0]
    constructor
    · intro h; cases h
    · intro h; omega
  | succ n ih =>
    have ih := ih (by omega)
    rw [fr_bef]
    split
    · rename_i c
      rw [ih]
      constructor
      · rintro ⟨h1, h2⟩
        exact ⟨by omega, h2⟩
      · rintro ⟨h1, t, h2⟩
        refine ⟨?_, t, h2⟩
        rcases Nat.lt_or_ge i n with q | q
        · exact q
        · have : i = n := by omega
          subst this
          exact absurd h2 (b_and0.mp c t)
    · rename_i c
      rw [m_or, ih, m_sh (by omega)]
      constructor
      · rintro (⟨h1, h2⟩ | h)
        · exact ⟨by omega, h2⟩
        · subst h
          exact ⟨by omega, b_and1.mp c⟩
      · rintro ⟨h1, h2⟩
        by_cases e : i = n
        · exact Or.inr e
        · exact Or.inl ⟨by omega, h2⟩
theorem m_bef8 {to : Nat → Int32} {x : Int32} {i : Nat} : bt (fr_bef to x 8) i = true ↔ i < 8 ∧ ∃ t, bt (to i) t = true ∧ bt x t = true := m_bef to x 8 (Nat.le_refl 8) i
theorem ok_bef (to : Nat → Int32) (x : Int32) : fr_ok (fr_bef to x 8) := fun i h => (m_bef8.mp h).1
theorem m_beh (to : Nat → Int32) (x : Int32) (n : Nat) (hn : n ≤ 8) (i : Nat) : bt (fr_beh to x n) i = true ↔ ∃ s, s < n ∧ bt x s = true ∧ bt (to s) i = true := by
  induction n with
  | zero =>
    show bt 0 i = true ↔ _
    rw [b_0]
    constructor
    · intro h; cases h
    · rintro ⟨s, h, _⟩; omega
  | succ n ih =>
    have ih := ih (by omega)
    rw [fr_beh]
    split
    · rename_i c
      have c := (b_bit1 (by omega)).mp c
      rw [m_or, ih]
      constructor
      · rintro (⟨s, h1, h2⟩ | h)
        · exact ⟨s, by omega, h2⟩
        · exact ⟨n, by omega, c, h⟩
      · rintro ⟨s, h1, h2, h3⟩
        by_cases e : s = n
        · subst e
          exact Or.inr h3
        · exact Or.inl ⟨s, by omega, h2, h3⟩
    · rename_i c
      have c := fun q => c ((b_bit1 (by omega)).mpr q)
      rw [ih]
      constructor
      · rintro ⟨s, h1, h2⟩
        exact ⟨s, by omega, h2⟩
      · rintro ⟨s, h1, h2, h3⟩
        by_cases e : s = n
        · subst e
          exact absurd h2 c
        · exact ⟨s, by omega, h2, h3⟩
theorem m_beh8 {to : Nat → Int32} {x : Int32} {i : Nat} : bt (fr_beh to x 8) i = true ↔ ∃ s, s < 8 ∧ bt x s = true ∧ bt (to s) i = true := m_beh to x 8 (Nat.le_refl 8) i
theorem ok_beh {to : Nat → Int32} (hto : ∀ j, fr_ok (to j)) (x : Int32) : fr_ok (fr_beh to x 8) := fun i h => by
  obtain ⟨s, _, _, h3⟩ := m_beh8.mp h
  exact hto s i h3
/-! back -/
theorem m_bk {to : Nat → Int32} {t g : Int32} {n i : Nat} : bt (fr_bk to t g (n + 1)) i = true ↔ bt (fr_bk to t g n) i = true ∨ ((i < 8 ∧ ∃ j, bt (to i) j = true ∧ bt (fr_bk to t g n) j = true) ∧ bt t i = true) := by
  rw [fr_bk, m_or, m_and, m_bef8]
theorem ok_bk {to : Nat → Int32} {t g : Int32} (hg : fr_ok g) (n : Nat) : fr_ok (fr_bk to t g n) := by
  induction n with
  | zero => exact hg
  | succ n ih => exact ok_or ih (ok_andl (ok_bef to _))
theorem bk_up {to : Nat → Int32} {t g : Int32} {n m : Nat} (h : n ≤ m) {i : Nat} (hi : bt (fr_bk to t g n) i = true) : bt (fr_bk to t g m) i = true := by
  induction m with
  | zero =>
    have : n = 0 := by omega
    rw [← this]
    exact hi
  | succ m ih =>
    by_cases e : n = m + 1
    · rw [← e]
      exact hi
    · exact m_bk.mpr (Or.inl (ih (by omega)))
theorem bk_fix {to : Nat → Int32} {t g : Int32} (hg : fr_ok g) : fr_bk to t g 9 = fr_bk to t g 8 :=
  fr_stab8 (fun x => x ||| (fr_bef to x 8 &&& t)) (fr_bk to t g) (fun _ => rfl) (ok_bk hg) (fun _ _ h => m_or.mpr (Or.inl h))
theorem bk_cl {to : Nat → Int32} {t g : Int32} (hg : fr_ok g) {i j : Nat} (hi : i < 8) (ht : bt t i = true) (he : bt (to i) j = true) (hj : bt (fr_bk to t g 8) j = true) : bt (fr_bk to t g 8) i = true := by
  rw [← bk_fix hg]
  exact m_bk.mpr (Or.inr ⟨⟨hi, j, he, hj⟩, ht⟩)
theorem bk_mono {to : Nat → Int32} {t g t' g' : Int32} (ht : ∀ i, bt t i = true → bt t' i = true) (hg : ∀ i, bt g i = true → bt g' i = true) (n : Nat) : ∀ i, bt (fr_bk to t g n) i = true → bt (fr_bk to t' g' n) i = true := by
  induction n with
  | zero => exact hg
  | succ n ih =>
    intro i hi
    rcases m_bk.mp hi with h | ⟨⟨h1, j, h2, h3⟩, h4⟩
    · exact m_bk.mpr (Or.inl (ih i h))
    · exact m_bk.mpr (Or.inr ⟨⟨h1, j, h2, ih j h3⟩, ht i h4⟩)
/-! forward -/
theorem m_fw {to : Nat → Int32} {x : Int32} {n i : Nat} : bt (fr_fw to x (n + 1)) i = true ↔ bt (fr_fw to x n) i = true ∨ ∃ s, s < 8 ∧ bt (fr_fw to x n) s = true ∧ bt (to s) i = true := by
  rw [fr_fw, m_or, m_beh8]
theorem ok_fw {to : Nat → Int32} (hto : ∀ j, fr_ok (to j)) {x : Int32} (hx : fr_ok x) (n : Nat) : fr_ok (fr_fw to x n) := by
  induction n with
  | zero => exact hx
  | succ n ih => exact ok_or ih (ok_beh hto _)
theorem fw_up {to : Nat → Int32} {x : Int32} {n m : Nat} (h : n ≤ m) {i : Nat} (hi : bt (fr_fw to x n) i = true) : bt (fr_fw to x m) i = true := by
  induction m with
  | zero =>
    have : n = 0 := by omega
    rw [← this]
    exact hi
  | succ m ih =>
    by_cases e : n = m + 1
    · rw [← e]
      exact hi
    · exact m_fw.mpr (Or.inl (ih (by omega)))
theorem fw_fix {to : Nat → Int32} (hto : ∀ j, fr_ok (to j)) {x : Int32} (hx : fr_ok x) : fr_fw to x 9 = fr_fw to x 8 :=
  fr_stab8 (fun x => x ||| fr_beh to x 8) (fr_fw to x) (fun _ => rfl) (ok_fw hto hx) (fun _ _ h => m_or.mpr (Or.inl h))
theorem fw_fix7 {to : Nat → Int32} (hto : ∀ j, fr_ok (to j)) {x : Int32} (hx : fr_ok x) {j : Nat} (hj : bt x j = true) : fr_fw to x 8 = fr_fw to x 7 :=
  fr_stab7 (fun x => x ||| fr_beh to x 8) (fr_fw to x) (fun _ => rfl) (ok_fw hto hx) (fun _ _ h => m_or.mpr (Or.inl h)) j hj
theorem fw_cl {to : Nat → Int32} (hto : ∀ j, fr_ok (to j)) {x : Int32} (hx : fr_ok x) {i j : Nat} (he : bt (to i) j = true) (hi : bt (fr_fw to x 8) i = true) : bt (fr_fw to x 8) j = true := by
  rw [← fw_fix hto hx]
  exact m_fw.mpr (Or.inr ⟨i, ok_fw hto hx 8 i hi, hi, he⟩)
/-! the ways: the least transitive relation over the arcs within w -/
theorem fr_fB_eq (k : Nat) (hk : k < 8) (v : Nat → Int32) (n : Nat) (hn : n ≤ 8) (s : Nat) : fr_fB k v n s = if s < n then (if bt (v s) k = true then v s ||| v k else v s) else v s := by
  have self : ∀ x : Int32, x ||| x = x := fun x => b_ext' (fun i => by rw [m_or, or_self])
  induction n generalizing s with
  | zero =>
    rw [if_neg (by omega)]
    rfl
  | succ n ih =>
    have ih := ih (by omega)
    have hk' : fr_fB k v n k = v k := by
      rw [ih k]
      split
      · split
        · exact self _
        · rfl
      · rfl
    have hn' : fr_fB k v n n = v n := by
      rw [ih n, if_neg (by omega)]
    rw [fr_fB, hn', hk']
    by_cases c : (v n >>> (nI k &&& 31)) &&& 1 = 1
    · rw [if_pos c]
      have c := (b_bit1 (by omega)).mp c
      by_cases e : s = n
      · subst e
        rw [pk_us, if_pos (by omega), if_pos c]
      · rw [pk_un e, ih s]
        by_cases q : s < n
        · rw [if_pos q, if_pos (show s < n + 1 by omega)]
        · rw [if_neg q, if_neg (by omega)]
    · rw [if_neg c]
      have c : ¬ bt (v n) k = true := fun q => c ((b_bit1 (by omega)).mpr q)
      rw [ih s]
      by_cases e : s = n
      · subst e
        rw [if_neg (by omega), if_pos (by omega), if_neg c]
      · by_cases q : s < n
        · rw [if_pos q, if_pos (show s < n + 1 by omega)]
        · rw [if_neg q, if_neg (by omega)]
theorem m_fC (v : Nat → Int32) (k : Nat) (hk : k < 8) (s : Nat) (hs : s < 8) (t : Nat) : bt (fr_fC v (k + 1) s) t = true ↔ bt (fr_fC v k s) t = true ∨ (bt (fr_fC v k s) k = true ∧ bt (fr_fC v k k) t = true) := by
  rw [fr_fC, fr_fB_eq k hk _ 8 (Nat.le_refl 8) s, if_pos hs]
  by_cases c : bt (fr_fC v k s) k = true
  · rw [if_pos c, m_or]
    constructor
    · rintro (h | h)
      · exact Or.inl h
      · exact Or.inr ⟨c, h⟩
    · rintro (h | h)
      · exact Or.inl h
      · exact Or.inr h.2
  · rw [if_neg c]
    constructor
    · exact Or.inl
    · rintro (h | h)
      · exact h
      · exact absurd h.1 c
theorem fC_trans (v : Nat → Int32) (k : Nat) (hk : k ≤ 8) : ∀ j, j < k → ∀ s, s < 8 → ∀ t, bt (fr_fC v k s) j = true → bt (fr_fC v k j) t = true → bt (fr_fC v k s) t = true := by
  induction k with
  | zero => intro j hj; omega
  | succ k ih =>
    have ih := ih (by omega)
    intro j hj s hs t h1 h2
    have M := fun s hs t => m_fC v k (by omega) s hs t
    rw [M s hs] at h1 ⊢
    rw [M j (by omega)] at h2
    by_cases e : j = k
    · subst e
      have a1 : bt (fr_fC v j s) j = true := h1.elim id And.left
      have a2 : bt (fr_fC v j j) t = true := h2.elim id And.right
      exact Or.inr ⟨a1, a2⟩
    · have hj' : j < k := by omega
      rcases h1 with h1 | ⟨h1, h1'⟩
      · rcases h2 with h2 | ⟨h2, h2'⟩
        · exact Or.inl (ih j hj' s hs t h1 h2)
        · exact Or.inr ⟨ih j hj' s hs k h1 h2, h2'⟩
      · rcases h2 with h2 | ⟨h2, h2'⟩
        · exact Or.inr ⟨h1, ih j hj' k (by omega) t h1' h2⟩
        · exact Or.inr ⟨h1, h2'⟩
theorem fC_up (v : Nat → Int32) (k : Nat) (hk : k ≤ 8) (s : Nat) (hs : s < 8) (t : Nat) (h : bt (v s) t = true) : bt (fr_fC v k s) t = true := by
  induction k with
  | zero => exact h
  | succ k ih => exact (m_fC v k (by omega) s hs t).mpr (Or.inl (ih (by omega)))
theorem fC_least (v : Nat → Int32) (Q : Nat → Nat → Prop) (h0 : ∀ s t, s < 8 → bt (v s) t = true → Q s t) (h1 : ∀ s j t, Q s j → Q j t → Q s t) (k : Nat) (hk : k ≤ 8) : ∀ s t, s < 8 → bt (fr_fC v k s) t = true → Q s t := by
  induction k with
  | zero => exact h0
  | succ k ih =>
    have ih := ih (by omega)
    intro s t hs h
    rcases (m_fC v k (by omega) s hs t).mp h with h | ⟨h, h'⟩
    · exact ih s t hs h
    · exact h1 s k t (ih s k hs h) (ih k t (by omega) h')
/-- a way of one or more arcs within w -/
def fr_R (to : Nat → Int32) (w : Int32) (s t : Nat) : Prop := bt (fr_ways to w (fun _ => 0) s) t = true
theorem m_fA (to : Nat → Int32) (w : Int32) (s : Nat) (hs : s < 8) (t : Nat) : bt (fr_fA to w (fun _ => 0) 8 s) t = true ↔ bt w s = true ∧ bt (to s) t = true ∧ bt w t = true := by
  rw [fr_fA_out to w _ 8 s hs]
  split
  · rename_i c
    have c := (b_bit1 (by omega)).mp c
    rw [m_and]
    exact ⟨fun h => ⟨c, h⟩, fun h => h.2⟩
  · rename_i c
    rw [b_0]
    constructor
    · intro h; cases h
    · intro h
      exact absurd ((b_bit1 (by omega)).mpr h.1) c
theorem R_arc {to : Nat → Int32} {w : Int32} {s t : Nat} (hs : s < 8) (h1 : bt w s = true) (h2 : bt (to s) t = true) (h3 : bt w t = true) : fr_R to w s t :=
  fC_up _ 8 (Nat.le_refl 8) s hs t ((m_fA to w s hs t).mpr ⟨h1, h2, h3⟩)
theorem R_trans {to : Nat → Int32} {w : Int32} {s j t : Nat} (hs : s < 8) (hj : j < 8) (h1 : fr_R to w s j) (h2 : fr_R to w j t) : fr_R to w s t :=
  fC_trans _ 8 (Nat.le_refl 8) j hj s hs t h1 h2
theorem R_least {to : Nat → Int32} {w : Int32} (Q : Nat → Nat → Prop) (h0 : ∀ s t, s < 8 → bt w s = true → bt (to s) t = true → bt w t = true → Q s t) (h1 : ∀ s j t, Q s j → Q j t → Q s t) {s t : Nat} (hs : s < 8) (h : fr_R to w s t) : Q s t :=
  fC_least _ Q (fun s t hs q => by obtain ⟨a, b, c⟩ := (m_fA to w s hs t).mp q; exact h0 s t hs a b c) h1 8 (Nat.le_refl 8) s t hs h
theorem R_in {to : Nat → Int32} {w : Int32} {s t : Nat} (hs : s < 8) (h : fr_R to w s t) : bt w s = true ∧ bt w t = true :=
  R_least (fun s t => bt w s = true ∧ bt w t = true) (fun _ _ _ a _ c => ⟨a, c⟩) (fun _ _ _ a b => ⟨a.1, b.2⟩) hs h
theorem R_first {to : Nat → Int32} {w : Int32} (hw : fr_ok w) {s t : Nat} (hs : s < 8) (h : fr_R to w s t) : ∃ j, bt (to s) j = true ∧ bt w j = true ∧ (j = t ∨ fr_R to w j t) := by
  have key := R_least (fun s t => s < 8 ∧ fr_R to w s t ∧ ∃ j, bt (to s) j = true ∧ bt w j = true ∧ (j = t ∨ fr_R to w j t)) (fun s t hs a b c => ⟨hs, R_arc hs a b c, t, b, c, Or.inl rfl⟩)
    (fun s j t a b => by
      obtain ⟨hs, a1, i, a2, a3, a4⟩ := a
      obtain ⟨hj, b1, _⟩ := b
      refine ⟨hs, R_trans hs hj a1 b1, i, a2, a3, Or.inr ?_⟩
      rcases a4 with e | e
      · rw [e]; exact b1
      · exact R_trans (hw i a3) hj e b1) hs h
  exact key.2.2
/-! knots, demands, the good states -/
theorem m_kn (to : Nat → Int32) (w : Int32) (s : Nat) (hs : s < 8) (n : Nat) (hn : n ≤ 8) (t : Nat) : bt (fr_kn (fr_ways to w (fun _ => 0)) s n) t = true ↔ t < n ∧ fr_R to w s t ∧ fr_R to w t s := by
  induction n with
  | zero =>
    show bt 0 t = true ↔ _
    rw [b_0]
    constructor
    · intro h; cases h
    · intro h; omega
  | succ n ih =>
    have ih := ih (by omega)
    have no : ∀ (_ : ¬ (fr_R to w s n ∧ fr_R to w n s)), (bt (fr_kn (fr_ways to w (fun _ => 0)) s n) t = true ↔ t < n + 1 ∧ fr_R to w s t ∧ fr_R to w t s) := by
      intro q
      rw [ih]
      constructor
      · rintro ⟨h1, h2⟩
        exact ⟨by omega, h2⟩
      · rintro ⟨h1, h2⟩
        refine ⟨?_, h2⟩
        rcases Nat.lt_or_ge t n with v | v
        · exact v
        · have : t = n := by omega
          subst this
          exact absurd h2 q
    rw [fr_kn]
    split
    · rename_i c
      have c := (b_bit1 (by omega)).mp c
      split
      · rename_i c2
        have c2 := (b_bit1 (by omega)).mp c2
        rw [m_or, ih, m_sh (by omega)]
        constructor
        · rintro (⟨h1, h2⟩ | h)
          · exact ⟨by omega, h2⟩
          · subst h
            exact ⟨by omega, c, c2⟩
        · rintro ⟨h1, h2⟩
          by_cases e : t = n
          · exact Or.inr e
          · exact Or.inl ⟨by omega, h2⟩
      · rename_i c2
        exact no (fun q => c2 ((b_bit1 (by omega)).mpr q.2))
    · rename_i c
      exact no (fun q => c ((b_bit1 (by omega)).mpr q.1))
theorem m_kn8 {to : Nat → Int32} {w : Int32} {s : Nat} (hs : s < 8) {t : Nat} : bt (fr_kn (fr_ways to w (fun _ => 0)) s 8) t = true ↔ t < 8 ∧ fr_R to w s t ∧ fr_R to w t s := m_kn to w s hs 8 (Nat.le_refl 8) t
theorem m_md (dm : Nat → Int32) (x : Int32) (n : Nat) : ¬ fr_md dm x n = 0 ↔ (∃ i, bt x i = true) ∧ ∀ k, k < n → ∃ i, bt x i = true ∧ bt (dm k) i = true := by
  induction n with
  | zero =>
    rw [fr_md]
    by_cases c : x = 0
    · rw [if_pos c]
      constructor
      · intro h; exact absurd rfl h
      · rintro ⟨h, _⟩
        exact absurd c (b_ne0.mpr h)
    · rw [if_neg c]
      constructor
      · intro _
        exact ⟨b_ne0.mp c, fun k hk => by omega⟩
      · intro _
        decide
  | succ n ih =>
    rw [fr_md]
    by_cases c : fr_md dm x n = 0
    · rw [if_pos c]
      constructor
      · intro h; exact absurd rfl h
      · rintro ⟨h1, h2⟩
        exact absurd c (ih.mpr ⟨h1, fun k hk => h2 k (by omega)⟩)
    · rw [if_neg c]
      obtain ⟨h1, h2⟩ := ih.mp c
      by_cases q : x &&& dm n = 0
      · rw [if_pos q]
        constructor
        · intro h; exact absurd rfl h
        · rintro ⟨_, h⟩
          exact absurd q (b_and1.mpr (h n (by omega)))
      · rw [if_neg q]
        constructor
        · intro _
          refine ⟨h1, fun k hk => ?_⟩
          by_cases e : k = n
          · subst e
            exact b_and1.mp q
          · exact h2 k (by omega)
        · intro _
          decide
theorem m_gd (wy dm : Nat → Int32) (dn n : Nat) (t : Nat) : bt (fr_gd wy dm dn n) t = true ↔ ∃ s, s < n ∧ ¬ fr_md dm (fr_kn wy s 8) dn = 0 ∧ bt (fr_kn wy s 8) t = true := by
  induction n with
  | zero =>
    show bt 0 t = true ↔ _
    rw [b_0]
    constructor
    · intro h; cases h
    · rintro ⟨s, h, _⟩; omega
  | succ n ih =>
    rw [fr_gd]
    split
    · rename_i c
      rw [ih]
      constructor
      · rintro ⟨s, h1, h2⟩
        exact ⟨s, by omega, h2⟩
      · rintro ⟨s, h1, h2, h3⟩
        by_cases e : s = n
        · subst e
          exact absurd c h2
        · exact ⟨s, by omega, h2, h3⟩
    · rename_i c
      rw [m_or, ih]
      constructor
      · rintro (⟨s, h1, h2⟩ | h)
        · exact ⟨s, by omega, h2⟩
        · exact ⟨n, by omega, c, h⟩
      · rintro ⟨s, h1, h2, h3⟩
        by_cases e : s = n
        · subst e
          exact Or.inr h3
        · exact Or.inl ⟨s, by omega, h2, h3⟩
end
section
/-! staying: knots against taking away; both are the same set -/
section STAY
variable {to dm : Nat → Int32} {dn : Nat} {w : Int32}
theorem gd_kn {s i : Nat} (hs : s < 8) (hm : ¬ fr_md dm (fr_kn (fr_ways to w (fun _ => 0)) s 8) dn = 0) (h1 : fr_R to w s i) (h2 : fr_R to w i s) (hi : i < 8) : bt (fr_gd (fr_ways to w (fun _ => 0)) dm dn 8) i = true :=
  (m_gd _ dm dn 8 i).mpr ⟨s, hs, hm, (m_kn8 hs).mpr ⟨hi, h1, h2⟩⟩
theorem gd_of {i : Nat} (h : bt (fr_gd (fr_ways to w (fun _ => 0)) dm dn 8) i = true) : ∃ s, s < 8 ∧ ¬ fr_md dm (fr_kn (fr_ways to w (fun _ => 0)) s 8) dn = 0 ∧ i < 8 ∧ fr_R to w s i ∧ fr_R to w i s := by
  obtain ⟨s, hs, hm, hk⟩ := (m_gd _ dm dn 8 i).mp h
  obtain ⟨a, b, c⟩ := (m_kn8 hs).mp hk
  exact ⟨s, hs, hm, a, b, c⟩
theorem ok_gd : fr_ok (fr_gd (fr_ways to w (fun _ => 0)) dm dn 8) := fun i h => by
  obtain ⟨s, _, _, a, _⟩ := gd_of h
  exact a
theorem ok_st : fr_ok (fr_st to dm dn w) := ok_bk ok_gd 8
theorem st_gd {i : Nat} (h : bt (fr_gd (fr_ways to w (fun _ => 0)) dm dn 8) i = true) : bt (fr_st to dm dn w) i = true := bk_up (n := 0) (Nat.zero_le 8) h
theorem st_cl {i j : Nat} (hi : i < 8) (hw : bt w i = true) (he : bt (to i) j = true) (hj : bt (fr_st to dm dn w) j = true) : bt (fr_st to dm dn w) i = true := bk_cl ok_gd hi hw he hj
theorem st_in {i : Nat} (h : bt (fr_st to dm dn w) i = true) : bt w i = true := by
  have key : ∀ n i, bt (fr_bk to w (fr_gd (fr_ways to w (fun _ => 0)) dm dn 8) n) i = true → bt w i = true := by
    intro n
    induction n with
    | zero =>
      intro i h
      obtain ⟨s, hs, _, _, a, _⟩ := gd_of h
      exact (R_in hs a).2
    | succ n ih =>
      intro i h
      rcases m_bk.mp h with h | h
      · exact ih i h
      · exact h.2
  exact key 8 i h
theorem st_R {s t : Nat} (hs : s < 8) (h : fr_R to w s t) (ht : bt (fr_st to dm dn w) t = true) : bt (fr_st to dm dn w) s = true :=
  R_least (fun s t => bt (fr_st to dm dn w) t = true → bt (fr_st to dm dn w) s = true) (fun _ _ hs a b _ q => st_cl hs a b q) (fun _ _ _ a b q => a (b q)) hs h ht
/-- who stays has a next state that stays -/
theorem st_next (hw : fr_ok w) {i : Nat} (h : bt (fr_st to dm dn w) i = true) : ∃ j, bt (to i) j = true ∧ bt (fr_st to dm dn w) j = true := by
  have key : ∀ n, n ≤ 8 → ∀ i, bt (fr_bk to w (fr_gd (fr_ways to w (fun _ => 0)) dm dn 8) n) i = true → ∃ j, bt (to i) j = true ∧ bt (fr_st to dm dn w) j = true := by
    intro n
    induction n with
    | zero =>
      intro _ i h
      obtain ⟨s, hs, hm, hi, a, b⟩ := gd_of h
      obtain ⟨j, h1, h2, h3⟩ := R_first hw hi b
      have hj : j < 8 := hw j h2
      have hsj : fr_R to w s j := R_trans hs hi a (R_arc hi (R_in hi b).1 h1 h2)
      have hjs : fr_R to w j s := by
        rcases h3 with e | e
        · rw [e]; exact R_trans hs hi a b
        · exact e
      exact ⟨j, h1, st_gd (gd_kn hs hm hsj hjs hj)⟩
    | succ n ih =>
      intro hn i h
      rcases m_bk.mp h with h | ⟨⟨_, j, h2, h3⟩, _⟩
      · exact ih (by omega) i h
      · exact ⟨j, h2, bk_up (by omega) h3⟩
  exact key 8 (Nat.le_refl 8) i h
/-- who stays comes, staying, to each demand -/
theorem st_dem (hw : fr_ok w) {k : Nat} (hk : k < dn) {i : Nat} (h : bt (fr_st to dm dn w) i = true) : bt (fr_bk to (fr_st to dm dn w) (fr_st to dm dn w &&& dm k) 8) i = true := by
  have okg : fr_ok (fr_st to dm dn w &&& dm k) := ok_andl ok_st
  have G : ∀ i, bt (fr_gd (fr_ways to w (fun _ => 0)) dm dn 8) i = true → bt (fr_bk to (fr_st to dm dn w) (fr_st to dm dn w &&& dm k) 8) i = true := by
    intro i h
    obtain ⟨s, hs, hm, hi, a, b⟩ := gd_of h
    obtain ⟨t, h1, h2⟩ := ((m_md dm _ dn).mp hm).2 k hk
    obtain ⟨ht, h3, h4⟩ := (m_kn8 hs).mp h1
    have hst : bt (fr_st to dm dn w) t = true := st_gd (gd_kn hs hm h3 h4 ht)
    have hct : bt (fr_bk to (fr_st to dm dn w) (fr_st to dm dn w &&& dm k) 8) t = true := bk_up (n := 0) (Nat.zero_le 8) (m_and.mpr ⟨hst, h2⟩)
    have hit : fr_R to w i t := R_trans hi hs b h3
    exact (R_least (fun x y => (bt (fr_st to dm dn w) y = true ∧ bt (fr_bk to (fr_st to dm dn w) (fr_st to dm dn w &&& dm k) 8) y = true) → (bt (fr_st to dm dn w) x = true ∧ bt (fr_bk to (fr_st to dm dn w) (fr_st to dm dn w &&& dm k) 8) x = true))
      (fun x y hx a b _ q => by
        have := st_cl hx a b q.1
        exact ⟨this, bk_cl okg hx this b q.2⟩) (fun _ _ _ a b q => a (b q)) hi hit ⟨hst, hct⟩).2
  have key : ∀ n, n ≤ 8 → ∀ i, bt (fr_bk to w (fr_gd (fr_ways to w (fun _ => 0)) dm dn 8) n) i = true → bt (fr_bk to (fr_st to dm dn w) (fr_st to dm dn w &&& dm k) 8) i = true := by
    intro n
    induction n with
    | zero =>
      intro _ i h
      exact G i h
    | succ n ih =>
      intro hn i h
      have hst : bt (fr_st to dm dn w) i = true := bk_up hn h
      rcases m_bk.mp h with h | ⟨⟨hi, j, h2, h3⟩, _⟩
      · exact ih (by omega) i h
      · exact bk_cl okg hi hst h2 (ih (by omega) j h3)
  exact key 8 (Nat.le_refl 8) i h
/-- what stays is never taken away -/
theorem st_rd (hw : fr_ok w) {x : Int32} (hx : ∀ i, bt (fr_st to dm dn w) i = true → bt x i = true) : ∀ i, bt (fr_st to dm dn w) i = true → bt (fr_rd to dm dn x) i = true := by
  have h0 : ∀ i, bt (fr_st to dm dn w) i = true → bt (x &&& fr_bef to x 8) i = true := by
    intro i hi
    obtain ⟨j, h1, h2⟩ := st_next hw hi
    exact m_and.mpr ⟨hx i hi, m_bef8.mpr ⟨ok_st i hi, j, h1, hx j h2⟩⟩
  have key : ∀ n, n ≤ dn → ∀ i, bt (fr_st to dm dn w) i = true → bt (fr_rD to dm (x &&& fr_bef to x 8) n) i = true := by
    intro n
    induction n with
    | zero => intro _; exact h0
    | succ n ih =>
      intro hn i hi
      have ih := ih (by omega)
      obtain ⟨j, h1, h2⟩ := st_next hw hi
      rw [fr_rD]
      refine m_and.mpr ⟨ih i hi, m_bef8.mpr ⟨ok_st i hi, j, h1, ?_⟩⟩
      exact bk_mono ih (fun i q => m_and.mpr ⟨ih i (m_and.mp q).1, (m_and.mp q).2⟩) 8 j (st_dem hw (by omega) h2)
  exact key dn (Nat.le_refl dn)
theorem st_it (hw : fr_ok w) (n : Nat) : ∀ i, bt (fr_st to dm dn w) i = true → bt (fr_it to dm dn w n) i = true := by
  induction n with
  | zero => exact fun i h => st_in h
  | succ n ih => exact st_rd hw ih
/-! the other way -/
theorem it_in (n : Nat) {i : Nat} (h : bt (fr_it to dm dn w n) i = true) : bt w i = true := by
  induction n with
  | zero => exact h
  | succ n ih =>
    obtain ⟨z, hz⟩ := fr_rd_and to dm dn (fr_it to dm dn w n)
    have h : bt (fr_rd to dm dn (fr_it to dm dn w n)) i = true := h
    rw [hz] at h
    exact ih (m_and.mp h).1
theorem sm_fix (hw : fr_ok w) : ∃ n, fr_sm to dm dn w = fr_it to dm dn w n ∧ fr_rd to dm dn (fr_it to dm dn w n) = fr_it to dm dn w n := by
  rw [fr_sm, if_neg (ok_ne hw)]
  rcases fr_it_some to dm dn w (w.toBitVec.toNat + 1) with ⟨i, hi, e⟩ | q
  · refine ⟨i, ?_, e⟩
    have := fr_it_stay to dm dn w e (w.toBitVec.toNat + 1 - i)
    rwa [Nat.add_sub_cancel' hi] at this
  · omega
theorem rD_down {x : Int32} {j k : Nat} (h : j ≤ k) {i : Nat} (hi : bt (fr_rD to dm x k) i = true) : bt (fr_rD to dm x j) i = true := by
  induction k with
  | zero =>
    have : j = 0 := by omega
    rw [this]
    exact hi
  | succ k ih =>
    by_cases e : j = k + 1
    · rw [e]
      exact hi
    · rw [fr_rD] at hi
      exact ih (by omega) (m_and.mp hi).1
/-- what stands still: each has a next one there, and comes there to each demand -/
theorem rd_fix {Z : Int32} (h : fr_rd to dm dn Z = Z) : (∀ i, bt Z i = true → bt (fr_bef to Z 8) i = true) ∧ ∀ k, k < dn → ∀ i, bt Z i = true → bt (fr_bef to (fr_bk to Z (Z &&& dm k) 8) 8) i = true := by
  have h0 : ∀ i, bt Z i = true → bt (fr_rD to dm (Z &&& fr_bef to Z 8) dn) i = true := by
    intro i hi
    have : fr_rD to dm (Z &&& fr_bef to Z 8) dn = Z := h
    rw [this]
    exact hi
  have h1 : ∀ i, bt Z i = true → bt (Z &&& fr_bef to Z 8) i = true := fun i hi => rD_down (j := 0) (Nat.zero_le dn) (h0 i hi)
  have e0 : Z &&& fr_bef to Z 8 = Z := b_ext' (fun i => ⟨fun q => (m_and.mp q).1, h1 i⟩)
  have h2 : ∀ k, k ≤ dn → fr_rD to dm Z k = Z := by
    intro k hk
    rw [e0] at h0
    exact b_ext' (fun i => ⟨fun q => rD_down (j := 0) (Nat.zero_le k) q, fun q => rD_down hk (h0 i q)⟩)
  refine ⟨fun i hi => (m_and.mp (h1 i hi)).2, fun k hk i hi => ?_⟩
  have h3 : bt (fr_rD to dm Z (k + 1)) i = true := by rw [h2 (k + 1) hk]; exact hi
  rw [fr_rD, h2 k (by omega)] at h3
  exact (m_and.mp h3).2
theorem bk_of {Z g : Int32} (hw : fr_ok w) (hZ : ∀ i, bt Z i = true → bt w i = true) (hg : ∀ i, bt g i = true → bt Z i = true) (n : Nat) : ∀ j, bt (fr_bk to Z g n) j = true → bt Z j = true ∧ ∃ t, bt g t = true ∧ (j = t ∨ fr_R to w j t) := by
  induction n with
  | zero => exact fun j h => ⟨hg j h, j, h, Or.inl rfl⟩
  | succ n ih =>
    intro j h
    rcases m_bk.mp h with h | ⟨⟨hj, i, h2, h3⟩, h4⟩
    · exact ih j h
    · obtain ⟨a, t, b, c⟩ := ih i h3
      have hji : fr_R to w j i := R_arc hj (hZ j h4) h2 (hZ i a)
      refine ⟨h4, t, b, Or.inr ?_⟩
      rcases c with e | e
      · rw [← e]; exact hji
      · exact R_trans hj (hw i (hZ i a)) hji e
theorem fix_st (hw : fr_ok w) {Z : Int32} (hZ : ∀ i, bt Z i = true → bt w i = true) (h : fr_rd to dm dn Z = Z) : ∀ n z, fr_cnt (fr_ways to w (fun _ => 0) z) 8 ≤ n → bt Z z = true → bt (fr_st to dm dn w) z = true := by
  obtain ⟨hnx, hdm⟩ := rd_fix h
  -- a state y there with a way to itself, where all that it reaches in a demand leads back, or stays already
  have loopy : ∀ y, bt Z y = true → fr_R to w y y → (∀ t, bt Z t = true → fr_R to w y t → ¬ fr_R to w t y → bt (fr_st to dm dn w) t = true) → bt (fr_st to dm dn w) y = true := by
    intro y hy hyy hall
    have hy8 : y < 8 := hw y (hZ y hy)
    by_cases q : ∃ t, bt Z t = true ∧ fr_R to w y t ∧ ¬ fr_R to w t y
    · obtain ⟨t, a, b, c⟩ := q
      exact st_R hy8 b (hall t a b c)
    · refine st_gd (gd_kn hy8 ((m_md dm _ dn).mpr ⟨⟨y, (m_kn8 hy8).mpr ⟨hy8, hyy, hyy⟩⟩, fun k hk => ?_⟩) hyy hyy hy8)
      obtain ⟨_, j, h1, h2⟩ := m_bef8.mp (hdm k hk y hy)
      obtain ⟨a, t, b, c⟩ := bk_of hw hZ (fun i q => (m_and.mp q).1) 8 j h2
      have htZ : bt Z t = true := (m_and.mp b).1
      have ht8 : t < 8 := hw t (hZ t htZ)
      have hyj : fr_R to w y j := R_arc hy8 (hZ y hy) h1 (hZ j a)
      have hyt : fr_R to w y t := by
        rcases c with e | e
        · rw [← e]; exact hyj
        · exact R_trans hy8 (hw j (hZ j a)) hyj e
      have hty : fr_R to w t y := Classical.byContradiction fun v => q ⟨t, htZ, hyt, v⟩
      exact ⟨t, (m_kn8 hy8).mpr ⟨ht8, hyt, hty⟩, (m_and.mp b).2⟩
  intro n
  induction n with
  | zero =>
    intro z hn hz
    obtain ⟨hz8, y, h1, h2⟩ := m_bef8.mp (hnx z hz)
    have hzy : fr_R to w z y := R_arc hz8 (hZ z hz) h1 (hZ y h2)
    have := cnt_pos hzy 8 (hw y (hZ y h2))
    omega
  | succ n ih =>
    intro z hn hz
    obtain ⟨hz8, y, h1, h2⟩ := m_bef8.mp (hnx z hz)
    have hy8 : y < 8 := hw y (hZ y h2)
    have hzy : fr_R to w z y := R_arc hz8 (hZ z hz) h1 (hZ y h2)
    refine st_cl hz8 (hZ z hz) h1 ?_
    by_cases q : fr_R to w y y
    · have sub : ∀ t, bt (fr_ways to w (fun _ => 0) y) t = true → bt (fr_ways to w (fun _ => 0) z) t = true := fun t ht => R_trans hz8 hy8 hzy ht
      refine loopy y h2 q (fun t a b c => ih t ?_ a)
      have ht8 : t < 8 := hw t (hZ t a)
      have l1 : fr_cnt (fr_ways to w (fun _ => 0) t) 8 < fr_cnt (fr_ways to w (fun _ => 0) y) 8 := cnt_lt (fun i hi => R_trans hy8 ht8 b hi) (j := y) c q 8 hy8
      have l2 := cnt_mono sub 8
      omega
    · refine ih y ?_ h2
      have l1 : fr_cnt (fr_ways to w (fun _ => 0) y) 8 < fr_cnt (fr_ways to w (fun _ => 0) z) 8 := cnt_lt (fun i hi => R_trans hz8 hy8 hzy hi) (j := y) q hzy 8 hy8
      omega
/-- both classes' staying is one set -/
theorem st_sm (hw : fr_ok w) : fr_st to dm dn w = fr_sm to dm dn w := by
  obtain ⟨n, e, hf⟩ := sm_fix (to := to) (dm := dm) (dn := dn) hw
  rw [e]
  refine b_ext' (fun i => ⟨st_it hw n i, fun h => ?_⟩)
  exact fix_st hw (fun i q => it_in n q) hf _ i (Nat.le_refl _) h
end STAY
end
section
/-! reach, steps, knots: both classes answer alike -/
section ASKS
variable {to : Nat → Int32}
theorem in255 {i : Nat} (h : i < 8) : bt 255 i = true := by rw [b_255, decide_eq_true h]
theorem R_lt {w : Int32} (hw : fr_ok w) {s t : Nat} (hs : s < 8) (h : fr_R to w s t) : t < 8 := hw t (R_in hs h).2
theorem R_arc8 (hto : ∀ j, fr_ok (to j)) {s t : Nat} (hs : s < 8) (h : bt (to s) t = true) : fr_R to 255 s t := R_arc hs (in255 hs) h (in255 (hto s t h))
/-- on from a set x: what lies in x, or is reached from it -/
theorem fw_of (hto : ∀ j, fr_ok (to j)) {x : Int32} (hx : fr_ok x) (n : Nat) : ∀ i, bt (fr_fw to x n) i = true → bt x i = true ∨ ∃ s, bt x s = true ∧ fr_R to 255 s i := by
  induction n with
  | zero => exact fun i h => Or.inl h
  | succ n ih =>
    intro i h
    rcases m_fw.mp h with h | ⟨j, hj, h1, h2⟩
    · exact ih i h
    · refine Or.inr ?_
      have hji := R_arc8 hto hj h2
      rcases ih j h1 with q | ⟨s, q, r⟩
      · exact ⟨j, q, hji⟩
      · exact ⟨s, q, R_trans (hx s q) hj r hji⟩
theorem fw_to (hto : ∀ j, fr_ok (to j)) {x : Int32} (hx : fr_ok x) {s i : Nat} (hs : bt x s = true) (h : fr_R to 255 s i) : bt (fr_fw to x 8) i = true :=
  R_least (fun s i => bt (fr_fw to x 8) s = true → bt (fr_fw to x 8) i = true) (fun _ _ _ _ b _ q => fw_cl hto hx b q) (fun _ _ _ a b q => b (a q)) (hx s hs) h (fw_up (n := 0) (Nat.zero_le 8) hs)
theorem reach_eq (hto : ∀ j, fr_ok (to j)) {s : Nat} (hs : s < 8) : fr_ways to 255 (fun _ => 0) s ||| ((1 : Int32) <<< (nI s &&& 31)) = fr_fw to ((1 : Int32) <<< (nI s &&& 31)) 8 := by
  refine b_ext' (fun i => ?_)
  rw [m_or]
  constructor
  · rintro (h | h)
    · exact fw_to hto (ok_sh hs) ((m_sh (by omega)).mpr rfl) h
    · exact fw_up (n := 0) (Nat.zero_le 8) h
  · intro h
    rcases fw_of hto (ok_sh hs) 8 i h with q | ⟨j, q, r⟩
    · exact Or.inr q
    · have : j = s := (m_sh (by omega)).mp q
      subst this
      exact Or.inl r
/-! steps -/
def fr_sb (to : Nat → Int32) (g : Int32) : Nat → Int32
  | 0 => g
  | n + 1 => fr_sb to g n ||| fr_bef to (fr_sb to g n) 8
theorem sb_succ (g : Int32) (n : Nat) : fr_sb to (g ||| fr_bef to g 8) n = fr_sb to g (n + 1) := by
  induction n with
  | zero => rfl
  | succ n ih => rw [fr_sb, ih]; rfl
theorem fw_sb {x : Int32} (n : Nat) : ∀ (g : Int32), fr_ok x → (∀ j, fr_ok (to j)) → ((∃ i, bt (fr_fw to x n) i = true ∧ bt g i = true) ↔ ∃ i, bt x i = true ∧ bt (fr_sb to g n) i = true) := by
  induction n with
  | zero => intro g _ _; exact Iff.rfl
  | succ n ih =>
    intro g hx hto
    rw [← sb_succ, ← ih (g ||| fr_bef to g 8) hx hto]
    constructor
    · rintro ⟨i, h1, h2⟩
      rcases m_fw.mp h1 with h | ⟨s, hs, h3, h4⟩
      · exact ⟨i, h, m_or.mpr (Or.inl h2)⟩
      · exact ⟨s, h3, m_or.mpr (Or.inr (m_bef8.mpr ⟨hs, i, h4, h2⟩))⟩
    · rintro ⟨i, h1, h2⟩
      rcases m_or.mp h2 with h | h
      · exact ⟨i, m_fw.mpr (Or.inl h1), h⟩
      · obtain ⟨hi, t, h3, h4⟩ := m_bef8.mp h
        exact ⟨t, m_fw.mpr (Or.inr ⟨i, hi, h1, h3⟩), h4⟩
theorem fw_sb1 (hto : ∀ j, fr_ok (to j)) {s : Nat} (hs : s < 8) (g : Int32) (n : Nat) : bt (fr_sb to g n) s = true ↔ ¬ fr_fw to ((1 : Int32) <<< (nI s &&& 31)) n &&& g = 0 := by
  rw [b_and1, fw_sb n g (ok_sh hs) hto]
  constructor
  · intro h
    exact ⟨s, (m_sh (by omega)).mpr rfl, h⟩
  · rintro ⟨i, h1, h2⟩
    have : i = s := (m_sh (by omega)).mp h1
    subst this
    exact h2
theorem steps_eq (hto : ∀ j, fr_ok (to j)) {s : Nat} (hs : s < 8) {g : Int32} (hg : fr_ok g) : fr_p0 to (nI s) 9 0 g = fr_p1 to g 8 0 ((1 : Int32) <<< (nI s &&& 31)) := by
  have key : ∀ f n, n + f = 8 → (∀ m, m + 1 = n → ¬ bt (fr_sb to g m) s = true) → fr_p0 to (nI s) (f + 1) n (fr_sb to g n) = fr_p1 to g f n (fr_fw to ((1 : Int32) <<< (nI s &&& 31)) n) := by
    intro f
    induction f with
    | zero =>
      intro n hn hp
      have : n = 8 := by omega
      subst this
      have h7 := hp 7 rfl
      have h8 : ¬ bt (fr_sb to g 8) s = true := by
        rw [fw_sb1 hto hs, fw_fix7 hto (ok_sh hs) (j := s) ((m_sh (by omega)).mpr rfl), ← fw_sb1 hto hs]
        exact h7
      rw [fr_p0, if_neg (fun q => h8 ((b_bit1 (by omega)).mp q))]
      rfl
    | succ f ih =>
      intro n hn hp
      rw [fr_p0, fr_p1, if_neg (ok_pos hg)]
      by_cases q : bt (fr_sb to g n) s = true
      · rw [if_pos ((b_bit1 (by omega)).mpr q), if_neg ((fw_sb1 hto hs g n).mp q)]
      · rw [if_neg (fun v => q ((b_bit1 (by omega)).mp v)), if_pos (Classical.byContradiction fun v => q ((fw_sb1 hto hs g n).mpr v))]
        exact ih (n + 1) (by omega) (fun m hm => by
          have : m = n := by omega
          rw [this]
          exact q)
  exact key 8 0 rfl (fun m hm => by omega)
/-! knots -/
theorem m_kt (hto : ∀ j, fr_ok (to j)) {s : Nat} (hs : s < 8) (t : Nat) : bt (fr_kt to s) t = true ↔ fr_R to 255 s t ∧ (t = s ∨ fr_R to 255 t s) := by
  have hbeh : ∀ i, bt (fr_beh to ((1 : Int32) <<< (nI s &&& 31)) 8) i = true ↔ bt (to s) i = true := by
    intro i
    rw [m_beh8]
    constructor
    · rintro ⟨j, _, h1, h2⟩
      have : j = s := (m_sh (by omega)).mp h1
      subst this
      exact h2
    · intro h
      exact ⟨s, hs, (m_sh (by omega)).mpr rfl, h⟩
  have okb : fr_ok (fr_beh to ((1 : Int32) <<< (nI s &&& 31)) 8) := ok_beh hto _
  have h1 : bt (fr_fw to (fr_beh to ((1 : Int32) <<< (nI s &&& 31)) 8) 8) t = true ↔ fr_R to 255 s t := by
    constructor
    · intro h
      rcases fw_of hto okb 8 t h with q | ⟨j, q, r⟩
      · exact R_arc8 hto hs ((hbeh t).mp q)
      · exact R_trans hs (okb j q) (R_arc8 hto hs ((hbeh j).mp q)) r
    · intro h
      exact R_least (fun x y => (x = s ∨ bt (fr_fw to (fr_beh to ((1 : Int32) <<< (nI s &&& 31)) 8) 8) x = true) → bt (fr_fw to (fr_beh to ((1 : Int32) <<< (nI s &&& 31)) 8) 8) y = true)
        (fun x y _ _ b _ q => by
          rcases q with e | e
          · subst e
            exact fw_up (n := 0) (Nat.zero_le 8) ((hbeh y).mpr b)
          · exact fw_cl hto okb b e) (fun _ _ _ a b q => b (Or.inr (a q))) hs h (Or.inl rfl)
  have h2 : bt (fr_bk to 255 ((1 : Int32) <<< (nI s &&& 31)) 8) t = true ↔ (t = s ∨ fr_R to 255 t s) := by
    constructor
    · intro h
      obtain ⟨_, j, a, b⟩ := bk_of (Z := 255) (w := 255) (g := (1 : Int32) <<< (nI s &&& 31)) ok_255 (fun _ q => q) (fun i q => in255 (ok_sh hs i q)) 8 t h
      have : j = s := (m_sh (by omega)).mp a
      rw [← this]
      exact b
    · rintro (h | h)
      · exact bk_up (n := 0) (Nat.zero_le 8) ((m_sh (by omega)).mpr h)
      · by_cases ht : t < 8
        · exact R_least (fun x y => bt (fr_bk to 255 ((1 : Int32) <<< (nI s &&& 31)) 8) y = true → bt (fr_bk to 255 ((1 : Int32) <<< (nI s &&& 31)) 8) x = true) (fun x y hx a b _ q => bk_cl (ok_sh hs) hx a b q) (fun _ _ _ a b q => a (b q)) ht h (bk_up (n := 0) (Nat.zero_le 8) ((m_sh (by omega)).mpr rfl))
        · exfalso
          have e : fr_ways to 255 (fun _ => 0) t = 0 := by
            have g : ∀ k, k ≤ 8 → fr_fC (fr_fA to 255 (fun _ => 0) 8) k t = 0 := by
              intro k
              induction k with
              | zero =>
                intro _
                have : ∀ n, n ≤ 8 → fr_fA to 255 (fun _ => 0) n t = 0 := by
                  intro n
                  induction n with
                  | zero => intro _; rfl
                  | succ n ih =>
                    intro hn
                    rw [fr_fA, pk_un (by omega)]
                    exact ih (by omega)
                exact this 8 (Nat.le_refl 8)
              | succ k ih =>
                intro hk
                rw [fr_fC, fr_fB_eq k (by omega) _ 8 (Nat.le_refl 8), if_neg (by omega)]
                exact ih (by omega)
            exact g 8 (Nat.le_refl 8)
          have h : bt (fr_ways to 255 (fun _ => 0) t) s = true := h
          rw [e, b_0] at h
          cases h
  rw [fr_kt, m_and, h1, h2]
theorem b_low : ∀ s, s < 8 → ∀ i, i < 32 → bt (((1 : Int32) <<< (nI s &&& 31)) - 1) i = decide (i < s) := by decide +kernel
theorem m_low {s : Nat} (hs : s < 8) (i : Nat) : bt (((1 : Int32) <<< (nI s &&& 31)) - 1) i = true ↔ i < s := by
  rcases Nat.lt_or_ge i 32 with h | h
  · rw [b_low s hs i h, decide_eq_true_eq]
  · rw [b_big h]
    constructor
    · intro q; cases q
    · intro q; omega
theorem knots_eq (hto : ∀ j, fr_ok (to j)) : (fr_k0 (fr_ways to 255 (fun _ => 0)) 8).1 = fr_k1 to 8 := by
  have key : ∀ n, n ≤ 8 → (fr_k0 (fr_ways to 255 (fun _ => 0)) n).1 = fr_k1 to n ∧ ∀ t, bt (fr_k0 (fr_ways to 255 (fun _ => 0)) n).2 t = true ↔ ∃ s, s < n ∧ t < 8 ∧ fr_R to 255 s t ∧ fr_R to 255 t s := by
    intro n
    induction n with
    | zero =>
      intro _
      refine ⟨rfl, fun t => ?_⟩
      show bt 0 t = true ↔ _
      rw [b_0]
      constructor
      · intro h; cases h
      · rintro ⟨s, h, _⟩; omega
    | succ n ih =>
      intro hn
      have hn8 : n < 8 := by omega
      obtain ⟨i1, i2⟩ := ih (by omega)
      have c1 : ¬ fr_kn (fr_ways to 255 (fun _ => 0)) n 8 = 0 ↔ (fr_kt to n >>> (nI n &&& 31)) &&& 1 = 1 := by
        rw [b_ne0, b_bit1 (by omega), m_kt hto hn8]
        constructor
        · rintro ⟨t, h⟩
          obtain ⟨ht, a, b⟩ := (m_kn8 hn8).mp h
          exact ⟨R_trans hn8 ht a b, Or.inl rfl⟩
        · rintro ⟨a, _⟩
          exact ⟨n, (m_kn8 hn8).mpr ⟨hn8, a, a⟩⟩
      have c2 : ((fr_k0 (fr_ways to 255 (fun _ => 0)) n).2 >>> (nI n &&& 31)) &&& 1 = 0 ↔ fr_kt to n &&& (((1 : Int32) <<< (nI n &&& 31)) - 1) = 0 := by
        rw [b_bit0 (by omega), b_and0, Bool.eq_false_iff]
        constructor
        · intro h t q
          refine h ((i2 n).mpr ?_)
          have ht := (m_low hn8 t).mp q.2
          obtain ⟨a, b⟩ := (m_kt hto hn8 t).mp q.1
          have b : fr_R to 255 t n := b.resolve_left (by omega)
          exact ⟨t, ht, hn8, b, a⟩
        · intro h q
          obtain ⟨s, hs, _, a, b⟩ := (i2 n).mp q
          exact h s ⟨(m_kt hto hn8 s).mpr ⟨b, Or.inr a⟩, (m_low hn8 s).mpr hs⟩
      constructor
      · rw [fr_k0, fr_k1]
        dsimp only
        rw [i1]
        by_cases q : fr_kn (fr_ways to 255 (fun _ => 0)) n 8 = 0
        · rw [if_pos q, if_neg (fun v => c1.mpr v q)]
        · rw [if_neg q, if_pos (c1.mp q)]
          by_cases r : ((fr_k0 (fr_ways to 255 (fun _ => 0)) n).2 >>> (nI n &&& 31)) &&& 1 = 0
          · rw [if_pos r, if_pos (c2.mp r)]
          · rw [if_neg r, if_neg (fun v => r (c2.mpr v))]
      · intro t
        rw [fr_k0]
        dsimp only
        rw [m_or, i2, m_kn8 hn8]
        constructor
        · rintro (⟨s, h1, h2⟩ | h)
          · exact ⟨s, by omega, h2⟩
          · exact ⟨n, by omega, h⟩
        · rintro ⟨s, h1, h2⟩
          by_cases e : s = n
          · subst e
            exact Or.inr h2
          · exact Or.inl ⟨s, by omega, h2⟩
  exact (key 8 (Nat.le_refl 8)).1
end ASKS
end
section
/-! formulas: both classes' tables, and what their values are -/
set_option maxRecDepth 100000
/-- formula i in the one class and in the other -/
def fr_cor (i : Nat) (k l r k' l' r' : Int32) : Prop :=
  (∃ j, j < 4 ∧ k = 0 ∧ l = nI j ∧ k' = 20 + nI j) ∨ (∃ o j, o < 7 ∧ j < i ∧ k = 1 + nI o ∧ k' = nI o ∧ l = nI j ∧ l' = nI j ∧ r = 0 ∧ r' = 0) ∨ (∃ o j t, o < 4 ∧ j < i ∧ t < i ∧ k = 8 + nI o ∧ k' = 10 + nI o ∧ l = nI j ∧ l' = nI j ∧ r = nI t ∧ r' = nI t)
/-- what holds between the two objects -/
def fr_inv (to mk : Nat → Int32) (dn md ht : Nat) (kd lf rt kd' lf' rt' sk : Nat → Int32) : Prop :=
  (∀ j, fr_ok (to j)) ∧ (∀ j, fr_ok (mk j)) ∧ dn ≤ 3 ∧ md ≤ 20 ∧ ht ≤ 6 ∧ (∀ j, j < ht → ∃ k, k < md ∧ sk j = nI k) ∧ (∀ i, i < md → fr_cor i (kd i) (lf i) (rt i) (kd' i) (lf' i) (rt' i))
theorem kk_4 : ∀ j, j < 4 → ¬ (20 + nI j ≤ 19) ∧ 20 + nI j - 20 = nI j := by decide +kernel
theorem kk_7 : ∀ o, o < 7 → ¬ 1 + nI o = 0 ∧ 1 + nI o < 8 ∧ nI o ≤ 19 ∧ nI o ≤ 9 := by decide +kernel
theorem kk_t : ∀ o, o < 4 → ¬ 8 + nI o = 0 ∧ ¬ 8 + nI o < 8 ∧ 10 + nI o ≤ 19 ∧ ¬ 10 + nI o ≤ 9 ∧ 10 + nI o - 10 = nI o := by decide +kernel
theorem cor_w0 {i : Nat} (hi : i < 20) {k l r k' l' r' : Int32} (h : fr_cor i k l r k' l' r') : (k = 0 → vp_in l 4) ∧ (¬ k = 0 → vp_in l 20 ∧ vp_in r 20) := by
  rcases h with ⟨j, hj, h1, h2, h3⟩ | ⟨o, j, ho, hj, h1, h2, h3, h4, h5, h6⟩ | ⟨o, j, t, ho, hj, ht, h1, h2, h3, h4, h5, h6⟩
  · rw [h2]
    exact ⟨fun _ => vp_in_nI hj (by decide), fun q => absurd h1 q⟩
  · rw [h1, h3, h5]
    exact ⟨fun q => absurd q (kk_7 o ho).1, fun _ => ⟨vp_in_nI (by omega) (by decide), vp_in_nI (n := 0) (by decide) (by decide)⟩⟩
  · rw [h1, h3, h5]
    exact ⟨fun q => absurd q (kk_t o ho).1, fun _ => ⟨vp_in_nI (by omega) (by decide), vp_in_nI (by omega) (by decide)⟩⟩
theorem cor_w1 {i : Nat} (hi : i < 20) {k l r k' l' r' : Int32} (h : fr_cor i k l r k' l' r') : (k' ≤ 19 → vp_in l' 20 ∧ vp_in r' 20) ∧ (¬ k' ≤ 19 → vp_in (k' - 20) 4) := by
  rcases h with ⟨j, hj, h1, h2, h3⟩ | ⟨o, j, ho, hj, h1, h2, h3, h4, h5, h6⟩ | ⟨o, j, t, ho, hj, ht, h1, h2, h3, h4, h5, h6⟩
  · rw [h3, (kk_4 j hj).2]
    exact ⟨fun q => absurd q (kk_4 j hj).1, fun _ => vp_in_nI hj (by decide)⟩
  · rw [h2, h4, h6]
    exact ⟨fun _ => ⟨vp_in_nI (by omega) (by decide), vp_in_nI (n := 0) (by decide) (by decide)⟩, fun q => absurd (kk_7 o ho).2.2.1 q⟩
  · rw [h2, h4, h6]
    exact ⟨fun _ => ⟨vp_in_nI (by omega) (by decide), vp_in_nI (by omega) (by decide)⟩, fun q => absurd (kk_t o ho).2.2.1 q⟩
section VALS
variable {to : Nat → Int32} {st0 st1 : Int32 → Int32}
theorem ok_no (f : Int32) : fr_ok (fr_no f) := ok_andl ok_255
theorem o_eq (h : ∀ w, fr_ok w → st0 w = st1 w) {o : Nat} (ho : o < 7) {f : Int32} (hf : fr_ok f) : fr_o0 to st0 (1 + nI o) f = fr_o1 to st1 (nI o) f := by
  have e1 := h 255 ok_255
  have e2 := h f hf
  have e3 := h (fr_no f) (ok_no f)
  unfold fr_o0 fr_o1 fr_sn fr_un
  rw [e1, e2, e3]
  rcases (show o = 0 ∨ o = 1 ∨ o = 2 ∨ o = 3 ∨ o = 4 ∨ o = 5 ∨ o = 6 by omega) with rfl | rfl | rfl | rfl | rfl | rfl | rfl
  · rw [if_pos (show (1 : Int32) + nI 0 = 1 by decide), if_pos (show nI 0 = 0 by decide)]
  · rw [if_neg (show ¬ (1 : Int32) + nI 1 = 1 by decide), if_pos (show (1 : Int32) + nI 1 = 2 by decide), if_neg (show ¬ nI 1 = 0 by decide), if_pos (show nI 1 = 1 by decide)]
  · rw [if_neg (show ¬ (1 : Int32) + nI 2 = 1 by decide), if_neg (show ¬ (1 : Int32) + nI 2 = 2 by decide), if_pos (show (1 : Int32) + nI 2 = 3 by decide), if_neg (show ¬ nI 2 = 0 by decide), if_neg (show ¬ nI 2 = 1 by decide), if_pos (show nI 2 = 2 by decide)]
  · rw [if_neg (show ¬ (1 : Int32) + nI 3 = 1 by decide), if_neg (show ¬ (1 : Int32) + nI 3 = 2 by decide), if_neg (show ¬ (1 : Int32) + nI 3 = 3 by decide), if_pos (show (1 : Int32) + nI 3 = 4 by decide), if_neg (show ¬ nI 3 = 0 by decide), if_neg (show ¬ nI 3 = 1 by decide), if_neg (show ¬ nI 3 = 2 by decide), if_pos (show nI 3 = 3 by decide)]
  · rw [if_neg (show ¬ (1 : Int32) + nI 4 = 1 by decide), if_neg (show ¬ (1 : Int32) + nI 4 = 2 by decide), if_neg (show ¬ (1 : Int32) + nI 4 = 3 by decide), if_neg (show ¬ (1 : Int32) + nI 4 = 4 by decide), if_pos (show (1 : Int32) + nI 4 = 5 by decide), if_neg (show ¬ nI 4 = 0 by decide), if_neg (show ¬ nI 4 = 1 by decide), if_neg (show ¬ nI 4 = 2 by decide), if_neg (show ¬ nI 4 = 3 by decide), if_pos (show nI 4 = 4 by decide)]
  · rw [if_neg (show ¬ (1 : Int32) + nI 5 = 1 by decide), if_neg (show ¬ (1 : Int32) + nI 5 = 2 by decide), if_neg (show ¬ (1 : Int32) + nI 5 = 3 by decide), if_neg (show ¬ (1 : Int32) + nI 5 = 4 by decide), if_neg (show ¬ (1 : Int32) + nI 5 = 5 by decide), if_pos (show (1 : Int32) + nI 5 = 6 by decide), if_neg (show ¬ nI 5 = 0 by decide), if_neg (show ¬ nI 5 = 1 by decide), if_neg (show ¬ nI 5 = 2 by decide), if_neg (show ¬ nI 5 = 3 by decide), if_neg (show ¬ nI 5 = 4 by decide), if_pos (show nI 5 = 5 by decide)]
  · rw [if_neg (show ¬ (1 : Int32) + nI 6 = 1 by decide), if_neg (show ¬ (1 : Int32) + nI 6 = 2 by decide), if_neg (show ¬ (1 : Int32) + nI 6 = 3 by decide), if_neg (show ¬ (1 : Int32) + nI 6 = 4 by decide), if_neg (show ¬ (1 : Int32) + nI 6 = 5 by decide), if_neg (show ¬ (1 : Int32) + nI 6 = 6 by decide), if_neg (show ¬ nI 6 = 0 by decide), if_neg (show ¬ nI 6 = 1 by decide), if_neg (show ¬ nI 6 = 2 by decide), if_neg (show ¬ nI 6 = 3 by decide), if_neg (show ¬ nI 6 = 4 by decide), if_neg (show ¬ nI 6 = 5 by decide)]
theorem au_eq (f g x y : Int32) (B : Int32 → Int32) (hx : x = y) : 255 &&& ((x ||| B (fr_no g &&& (f ^^^ (-1)))) ^^^ (-1)) = (255 &&& (B (fr_no g &&& fr_no f) ^^^ (-1))) &&& (y ^^^ (-1)) := by
  subst hx
  have e : fr_no g &&& fr_no f = fr_no g &&& (f ^^^ (-1)) := by
    refine b_ext' (fun i => ?_)
    unfold fr_no
    simp only [m_and]
    exact ⟨fun h => ⟨h.1, h.2.2⟩, fun h => ⟨h.1, h.1.1, h.2⟩⟩
  rw [e]
  generalize B (fr_no g &&& (f ^^^ (-1))) = z
  refine b_ext (fun i hi => ?_)
  rw [b_and, b_xor, b_or, b_and, b_and, b_xor, b_xor, b_m1 i hi]
  cases bt 255 i <;> cases bt x i <;> cases bt z i <;> rfl
theorem t_eq (h : ∀ w, fr_ok w → st0 w = st1 w) {o : Nat} (ho : o < 4) (f g : Int32) : fr_t0 to st0 (8 + nI o) f g = fr_t1 to st1 (nI o) f g := by
  have e1 := h 255 ok_255
  have e3 := h (fr_no g) (ok_no g)
  unfold fr_t0 fr_t1 fr_au fr_un
  rw [e1]
  rcases (show o = 0 ∨ o = 1 ∨ o = 2 ∨ o = 3 by omega) with rfl | rfl | rfl | rfl
  · rw [if_pos (show (8 : Int32) + nI 0 = 8 by decide), if_pos (show nI 0 < 2 by decide), if_pos (show nI 0 = 0 by decide)]
  · rw [if_neg (show ¬ (8 : Int32) + nI 1 = 8 by decide), if_pos (show (8 : Int32) + nI 1 = 9 by decide), if_pos (show nI 1 < 2 by decide), if_neg (show ¬ nI 1 = 0 by decide)]
  · rw [if_neg (show ¬ (8 : Int32) + nI 2 = 8 by decide), if_neg (show ¬ (8 : Int32) + nI 2 = 9 by decide), if_pos (show (8 : Int32) + nI 2 = 10 by decide), if_neg (show ¬ nI 2 < 2 by decide), if_pos (show nI 2 = 2 by decide)]
  · rw [if_neg (show ¬ (8 : Int32) + nI 3 = 8 by decide), if_neg (show ¬ (8 : Int32) + nI 3 = 9 by decide), if_neg (show ¬ (8 : Int32) + nI 3 = 10 by decide), if_neg (show ¬ nI 3 < 2 by decide), if_neg (show ¬ nI 3 = 2 by decide)]
    exact au_eq f g _ _ (fun z => fr_bk to (fr_no g) (z &&& st1 255) 8) e3
theorem ok_o0 (h : ∀ w, fr_ok (st0 w)) (w : Int32) {f : Int32} (hf : fr_ok f) : fr_ok (fr_o0 to st0 w f) := by
  unfold fr_o0
  split
  · exact ok_no f
  split
  · exact ok_bef to _
  split
  · exact ok_bk (ok_andl hf) 8
  split
  · exact h f
  split
  · exact ok_andl ok_255
  split
  · exact ok_andl ok_255
  · exact ok_andl ok_255
theorem ok_t0 (w : Int32) {f g : Int32} (hf : fr_ok f) (hg : fr_ok g) : fr_ok (fr_t0 to st0 w f g) := by
  unfold fr_t0
  split
  · exact ok_andl hf
  split
  · exact ok_or hf hg
  split
  · exact ok_bk (ok_andl hg) 8
  · exact ok_andl ok_255
end VALS
section VALS2
variable {to mk dm : Nat → Int32} {dn md ht : Nat} {kd lf rt kd' lf' rt' sk : Nat → Int32}
theorem v_eq (I : fr_inv to mk dn md ht kd lf rt kd' lf' rt' sk) (v v' : Nat → Int32) (n : Nat) (hn : n ≤ md) : ∀ i, i < n → fr_v0 to mk (fr_st to dm dn) kd lf rt v n i = fr_v1 to mk (fr_sm to dm dn) kd' lf' rt' v' n i ∧ fr_ok (fr_v0 to mk (fr_st to dm dn) kd lf rt v n i) := by
  obtain ⟨hto, hmk, hdn, hmd, hht, hsk, hcor⟩ := I
  induction n with
  | zero => intro i hi; omega
  | succ n ih =>
    have ih := ih (by omega)
    intro i hi
    rw [fr_v0, fr_v1]
    by_cases e : i = n
    · subst e
      rw [pk_us, pk_us]
      unfold fr_e0 fr_e1
      rcases hcor i (by omega) with ⟨j, hj, h1, h2, h3⟩ | ⟨o, j, ho, hj, h1, h2, h3, h4, h5, h6⟩ | ⟨o, j, t, ho, hj, ht, h1, h2, h3, h4, h5, h6⟩
      · rw [if_pos h1, h2, h3, if_neg (kk_4 j hj).1, (kk_4 j hj).2]
        exact ⟨rfl, hmk _⟩
      · rw [h1, h2, h3, h4, if_neg (kk_7 o ho).1, if_pos (kk_7 o ho).2.1, if_pos (kk_7 o ho).2.2.1, if_pos (kk_7 o ho).2.2.2, nI_clamp (by omega), ← (ih j hj).1]
        exact ⟨o_eq (fun w hw => st_sm hw) ho (ih j hj).2, ok_o0 (fun w => ok_st) _ (ih j hj).2⟩
      · rw [h1, h2, h3, h4, h5, h6, if_neg (kk_t o ho).1, if_neg (kk_t o ho).2.1, if_pos (kk_t o ho).2.2.1, if_neg (kk_t o ho).2.2.2.1, (kk_t o ho).2.2.2.2, nI_clamp (by omega), nI_clamp (by omega), ← (ih j hj).1, ← (ih t ht).1]
        exact ⟨t_eq (fun w hw => st_sm hw) ho _ _, ok_t0 _ (ih j hj).2 (ih t ht).2⟩
    · rw [pk_un e, pk_un e]
      exact ih i (by omega)
theorem v0_at (st : Int32 → Int32) (v : Nat → Int32) (n : Nat) : ∀ i, i < n → fr_v0 to mk st kd lf rt v n i = fr_v0 to mk st kd lf rt v (i + 1) i := by
  induction n with
  | zero => intro i hi; omega
  | succ n ih =>
    intro i hi
    by_cases e : i = n
    · subst e
      rfl
    · rw [fr_v0, pk_un e]
      exact ih i (by omega)
theorem hold_eq (I : fr_inv to mk dn md ht kd lf rt kd' lf' rt' sk) (v v' : Nat → Int32) {j : Nat} (hj : j < ht) : fr_v0 to mk (fr_st to dm dn) kd lf rt v ((sk j).toNatClampNeg + 1) (sk j).toNatClampNeg = fr_v1 to mk (fr_sm to dm dn) kd' lf' rt' v' md (sk j).toNatClampNeg ∧ fr_ok (fr_v0 to mk (fr_st to dm dn) kd lf rt v ((sk j).toNatClampNeg + 1) (sk j).toNatClampNeg) := by
  obtain ⟨k, hk, e⟩ := I.2.2.2.2.2.1 j hj
  have hmd := I.2.2.2.1
  rw [e, nI_clamp (by omega), ← v0_at _ v md k hk]
  exact v_eq I v v' md (Nat.le_refl _) k hk
theorem hold_eq2 (I : fr_inv to mk dn md ht kd lf rt kd' lf' rt' sk) (v v' : Nat → Int32) {j : Nat} (hj : j < ht) : fr_v0 to mk (fr_st to dm dn) kd lf rt v md (sk j).toNatClampNeg = fr_v1 to mk (fr_sm to dm dn) kd' lf' rt' v' md (sk j).toNatClampNeg := by
  obtain ⟨k, hk, e⟩ := I.2.2.2.2.2.1 j hj
  have hmd := I.2.2.2.1
  rw [e, nI_clamp (by omega)]
  exact (v_eq I v v' md (Nat.le_refl _) k hk).1
/-! the answers -/
theorem a_holds (I : fr_inv to mk dn md ht kd lf rt kd' lf' rt' sk) (v v' : Nat → Int32) : (if ht = 0 then -4 else fr_v0 to mk (fr_st to dm dn) kd lf rt v ((sk (ht - 1)).toNatClampNeg + 1) (sk (ht - 1)).toNatClampNeg) = (if ht = 0 then -4 else fr_v1 to mk (fr_sm to dm dn) kd' lf' rt' v' md (sk (ht - 1)).toNatClampNeg) := by
  by_cases c : ht = 0
  · rw [if_pos c, if_pos c]
  · rw [if_neg c, if_neg c]
    exact (hold_eq I v v' (by omega)).1
theorem a_alike (I : fr_inv to mk dn md ht kd lf rt kd' lf' rt' sk) (v v' : Nat → Int32) : fr_b (decide (2 ≤ ht) && decide (fr_v0 to mk (fr_st to dm dn) kd lf rt v md (sk (ht - 1)).toNatClampNeg = fr_v0 to mk (fr_st to dm dn) kd lf rt v md (sk (ht - 2)).toNatClampNeg)) = fr_b (decide (2 ≤ ht) && decide (fr_v1 to mk (fr_sm to dm dn) kd' lf' rt' v' md (sk (ht - 1)).toNatClampNeg = fr_v1 to mk (fr_sm to dm dn) kd' lf' rt' v' md (sk (ht - 2)).toNatClampNeg)) := by
  by_cases c : 2 ≤ ht
  · rw [hold_eq2 I v v' (j := ht - 1) (by omega), hold_eq2 I v v' (j := ht - 2) (by omega)]
  · rw [decide_eq_false c, Bool.false_and, Bool.false_and]
theorem fr_in_k {n : Nat} {x : Int32} (h : fr_in n x = true) (hn : n < 2 ^ 31) : ∃ k, k < n ∧ x = nI k := vp_in_of (fr_in_vp h) hn
theorem a_reach (I : fr_inv to mk dn md ht kd lf rt kd' lf' rt' sk) (x : Int32) : (if fr_in 8 x then fr_ways to 255 (fun _ => 0) x.toNatClampNeg ||| ((1 : Int32) <<< (x &&& 31)) else -1) = (if fr_in 8 x then fr_fw to ((1 : Int32) <<< (x &&& 31)) 8 else -1) := by
  by_cases c : fr_in 8 x = true
  · rw [if_pos c, if_pos c]
    obtain ⟨k, hk, rfl⟩ := fr_in_k c (by decide)
    rw [nI_clamp (by omega)]
    exact reach_eq I.1 hk
  · rw [if_neg c, if_neg c]
theorem a_steps (I : fr_inv to mk dn md ht kd lf rt kd' lf' rt' sk) (v v' : Nat → Int32) (x : Int32) : (if fr_in 8 x then (if ht = 0 then -4 else fr_p0 to x 9 0 (fr_v0 to mk (fr_st to dm dn) kd lf rt v ((sk (ht - 1)).toNatClampNeg + 1) (sk (ht - 1)).toNatClampNeg)) else -1) = (if fr_in 8 x then fr_p1 to (if ht = 0 then -4 else fr_v1 to mk (fr_sm to dm dn) kd' lf' rt' v' md (sk (ht - 1)).toNatClampNeg) 8 0 ((1 : Int32) <<< (x &&& 31)) else -1) := by
  by_cases c : fr_in 8 x = true
  · rw [if_pos c, if_pos c]
    by_cases c2 : ht = 0
    · rw [if_pos c2, if_pos c2, fr_p1, if_pos (by decide)]
    · rw [if_neg c2, if_neg c2]
      obtain ⟨k, hk, rfl⟩ := fr_in_k c (by decide)
      have e := hold_eq (dm := dm) I v v' (j := ht - 1) (by omega)
      rw [← e.1]
      exact steps_eq I.1 hk e.2
  · rw [if_neg c, if_neg c]
theorem a_knots (I : fr_inv to mk dn md ht kd lf rt kd' lf' rt' sk) : nI (fr_k0 (fr_ways to 255 (fun _ => 0)) 8).1 = nI (fr_k1 to 8) := congrArg nI (knots_eq I.1)
/-! the changes -/
theorem arcs_ok {n : Nat} (h : ∀ j, fr_ok (to j)) (x y : Int32) : ∀ j, fr_ok ((fr_arcs n to x y).2 j) := by
  intro j
  unfold fr_arcs
  by_cases c : (fr_in n x && fr_in 256 y) = true
  · rw [if_pos c]
    show fr_ok (upd to x.toNatClampNeg y j)
    rw [Bool.and_eq_true] at c
    by_cases e : j = x.toNatClampNeg
    · rw [e, pk_us]
      exact ok_in c.2
    · rw [pk_un e]
      exact h j
  · rw [if_neg c]
    exact h j
theorem i_arcs (I : fr_inv to mk dn md ht kd lf rt kd' lf' rt' sk) (x y : Int32) : fr_inv ((fr_arcs 8 to x y).2) mk dn md ht kd lf rt kd' lf' rt' sk := ⟨arcs_ok I.1 x y, I.2⟩
theorem i_mark (I : fr_inv to mk dn md ht kd lf rt kd' lf' rt' sk) (x y : Int32) : fr_inv to ((fr_arcs 4 mk x y).2) dn md ht kd lf rt kd' lf' rt' sk := ⟨I.1, arcs_ok I.2.1 x y, I.2.2⟩
theorem i_dem (I : fr_inv to mk dn md ht kd lf rt kd' lf' rt' sk) (x : Int32) : fr_inv to mk ((fr_dem dn dm x).2.1) md ht kd lf rt kd' lf' rt' sk := by
  refine ⟨I.1, I.2.1, ?_, I.2.2.2⟩
  have hdn := I.2.2.1
  unfold fr_dem
  by_cases c : fr_in 256 x = true
  · rw [if_pos c]
    by_cases c2 : dn = 3
    · rw [if_pos c2]
      exact hdn
    · rw [if_neg c2]
      show dn + 1 ≤ 3
      omega
  · rw [if_neg c]
    exact hdn
theorem i_und (I : fr_inv to mk dn md ht kd lf rt kd' lf' rt' sk) : fr_inv to mk ((fr_und dn dm).2) md ht kd lf rt kd' lf' rt' sk := by
  refine ⟨I.1, I.2.1, ?_, I.2.2.2⟩
  have hdn := I.2.2.1
  unfold fr_und
  by_cases c : dn = 0
  · rw [if_pos c]
    exact hdn
  · rw [if_neg c]
    show dn - 1 ≤ 3
    omega
theorem cor_new (h : ∀ i, i < md → fr_cor i (kd i) (lf i) (rt i) (kd' i) (lf' i) (rt' i)) {k l r k' l' r' : Int32} (q : fr_cor md k l r k' l' r') : ∀ i, i < md + 1 → fr_cor i (upd kd md k i) (upd lf md l i) (upd rt md r i) (upd kd' md k' i) (upd lf' md l' i) (upd rt' md r' i) := by
  intro i hi
  by_cases e : i = md
  · subst e
    rw [pk_us, pk_us, pk_us, pk_us, pk_us, pk_us]
    exact q
  · rw [pk_un e, pk_un e, pk_un e, pk_un e, pk_un e, pk_un e]
    exact h i (by omega)
theorem sk_new (h : ∀ j, j < ht → ∃ k, k < md ∧ sk j = nI k) (q ht' : Nat) (hq : ∀ j, j < ht' → j ≠ q → j < ht) : ∀ j, j < ht' → ∃ k, k < md + 1 ∧ upd sk q (nI md) j = nI k := by
  intro j hj
  by_cases e : j = q
  · rw [e, pk_us]
    exact ⟨md, by omega, rfl⟩
  · rw [pk_un e]
    obtain ⟨k, hk, h1⟩ := h j (hq j hj e)
    exact ⟨k, by omega, h1⟩
theorem i_push (I : fr_inv to mk dn md ht kd lf rt kd' lf' rt' sk) (x : Int32) : fr_inv to mk dn (if fr_puO x md ht then md + 1 else md) (if fr_puO x md ht then ht + 1 else ht) (if fr_puO x md ht then upd kd md 0 else kd) (if fr_puO x md ht then upd lf md x else lf) (if fr_puO x md ht then upd rt md 0 else rt) (if fr_puO x md ht then upd kd' md (20 + x) else kd') (if fr_puO x md ht then upd lf' md 0 else lf') (if fr_puO x md ht then upd rt' md 0 else rt') (if fr_puO x md ht then upd sk ht (nI md) else sk) := by
  by_cases c : fr_puO x md ht = true
  · simp only [if_pos c]
    obtain ⟨hto, hmk, hdn, hmd, hht, hsk, hcor⟩ := I
    have c1 : fr_in 4 x = true := by
      cases q : fr_in 4 x
      · exact absurd c (fr_puO_1 (Or.inl q))
      · rfl
    have c2 : ht ≠ 6 := fun q => fr_puO_1 (Or.inr (Or.inl q)) c
    have c3 : md ≠ 20 := fun q => fr_puO_1 (Or.inr (Or.inr q)) c
    obtain ⟨k, hk, rfl⟩ := fr_in_k c1 (by decide)
    exact ⟨hto, hmk, hdn, by omega, by omega, sk_new hsk ht (ht + 1) (fun j h1 h2 => by omega), cor_new hcor (Or.inl ⟨k, hk, rfl, rfl, rfl⟩)⟩
  · simp only [if_neg c]
    exact I
theorem i_one (I : fr_inv to mk dn md ht kd lf rt kd' lf' rt' sk) (x : Int32) : fr_inv to mk dn (if fr_onO x md ht then md + 1 else md) ht (if fr_onO x md ht then upd kd md (1 + x) else kd) (if fr_onO x md ht then upd lf md (sk (ht - 1)) else lf) (if fr_onO x md ht then upd rt md 0 else rt) (if fr_onO x md ht then upd kd' md x else kd') (if fr_onO x md ht then upd lf' md (sk (ht - 1)) else lf') (if fr_onO x md ht then upd rt' md 0 else rt') (if fr_onO x md ht then upd sk (ht - 1) (nI md) else sk) := by
  by_cases c : fr_onO x md ht = true
  · simp only [if_pos c]
    obtain ⟨hto, hmk, hdn, hmd, hht, hsk, hcor⟩ := I
    have c1 : fr_in 7 x = true := by
      cases q : fr_in 7 x
      · exact absurd c (fr_onO_1 (Or.inl q))
      · rfl
    have c2 : ht ≠ 0 := fun q => fr_onO_1 (Or.inr (Or.inl q)) c
    have c3 : md ≠ 20 := fun q => fr_onO_1 (Or.inr (Or.inr q)) c
    obtain ⟨k, hk, rfl⟩ := fr_in_k c1 (by decide)
    obtain ⟨j, hj, e⟩ := hsk (ht - 1) (by omega)
    exact ⟨hto, hmk, hdn, by omega, hht, sk_new hsk (ht - 1) ht (fun j h1 h2 => by omega), cor_new hcor (Or.inr (Or.inl ⟨k, j, hk, hj, rfl, rfl, e, e, rfl, rfl⟩))⟩
  · simp only [if_neg c]
    exact I
theorem h_one (x : Int32) : (if fr_onO x md ht then ht - 1 + 1 else ht) = ht := by
  by_cases c : fr_onO x md ht = true
  · rw [if_pos c]
    have c2 : ht ≠ 0 := fun q => fr_onO_1 (Or.inr (Or.inl q)) c
    omega
  · rw [if_neg c]
theorem i_two (I : fr_inv to mk dn md ht kd lf rt kd' lf' rt' sk) (x : Int32) : fr_inv to mk dn (if fr_twO x md ht then md + 1 else md) (if fr_twO x md ht then ht - 1 else ht) (if fr_twO x md ht then upd kd md (8 + x) else kd) (if fr_twO x md ht then upd lf md (sk (ht - 1 - 1)) else lf) (if fr_twO x md ht then upd rt md (sk (ht - 1)) else rt) (if fr_twO x md ht then upd kd' md (10 + x) else kd') (if fr_twO x md ht then upd lf' md (sk (ht - 2)) else lf') (if fr_twO x md ht then upd rt' md (sk (ht - 2 + 1)) else rt') (if fr_twO x md ht then upd sk (ht - 1 - 1) (nI md) else sk) := by
  by_cases c : fr_twO x md ht = true
  · simp only [if_pos c]
    obtain ⟨hto, hmk, hdn, hmd, hht, hsk, hcor⟩ := I
    have c1 : fr_in 4 x = true := by
      cases q : fr_in 4 x
      · exact absurd c (fr_twO_1 (Or.inl q))
      · rfl
    have c2 : ¬ ht < 2 := fun q => fr_twO_1 (Or.inr (Or.inl q)) c
    have c3 : md ≠ 20 := fun q => fr_twO_1 (Or.inr (Or.inr q)) c
    obtain ⟨k, hk, rfl⟩ := fr_in_k c1 (by decide)
    have e2 : ht - 1 - 1 = ht - 2 := by omega
    have e3 : ht - 2 + 1 = ht - 1 := by omega
    rw [e2, e3]
    obtain ⟨j, hj, e⟩ := hsk (ht - 2) (by omega)
    obtain ⟨t, ht', e'⟩ := hsk (ht - 1) (by omega)
    exact ⟨hto, hmk, hdn, by omega, by omega, sk_new hsk (ht - 2) (ht - 1) (fun j h1 h2 => by omega), cor_new hcor (Or.inr (Or.inr ⟨k, j, t, hk, hj, ht', rfl, rfl, e, e, e', e'⟩))⟩
  · simp only [if_neg c]
    exact I
theorem h_two (x : Int32) : (if fr_twO x md ht then ht - 2 + 1 else ht) = (if fr_twO x md ht then ht - 1 else ht) := by
  by_cases c : fr_twO x md ht = true
  · rw [if_pos c, if_pos c]
    have c2 : ¬ ht < 2 := fun q => fr_twO_1 (Or.inr (Or.inl q)) c
    omega
  · rw [if_neg c, if_neg c]
theorem s_two (x : Int32) : (if fr_twO x md ht then upd sk (ht - 2) (nI md) else sk) = (if fr_twO x md ht then upd sk (ht - 1 - 1) (nI md) else sk) := by
  have e : ht - 1 - 1 = ht - 2 := by omega
  rw [e]
theorem i_disc (I : fr_inv to mk dn md ht kd lf rt kd' lf' rt' sk) : fr_inv to mk dn 0 0 kd lf rt kd' lf' rt' sk :=
  ⟨I.1, I.2.1, I.2.2.1, Nat.zero_le _, Nat.zero_le _, fun j h => absurd h (Nat.not_lt_zero j), fun j h => absurd h (Nat.not_lt_zero j)⟩
theorem i_w0 (I : fr_inv to mk dn md ht kd lf rt kd' lf' rt' sk) : ∀ i, i < md → (kd i = 0 → vp_in (lf i) 4) ∧ (¬ kd i = 0 → vp_in (lf i) 20 ∧ vp_in (rt i) 20) := fun i hi => cor_w0 (Nat.lt_of_lt_of_le hi I.2.2.2.1) (I.2.2.2.2.2.2 i hi)
theorem i_w1 (I : fr_inv to mk dn md ht kd lf rt kd' lf' rt' sk) : ∀ i, i < md → (kd' i ≤ 19 → vp_in (lf' i) 20 ∧ vp_in (rt' i) 20) ∧ (¬ kd' i ≤ 19 → vp_in (kd' i - 20) 4) := fun i hi => cor_w1 (Nat.lt_of_lt_of_le hi I.2.2.2.1) (I.2.2.2.2.2.2 i hi)
theorem i_nil : fr_inv (fun _ => 0) (fun _ => 0) 0 0 0 (fun _ => 0) (fun _ => 0) (fun _ => 0) (fun _ => 0) (fun _ => 0) (fun _ => 0) (fun _ => 0) :=
  ⟨fun _ => ok_0, fun _ => ok_0, Nat.zero_le _, Nat.zero_le _, Nat.zero_le _, fun j h => absurd h (Nat.not_lt_zero j), fun j h => absurd h (Nat.not_lt_zero j)⟩
end VALS2
end
section
/-! THE CLAIM OUT OF ONE WALK OF THE LAW'S BODY. Your part is whole_start (and what it stands on); all else here is the same for every law, but numbers. -/
def R_law : String := "FairRunsLaw"
def lw_P (b : Addr) (xs : List Int32) (args : Array Value) (s : State) : Prop := args = #[.ref b] ∧ s.IntsAt b xs ∧ xs.length ≤ 192 ∧ (Jvm.Cond.and given_1 narrow_1).before args s = true
def lw_Q (_ : Array Value) (s : State) (o : Outcome) (t : State) : Prop := o = .returned (some (.int 1)) ∧ Framed s o t [] 600000 7290000
def lw_Z (below : List Frame) (a : Array Value) (s : State) : State → Prop := fun t => ∃ o, t.status = .running ∧ Ended t below o ∧ lw_Q a s o t
/-- the law's own end, with 1 on the stack, nothing written that was there before, its room as the claim has it -/
theorem lw_ret {p : Program} {l : Launch} {e : Env} {s : State} {m : MethodId} {below : List Frame} {meth : Method} {c : Code} {b : Nat} (hx : p.tables.exec = Jvm.exec) (hb : c.code = code) (hr : meth.sig.returnType = ret) (hlocks : meth.locks = false) {pc : Nat} {H : Heap} {ls : Array Slot} (hdg : decode code pc = .ok (.ireturn, 1)) : W p l e room_1 s m #[Value.ref b] below meth c H [] 600000 7290000 (lw_Z below #[Value.ref b] s) (F0 m pc ls [.int 1]) := by
  intro T hT X
  obtain ⟨fs, hret, hrun, hended, hW, hframe⟩ := X.leave (v := some (.int 1)) (hlocks := hlocks) (fun h => by rw [hr] at h; cases h)
  have hmeth' : T.vm.method? m = some meth := X.method'
  refine ⟨T.setFrames fs, ?_, .returned (some (.int 1)), hrun, hended, rfl, ⟨_, rfl⟩, hW, hframe⟩
  jvm_step X.here [X.here.top, hx, hb, hdg, hmeth', hr, ret, narrow_b1]
  (try refine ⟨rfl, ?_⟩); (try refine ⟨rfl, ?_⟩)
  first | (intro acts; rw [hret _ acts rfl rfl rfl]) | rw [hret _ _ rfl rfl rfl]
  exact Steps.refl _
/-- what holds at the law's entry: the machine, the code, the tables' words (any of lw_tbl by 'hts w (by decide +kernel)'), the script of L ints xs at the cell b, what the Statement gives of the start (any of its parts by flat_of_before) -/
def lw_At (p : Program) (s : State) (m : MethodId) (meth : Method) (c : Code) (b L : Nat) (xs : Nat → Int32) : Prop :=
  p.tables.exec = Jvm.exec ∧ c.code = code ∧ meth.sig.returnType = ret ∧ c.maxLocals = 4 ∧ s.vm.findClass R_law = some m.cls ∧ (∀ w ∈ lw_tbl, w.before #[Value.ref b] s = true) ∧ va_X b L xs s s.heap ∧ b < s.heap.size ∧ meth.locks = false ∧ (Jvm.Cond.and given_1 narrow_1).before #[Value.ref b] s = true
set_option maxRecDepth 100000
section FR2
variable {p : Program} {l : Launch} {e : Env} {R : Room} {s : State} {m : MethodId} {args : Array Value} {below : List Frame} {meth : Method} {c : Code} {H : Heap} {locs : List Loc} {cells slots : Nat} {Q : State → Prop}
variable {cc : ByteArray} {pc : Nat} {ls : Array Slot} {rest : List Value} {G : va_G} {d : ClassId} {A : Nat → Prop} {wa wb : va_W}
variable {y : MethodName} {b' : ByteArray} {n' nL idx k : Nat} {rty : Option FieldType} {rm : Room} {own C : String} {h : Nat} {As : List Value} {st : List Value}
/-- a call on the object that is the front of the world; the rest stays, and comes to the front -/
theorem fr_call2i {S : Type} {post : Int32 → S → Prop} {ws' : S → va_W} (Sx : CallFix p m c cc nL s args lw_all own) (hM : fr_I l y b' n' rty rm (.ref h :: As) G d H.size wa post ws') (cw : CallW R s args own C idx y b' n' rty (ws_ y b' n' rty) rm 0 0 k)
    (hrc : ∃ cell : Cell, H[h]? = some cell ∧ cell.vm.isStatics = false ∧ s.vm.findClass C = some cell.cls) (hK : va_K G vwCl [(d, .int)] s) (hP : va_P G vwCl (wa ++ wb) H) (hD : va_D A (wa ++ wb)) (hS : va_S A s.heap H locs) (hA : ∀ q : Nat, s.heap.size ≤ q → A q)
    (isC isR : List Nat) (hC : isC.filterMap (fun i => (wa ++ wb)[i]?) = wa) (hC2 : isC.map (fun i => (wa ++ wb)[i]?) = wa.map some) (hR : isR.map (fun i => (wa ++ wb)[i]?) = wb.map some) (hnC : va_nd isC = true) (hnR : va_nd isR = true) (hdis : ∀ i ∈ isR, i ∉ isC)
    (hn : As.length = k) (hls : ls.size = nL) (hst : st = As.reverse ++ .ref h :: rest) (hW : (rest.map fun v => v.category).sum ≤ 8) (hdg : decode cc pc = .ok (.invokevirtual idx, 3)) (hcs : cells ≤ R.cells ∧ slots ≤ R.slots)
    (kk : ∀ (r : Int32) (u : S) (H1 : Heap) (locs1 : List Loc), post r u → va_P G vwCl (wb ++ ws' u) H1 → va_D A (wb ++ ws' u) → va_S A s.heap H1 locs1 → W p l e R s m args below meth c H1 locs1 cells slots Q (F0 m (pc + 3) ls (.int r :: rest))) :
    W p l e R s m args below meth c H locs cells slots Q (F0 m pc ls st) := by
  have hPc := hP.sub (ws' := wa) isC hC
  have hDc := hD.sub (ws' := wa) isC hnC hC2
  have hF : ∀ q, va_A wa H.size q → A q := va_free (wc := wa) hD hS hA isC hC2
  refine va_calli (va_runV (As := As) (rest := rest) Sx hM cw ⟨fr_blind, hrc, fun U hU hW => ⟨rfl, by rw [hU], by rw [hU]; exact hPc, va_K.moved hW.alike hK, hDc.weaken (fun _ _ _ _ => trivial)⟩⟩ rfl hn hls hst (lv_room hW) hdg hcs) hS (fun q _ h => hF q h) hF (fun r u t H1 locs1 ht hvm hw hB hz hk hS1 => ?_)
  obtain ⟨hP1, -, hD1⟩ := hB
  rw [ht] at hP1
  obtain ⟨hP2, hD2⟩ := va_join (wr := wb) (w1 := ws' u) hP hD isC isR hC2 hR hnR hdis hk hF hP1 hD1
  exact kk r u H1 locs1 hw hP2 hD2 hS1
theorem fr_call2v {S : Type} {post : S → Prop} {ws' : S → va_W} (Sx : CallFix p m c cc nL s args lw_all own) (hM : fr_V l y b' n' rm (.ref h :: As) G d H.size wa post ws') (cw : CallW R s args own C idx y b' n' none (ws_ y b' n' none) rm 0 0 k)
    (hrc : ∃ cell : Cell, H[h]? = some cell ∧ cell.vm.isStatics = false ∧ s.vm.findClass C = some cell.cls) (hK : va_K G vwCl [(d, .int)] s) (hP : va_P G vwCl (wa ++ wb) H) (hD : va_D A (wa ++ wb)) (hS : va_S A s.heap H locs) (hA : ∀ q : Nat, s.heap.size ≤ q → A q)
    (isC isR : List Nat) (hC : isC.filterMap (fun i => (wa ++ wb)[i]?) = wa) (hC2 : isC.map (fun i => (wa ++ wb)[i]?) = wa.map some) (hR : isR.map (fun i => (wa ++ wb)[i]?) = wb.map some) (hnC : va_nd isC = true) (hnR : va_nd isR = true) (hdis : ∀ i ∈ isR, i ∉ isC)
    (hn : As.length = k) (hls : ls.size = nL) (hst : st = As.reverse ++ .ref h :: rest) (hW : (rest.map fun v => v.category).sum ≤ 8) (hdg : decode cc pc = .ok (.invokevirtual idx, 3)) (hcs : cells ≤ R.cells ∧ slots ≤ R.slots)
    (kk : ∀ (u : S) (H1 : Heap) (locs1 : List Loc), post u → va_P G vwCl (wb ++ ws' u) H1 → va_D A (wb ++ ws' u) → va_S A s.heap H1 locs1 → W p l e R s m args below meth c H1 locs1 cells slots Q (F0 m (pc + 3) ls rest)) :
    W p l e R s m args below meth c H locs cells slots Q (F0 m pc ls st) := by
  have hPc := hP.sub (ws' := wa) isC hC
  have hDc := hD.sub (ws' := wa) isC hnC hC2
  have hF : ∀ q, va_A wa H.size q → A q := va_free (wc := wa) hD hS hA isC hC2
  refine va_callv (va_runV (As := As) (rest := rest) Sx hM cw ⟨fr_blind, hrc, fun U hU hW => ⟨rfl, by rw [hU], by rw [hU]; exact hPc, va_K.moved hW.alike hK, hDc.weaken (fun _ _ _ _ => trivial)⟩⟩ rfl hn hls hst (lv_room hW) hdg hcs) hS (fun q _ h => hF q h) hF (fun u t H1 locs1 ht hvm hw hB hz hk hS1 => ?_)
  obtain ⟨hP1, -, hD1⟩ := hB
  rw [ht] at hP1
  obtain ⟨hP2, hD2⟩ := va_join (wr := wb) (w1 := ws' u) hP hD isC isR hC2 hR hnR hdis hk hF hP1 hD1
  exact kk u H1 locs1 hw hP2 hD2 hS1
/-- the script's int at k -/
theorem fr_sld {H0 : Heap} (hexec : p.tables.exec = Jvm.exec) (hb : c.code = cc) {b L : Nat} {xs : Nat → Int32} (hX : va_X b L xs s H0) (hbl : b < H0.size) (hbA : ¬ A b) (hS : va_S A H0 H locs) (k : Nat) (hk : k < L) (hL : L ≤ 192) (hdg : decode cc pc = .ok (.iaload, 1))
    (kk : W p l e R s m args below meth c H locs cells slots Q (F0 m (pc + 1) ls (.int (xs k) :: rest))) : W p l e R s m args below meth c H locs cells slots Q (F0 m pc ls (.int (nI k) :: .ref b :: rest)) := by
  refine va_sld hexec hb hX hbl hbA hS (vp_in_nI hk (by omega)) hdg ?_
  rw [nI_clamp (by omega)]
  exact kk
end FR2
theorem nI_2 (a : Nat) : nI a + 2 = nI (a + 2) := nI_add a 2
/-- both objects stand, and agree, at the law's place pc, i ints read -/
def fr_at (p : Program) (l : Launch) (e : Env) (s : State) (m : MethodId) (below : List Frame) (meth : Method) (c : Code) (b : Nat) (G : va_G) (h0 h1 : Nat) (a0 a1 : Nat → Nat) (d0 d1 : ClassId) (i pc : Nat) : Prop :=
  ∀ (to mk dm : Nat → Int32) (dn md ht : Nat) (kd lf rt vl kd' lf' rt' vl' sk wy : Nat → Int32), fr_inv to mk dn md ht kd lf rt kd' lf' rt' sk → ∀ (H : Heap) (locs : List Loc) (ls : Array Slot), va_P G vwCl (w0 h0 a0 d0 to mk dn dm md kd lf rt vl ht sk wy ++ w1 h1 a1 d1 to mk dm dn kd' lf' rt' vl' md sk ht) H → va_D (fun q : Nat => s.heap.size ≤ q) (w0 h0 a0 d0 to mk dn dm md kd lf rt vl ht sk wy ++ w1 h1 a1 d1 to mk dm dn kd' lf' rt' vl' md sk ht) → va_S (fun q : Nat => s.heap.size ≤ q) s.heap H locs → lv_has ls 4 [(0, .ref b), (1, .ref h0), (2, .ref h1), (3, .int (nI i))] →
    W p l e room_1 s m #[Value.ref b] below meth c H locs 19 233 (lw_Z below #[Value.ref b] s) (F0 m pc ls [])
/-- what stays all through the law -/
def fr_cx (p : Program) (s : State) (m : MethodId) (meth : Method) (c : Code) (b L : Nat) (xs : Nat → Int32) (G : va_G) (d0 d1 : ClassId) : Prop := lw_At p s m meth c b L xs ∧ va_K G vwCl [(d0, .int)] s ∧ va_K G vwCl [(d1, .int)] s ∧ L ≤ 192
end
section
/-! the law: its cases, 108 .. -/
set_option maxRecDepth 100000
section LC0
variable {p : Program} {l : Launch} {e : Env} {s : State} {m : MethodId} {below : List Frame} {meth : Method} {c : Code} {b L : Nat} {xs : Nat → Int32} {G : va_G} {h0 h1 : Nat} {a0 a1 : Nat → Nat} {d0 d1 : ClassId} {i : Nat}
set_option maxHeartbeats 4000000 in
theorem lc_arcs (C0 : fr_cx p s m meth c b L xs G d0 d1) (hi : i + 3 ≤ L) (K : fr_at p l e s m below meth c b G h0 h1 a0 a1 d0 d1 i 401) : fr_at p l e s m below meth c b G h0 h1 a0 a1 d0 d1 i 108 := by
  intro to mk dm dn md ht kd lf rt vl kd' lf' rt' vl' sk wy I H locs ls hP hD hS hl
  obtain ⟨⟨hx, hb, hr, hml, hown, hts, hX, hbl, hlocks, hgv⟩, hK0, hK1, hL⟩ := C0
  have hA : ∀ q : Nat, s.heap.size ≤ q → (fun q : Nat => s.heap.size ≤ q) q := fun _ h => h
  have hbA : ¬ (fun q : Nat => s.heap.size ≤ q) b := Nat.not_le.mpr hbl
  have hts : ∀ w ∈ lw_all, w.before #[Value.ref b] s = true := fun w h => hts w (lw_all_tbl h)
  refine lv_aload_n hx hb dL_law_108 rfl (lv_at hl 1 rfl) ?_
  refine lv_aload_n hx hb dL_law_109 rfl (lv_at hl 0 rfl) ?_
  refine lv_iload_n hx hb dL_law_110 rfl (lv_at hl 3 rfl) ?_
  refine lv_iconst (v := 1) hx hb dL_law_111 (by decide) ?_
  refine lv_iadd hx hb dL_law_112 ?_
  refine fr_top (nI_1 i) ?_
  refine fr_sld hx hb hX hbl hbA hS (i + 1) (by omega) hL dL_law_113 ?_
  refine lv_aload_n hx hb dL_law_114 rfl (lv_at hl 0 rfl) ?_
  refine lv_iload_n hx hb dL_law_115 rfl (lv_at hl 3 rfl) ?_
  refine lv_iconst (v := 2) hx hb dL_law_116 (by decide) ?_
  refine lv_iadd hx hb dL_law_117 ?_
  refine fr_top (nI_2 i) ?_
  refine fr_sld hx hb hX hbl hbA hS (i + 2) (by omega) hL dL_law_118 ?_
  refine fr_call2i (As := [.int (xs (i + 1)), .int (xs (i + 2))]) (rest := []) ⟨hx, hb, hml, hown, hts⟩ (met0_arcs l G h0 a0 d0 _ to mk dn dm md kd lf rt vl ht sk wy (xs (i + 1)) (xs (i + 2))) (cwV 2 hts (lw_V q75 q76 q77 q27 q78) rfl rfl rfl (by decide +kernel) ⟨Nat.le_of_ble_eq_true rfl, Nat.le_of_ble_eq_true rfl⟩) (va_recv hK0 hP (ci := 0) (q0 := 0) rfl rfl) hK0 hP hD hS hA [0, 1, 2, 3, 4, 5, 6, 7, 8, 9] [10, 11, 12, 13, 14, 15, 16, 17, 18] rfl rfl rfl (by decide) (by decide) (by decide) rfl hl.1 rfl (Nat.le_of_ble_eq_true rfl) dL_law_119 ⟨Nat.le_of_ble_eq_true rfl, Nat.le_of_ble_eq_true rfl⟩ (fun r0 u0 H locs hw0 hP hD hS => ?_)
  have hP : va_P G vwCl (w1 h1 a1 d1 to mk dm dn kd' lf' rt' vl' md sk ht ++ w0 h0 a0 d0 ((fr_arcs 8 to (xs (i + 1)) (xs (i + 2))).2) mk dn dm md kd lf rt vl ht sk wy) H := hP
  have hD : va_D (fun q : Nat => s.heap.size ≤ q) (w1 h1 a1 d1 to mk dm dn kd' lf' rt' vl' md sk ht ++ w0 h0 a0 d0 ((fr_arcs 8 to (xs (i + 1)) (xs (i + 2))).2) mk dn dm md kd lf rt vl ht sk wy) := hD
  refine lv_aload_n hx hb dL_law_122 rfl (lv_at hl 2 rfl) ?_
  refine lv_aload_n hx hb dL_law_123 rfl (lv_at hl 0 rfl) ?_
  refine lv_iload_n hx hb dL_law_124 rfl (lv_at hl 3 rfl) ?_
  refine lv_iconst (v := 1) hx hb dL_law_125 (by decide) ?_
  refine lv_iadd hx hb dL_law_126 ?_
  refine fr_top (nI_1 i) ?_
  refine fr_sld hx hb hX hbl hbA hS (i + 1) (by omega) hL dL_law_127 ?_
  refine lv_aload_n hx hb dL_law_128 rfl (lv_at hl 0 rfl) ?_
  refine lv_iload_n hx hb dL_law_129 rfl (lv_at hl 3 rfl) ?_
  refine lv_iconst (v := 2) hx hb dL_law_130 (by decide) ?_
  refine lv_iadd hx hb dL_law_131 ?_
  refine fr_top (nI_2 i) ?_
  refine fr_sld hx hb hX hbl hbA hS (i + 2) (by omega) hL dL_law_132 ?_
  refine fr_call2i (As := [.int (xs (i + 1)), .int (xs (i + 2))]) (rest := [.int r0]) ⟨hx, hb, hml, hown, hts⟩ (met1_arcs l G h1 a1 d1 _ to mk dm dn kd' lf' rt' vl' md sk ht (xs (i + 1)) (xs (i + 2))) (cwV 2 hts (lw_V q235 q236 q237 q28 q238) rfl rfl rfl (by decide +kernel) ⟨Nat.le_of_ble_eq_true rfl, Nat.le_of_ble_eq_true rfl⟩) (va_recv hK1 hP (ci := 1) (q0 := 0) rfl rfl) hK1 hP hD hS hA [0, 1, 2, 3, 4, 5, 6, 7, 8] [9, 10, 11, 12, 13, 14, 15, 16, 17, 18] rfl rfl rfl (by decide) (by decide) (by decide) rfl hl.1 rfl (Nat.le_of_ble_eq_true rfl) dL_law_133 ⟨Nat.le_of_ble_eq_true rfl, Nat.le_of_ble_eq_true rfl⟩ (fun r1 u1 H locs hw1 hP hD hS => ?_)
  have hP : va_P G vwCl (w0 h0 a0 d0 ((fr_arcs 8 to (xs (i + 1)) (xs (i + 2))).2) mk dn dm md kd lf rt vl ht sk wy ++ w1 h1 a1 d1 ((fr_arcs 8 to (xs (i + 1)) (xs (i + 2))).2) mk dm dn kd' lf' rt' vl' md sk ht) H := hP
  have hD : va_D (fun q : Nat => s.heap.size ≤ q) (w0 h0 a0 d0 ((fr_arcs 8 to (xs (i + 1)) (xs (i + 2))).2) mk dn dm md kd lf rt vl ht sk wy ++ w1 h1 a1 d1 ((fr_arcs 8 to (xs (i + 1)) (xs (i + 2))).2) mk dm dn kd' lf' rt' vl' md sk ht) := hD
  refine lv_icmp_eq (tgt := 401) hx hb dL_law_136 (by decide) (fun _ => ?_) (fun cq => ?_)
  · exact K ((fr_arcs 8 to (xs (i + 1)) (xs (i + 2))).2) mk dm dn md ht kd lf rt vl kd' lf' rt' vl' sk wy (i_arcs I (xs (i + 1)) (xs (i + 2))) H locs ls hP hD hS hl
  · exact absurd (Eq.trans hw0 (Eq.trans (rfl) (Eq.symm hw1))) cq
set_option maxHeartbeats 4000000 in
theorem lc_mark (C0 : fr_cx p s m meth c b L xs G d0 d1) (hi : i + 3 ≤ L) (K : fr_at p l e s m below meth c b G h0 h1 a0 a1 d0 d1 i 401) : fr_at p l e s m below meth c b G h0 h1 a0 a1 d0 d1 i 141 := by
  intro to mk dm dn md ht kd lf rt vl kd' lf' rt' vl' sk wy I H locs ls hP hD hS hl
  obtain ⟨⟨hx, hb, hr, hml, hown, hts, hX, hbl, hlocks, hgv⟩, hK0, hK1, hL⟩ := C0
  have hA : ∀ q : Nat, s.heap.size ≤ q → (fun q : Nat => s.heap.size ≤ q) q := fun _ h => h
  have hbA : ¬ (fun q : Nat => s.heap.size ≤ q) b := Nat.not_le.mpr hbl
  have hts : ∀ w ∈ lw_all, w.before #[Value.ref b] s = true := fun w h => hts w (lw_all_tbl h)
  refine lv_aload_n hx hb dL_law_141 rfl (lv_at hl 1 rfl) ?_
  refine lv_aload_n hx hb dL_law_142 rfl (lv_at hl 0 rfl) ?_
  refine lv_iload_n hx hb dL_law_143 rfl (lv_at hl 3 rfl) ?_
  refine lv_iconst (v := 1) hx hb dL_law_144 (by decide) ?_
  refine lv_iadd hx hb dL_law_145 ?_
  refine fr_top (nI_1 i) ?_
  refine fr_sld hx hb hX hbl hbA hS (i + 1) (by omega) hL dL_law_146 ?_
  refine lv_aload_n hx hb dL_law_147 rfl (lv_at hl 0 rfl) ?_
  refine lv_iload_n hx hb dL_law_148 rfl (lv_at hl 3 rfl) ?_
  refine lv_iconst (v := 2) hx hb dL_law_149 (by decide) ?_
  refine lv_iadd hx hb dL_law_150 ?_
  refine fr_top (nI_2 i) ?_
  refine fr_sld hx hb hX hbl hbA hS (i + 2) (by omega) hL dL_law_151 ?_
  refine fr_call2i (As := [.int (xs (i + 1)), .int (xs (i + 2))]) (rest := []) ⟨hx, hb, hml, hown, hts⟩ (met0_mark l G h0 a0 d0 _ to mk dn dm md kd lf rt vl ht sk wy (xs (i + 1)) (xs (i + 2))) (cwV 2 hts (lw_V q87 q88 q89 q27 q90) rfl rfl rfl (by decide +kernel) ⟨Nat.le_of_ble_eq_true rfl, Nat.le_of_ble_eq_true rfl⟩) (va_recv hK0 hP (ci := 0) (q0 := 0) rfl rfl) hK0 hP hD hS hA [0, 1, 2, 3, 4, 5, 6, 7, 8, 9] [10, 11, 12, 13, 14, 15, 16, 17, 18] rfl rfl rfl (by decide) (by decide) (by decide) rfl hl.1 rfl (Nat.le_of_ble_eq_true rfl) dL_law_152 ⟨Nat.le_of_ble_eq_true rfl, Nat.le_of_ble_eq_true rfl⟩ (fun r0 u0 H locs hw0 hP hD hS => ?_)
  have hP : va_P G vwCl (w1 h1 a1 d1 to mk dm dn kd' lf' rt' vl' md sk ht ++ w0 h0 a0 d0 to ((fr_arcs 4 mk (xs (i + 1)) (xs (i + 2))).2) dn dm md kd lf rt vl ht sk wy) H := hP
  have hD : va_D (fun q : Nat => s.heap.size ≤ q) (w1 h1 a1 d1 to mk dm dn kd' lf' rt' vl' md sk ht ++ w0 h0 a0 d0 to ((fr_arcs 4 mk (xs (i + 1)) (xs (i + 2))).2) dn dm md kd lf rt vl ht sk wy) := hD
  refine lv_aload_n hx hb dL_law_155 rfl (lv_at hl 2 rfl) ?_
  refine lv_aload_n hx hb dL_law_156 rfl (lv_at hl 0 rfl) ?_
  refine lv_iload_n hx hb dL_law_157 rfl (lv_at hl 3 rfl) ?_
  refine lv_iconst (v := 1) hx hb dL_law_158 (by decide) ?_
  refine lv_iadd hx hb dL_law_159 ?_
  refine fr_top (nI_1 i) ?_
  refine fr_sld hx hb hX hbl hbA hS (i + 1) (by omega) hL dL_law_160 ?_
  refine lv_aload_n hx hb dL_law_161 rfl (lv_at hl 0 rfl) ?_
  refine lv_iload_n hx hb dL_law_162 rfl (lv_at hl 3 rfl) ?_
  refine lv_iconst (v := 2) hx hb dL_law_163 (by decide) ?_
  refine lv_iadd hx hb dL_law_164 ?_
  refine fr_top (nI_2 i) ?_
  refine fr_sld hx hb hX hbl hbA hS (i + 2) (by omega) hL dL_law_165 ?_
  refine fr_call2i (As := [.int (xs (i + 1)), .int (xs (i + 2))]) (rest := [.int r0]) ⟨hx, hb, hml, hown, hts⟩ (met1_mark l G h1 a1 d1 _ to mk dm dn kd' lf' rt' vl' md sk ht (xs (i + 1)) (xs (i + 2))) (cwV 2 hts (lw_V q247 q248 q249 q28 q250) rfl rfl rfl (by decide +kernel) ⟨Nat.le_of_ble_eq_true rfl, Nat.le_of_ble_eq_true rfl⟩) (va_recv hK1 hP (ci := 1) (q0 := 0) rfl rfl) hK1 hP hD hS hA [0, 1, 2, 3, 4, 5, 6, 7, 8] [9, 10, 11, 12, 13, 14, 15, 16, 17, 18] rfl rfl rfl (by decide) (by decide) (by decide) rfl hl.1 rfl (Nat.le_of_ble_eq_true rfl) dL_law_166 ⟨Nat.le_of_ble_eq_true rfl, Nat.le_of_ble_eq_true rfl⟩ (fun r1 u1 H locs hw1 hP hD hS => ?_)
  have hP : va_P G vwCl (w0 h0 a0 d0 to ((fr_arcs 4 mk (xs (i + 1)) (xs (i + 2))).2) dn dm md kd lf rt vl ht sk wy ++ w1 h1 a1 d1 to ((fr_arcs 4 mk (xs (i + 1)) (xs (i + 2))).2) dm dn kd' lf' rt' vl' md sk ht) H := hP
  have hD : va_D (fun q : Nat => s.heap.size ≤ q) (w0 h0 a0 d0 to ((fr_arcs 4 mk (xs (i + 1)) (xs (i + 2))).2) dn dm md kd lf rt vl ht sk wy ++ w1 h1 a1 d1 to ((fr_arcs 4 mk (xs (i + 1)) (xs (i + 2))).2) dm dn kd' lf' rt' vl' md sk ht) := hD
  refine lv_icmp_eq (tgt := 401) hx hb dL_law_169 (by decide) (fun _ => ?_) (fun cq => ?_)
  · exact K to ((fr_arcs 4 mk (xs (i + 1)) (xs (i + 2))).2) dm dn md ht kd lf rt vl kd' lf' rt' vl' sk wy (i_mark I (xs (i + 1)) (xs (i + 2))) H locs ls hP hD hS hl
  · exact absurd (Eq.trans hw0 (Eq.trans (rfl) (Eq.symm hw1))) cq
set_option maxHeartbeats 4000000 in
theorem lc_demand (C0 : fr_cx p s m meth c b L xs G d0 d1) (hi : i + 3 ≤ L) (K : fr_at p l e s m below meth c b G h0 h1 a0 a1 d0 d1 i 401) : fr_at p l e s m below meth c b G h0 h1 a0 a1 d0 d1 i 174 := by
  intro to mk dm dn md ht kd lf rt vl kd' lf' rt' vl' sk wy I H locs ls hP hD hS hl
  obtain ⟨⟨hx, hb, hr, hml, hown, hts, hX, hbl, hlocks, hgv⟩, hK0, hK1, hL⟩ := C0
  have hA : ∀ q : Nat, s.heap.size ≤ q → (fun q : Nat => s.heap.size ≤ q) q := fun _ h => h
  have hbA : ¬ (fun q : Nat => s.heap.size ≤ q) b := Nat.not_le.mpr hbl
  have hts : ∀ w ∈ lw_all, w.before #[Value.ref b] s = true := fun w h => hts w (lw_all_tbl h)
  refine lv_aload_n hx hb dL_law_174 rfl (lv_at hl 1 rfl) ?_
  refine lv_aload_n hx hb dL_law_175 rfl (lv_at hl 0 rfl) ?_
  refine lv_iload_n hx hb dL_law_176 rfl (lv_at hl 3 rfl) ?_
  refine lv_iconst (v := 1) hx hb dL_law_177 (by decide) ?_
  refine lv_iadd hx hb dL_law_178 ?_
  refine fr_top (nI_1 i) ?_
  refine fr_sld hx hb hX hbl hbA hS (i + 1) (by omega) hL dL_law_179 ?_
  refine fr_call2i (As := [.int (xs (i + 1))]) (rest := []) ⟨hx, hb, hml, hown, hts⟩ (met0_demand l G h0 a0 d0 _ to mk dn dm md kd lf rt vl ht sk wy (xs (i + 1)) I.2.2.1) (cwV 1 hts (lw_V q91 q92 q93 q27 q94) rfl rfl rfl (by decide +kernel) ⟨Nat.le_of_ble_eq_true rfl, Nat.le_of_ble_eq_true rfl⟩) (va_recv hK0 hP (ci := 0) (q0 := 0) rfl rfl) hK0 hP hD hS hA [0, 1, 2, 3, 4, 5, 6, 7, 8, 9] [10, 11, 12, 13, 14, 15, 16, 17, 18] rfl rfl rfl (by decide) (by decide) (by decide) rfl hl.1 rfl (Nat.le_of_ble_eq_true rfl) dL_law_180 ⟨Nat.le_of_ble_eq_true rfl, Nat.le_of_ble_eq_true rfl⟩ (fun r0 u0 H locs hw0 hP hD hS => ?_)
  have hP : va_P G vwCl (w1 h1 a1 d1 to mk dm dn kd' lf' rt' vl' md sk ht ++ w0 h0 a0 d0 to mk ((fr_dem dn dm (xs (i + 1))).2.1) ((fr_dem dn dm (xs (i + 1))).2.2) md kd lf rt vl ht sk wy) H := hP
  have hD : va_D (fun q : Nat => s.heap.size ≤ q) (w1 h1 a1 d1 to mk dm dn kd' lf' rt' vl' md sk ht ++ w0 h0 a0 d0 to mk ((fr_dem dn dm (xs (i + 1))).2.1) ((fr_dem dn dm (xs (i + 1))).2.2) md kd lf rt vl ht sk wy) := hD
  refine lv_aload_n hx hb dL_law_183 rfl (lv_at hl 2 rfl) ?_
  refine lv_aload_n hx hb dL_law_184 rfl (lv_at hl 0 rfl) ?_
  refine lv_iload_n hx hb dL_law_185 rfl (lv_at hl 3 rfl) ?_
  refine lv_iconst (v := 1) hx hb dL_law_186 (by decide) ?_
  refine lv_iadd hx hb dL_law_187 ?_
  refine fr_top (nI_1 i) ?_
  refine fr_sld hx hb hX hbl hbA hS (i + 1) (by omega) hL dL_law_188 ?_
  refine fr_call2i (As := [.int (xs (i + 1))]) (rest := [.int r0]) ⟨hx, hb, hml, hown, hts⟩ (met1_demand l G h1 a1 d1 _ to mk dm dn kd' lf' rt' vl' md sk ht (xs (i + 1)) I.2.2.1) (cwV 1 hts (lw_V q251 q252 q253 q28 q254) rfl rfl rfl (by decide +kernel) ⟨Nat.le_of_ble_eq_true rfl, Nat.le_of_ble_eq_true rfl⟩) (va_recv hK1 hP (ci := 1) (q0 := 0) rfl rfl) hK1 hP hD hS hA [0, 1, 2, 3, 4, 5, 6, 7, 8] [9, 10, 11, 12, 13, 14, 15, 16, 17, 18] rfl rfl rfl (by decide) (by decide) (by decide) rfl hl.1 rfl (Nat.le_of_ble_eq_true rfl) dL_law_189 ⟨Nat.le_of_ble_eq_true rfl, Nat.le_of_ble_eq_true rfl⟩ (fun r1 u1 H locs hw1 hP hD hS => ?_)
  have hP : va_P G vwCl (w0 h0 a0 d0 to mk ((fr_dem dn dm (xs (i + 1))).2.1) ((fr_dem dn dm (xs (i + 1))).2.2) md kd lf rt vl ht sk wy ++ w1 h1 a1 d1 to mk ((fr_dem dn dm (xs (i + 1))).2.2) ((fr_dem dn dm (xs (i + 1))).2.1) kd' lf' rt' vl' md sk ht) H := hP
  have hD : va_D (fun q : Nat => s.heap.size ≤ q) (w0 h0 a0 d0 to mk ((fr_dem dn dm (xs (i + 1))).2.1) ((fr_dem dn dm (xs (i + 1))).2.2) md kd lf rt vl ht sk wy ++ w1 h1 a1 d1 to mk ((fr_dem dn dm (xs (i + 1))).2.2) ((fr_dem dn dm (xs (i + 1))).2.1) kd' lf' rt' vl' md sk ht) := hD
  refine lv_icmp_eq (tgt := 401) hx hb dL_law_192 (by decide) (fun _ => ?_) (fun cq => ?_)
  · exact K to mk ((fr_dem dn dm (xs (i + 1))).2.2) ((fr_dem dn dm (xs (i + 1))).2.1) md ht kd lf rt vl kd' lf' rt' vl' sk wy (i_dem I (xs (i + 1))) H locs ls hP hD hS hl
  · exact absurd (Eq.trans hw0 (Eq.trans (rfl) (Eq.symm hw1))) cq
set_option maxHeartbeats 4000000 in
theorem lc_undemand (C0 : fr_cx p s m meth c b L xs G d0 d1) (hi : i + 3 ≤ L) (K : fr_at p l e s m below meth c b G h0 h1 a0 a1 d0 d1 i 401) : fr_at p l e s m below meth c b G h0 h1 a0 a1 d0 d1 i 197 := by
  intro to mk dm dn md ht kd lf rt vl kd' lf' rt' vl' sk wy I H locs ls hP hD hS hl
  obtain ⟨⟨hx, hb, hr, hml, hown, hts, hX, hbl, hlocks, hgv⟩, hK0, hK1, hL⟩ := C0
  have hA : ∀ q : Nat, s.heap.size ≤ q → (fun q : Nat => s.heap.size ≤ q) q := fun _ h => h
  have hbA : ¬ (fun q : Nat => s.heap.size ≤ q) b := Nat.not_le.mpr hbl
  have hts : ∀ w ∈ lw_all, w.before #[Value.ref b] s = true := fun w h => hts w (lw_all_tbl h)
  refine lv_aload_n hx hb dL_law_197 rfl (lv_at hl 1 rfl) ?_
  refine fr_call2i (As := []) (rest := []) ⟨hx, hb, hml, hown, hts⟩ (met0_undemand l G h0 a0 d0 _ to mk dn dm md kd lf rt vl ht sk wy I.2.2.1) (cwV 0 hts (lw_V q95 q96 q97 q27 q98) rfl rfl rfl (by decide +kernel) ⟨Nat.le_of_ble_eq_true rfl, Nat.le_of_ble_eq_true rfl⟩) (va_recv hK0 hP (ci := 0) (q0 := 0) rfl rfl) hK0 hP hD hS hA [0, 1, 2, 3, 4, 5, 6, 7, 8, 9] [10, 11, 12, 13, 14, 15, 16, 17, 18] rfl rfl rfl (by decide) (by decide) (by decide) rfl hl.1 rfl (Nat.le_of_ble_eq_true rfl) dL_law_198 ⟨Nat.le_of_ble_eq_true rfl, Nat.le_of_ble_eq_true rfl⟩ (fun r0 u0 H locs hw0 hP hD hS => ?_)
  have hP : va_P G vwCl (w1 h1 a1 d1 to mk dm dn kd' lf' rt' vl' md sk ht ++ w0 h0 a0 d0 to mk ((fr_und dn dm).2) dm md kd lf rt vl ht sk wy) H := hP
  have hD : va_D (fun q : Nat => s.heap.size ≤ q) (w1 h1 a1 d1 to mk dm dn kd' lf' rt' vl' md sk ht ++ w0 h0 a0 d0 to mk ((fr_und dn dm).2) dm md kd lf rt vl ht sk wy) := hD
  refine lv_aload_n hx hb dL_law_201 rfl (lv_at hl 2 rfl) ?_
  refine fr_call2i (As := []) (rest := [.int r0]) ⟨hx, hb, hml, hown, hts⟩ (met1_undemand l G h1 a1 d1 _ to mk dm dn kd' lf' rt' vl' md sk ht I.2.2.1) (cwV 0 hts (lw_V q255 q256 q257 q28 q258) rfl rfl rfl (by decide +kernel) ⟨Nat.le_of_ble_eq_true rfl, Nat.le_of_ble_eq_true rfl⟩) (va_recv hK1 hP (ci := 1) (q0 := 0) rfl rfl) hK1 hP hD hS hA [0, 1, 2, 3, 4, 5, 6, 7, 8] [9, 10, 11, 12, 13, 14, 15, 16, 17, 18] rfl rfl rfl (by decide) (by decide) (by decide) rfl hl.1 rfl (Nat.le_of_ble_eq_true rfl) dL_law_202 ⟨Nat.le_of_ble_eq_true rfl, Nat.le_of_ble_eq_true rfl⟩ (fun r1 u1 H locs hw1 hP hD hS => ?_)
  have hP : va_P G vwCl (w0 h0 a0 d0 to mk ((fr_und dn dm).2) dm md kd lf rt vl ht sk wy ++ w1 h1 a1 d1 to mk dm ((fr_und dn dm).2) kd' lf' rt' vl' md sk ht) H := hP
  have hD : va_D (fun q : Nat => s.heap.size ≤ q) (w0 h0 a0 d0 to mk ((fr_und dn dm).2) dm md kd lf rt vl ht sk wy ++ w1 h1 a1 d1 to mk dm ((fr_und dn dm).2) kd' lf' rt' vl' md sk ht) := hD
  refine lv_icmp_eq (tgt := 401) hx hb dL_law_205 (by decide) (fun _ => ?_) (fun cq => ?_)
  · exact K to mk dm ((fr_und dn dm).2) md ht kd lf rt vl kd' lf' rt' vl' sk wy (i_und I) H locs ls hP hD hS hl
  · exact absurd (Eq.trans hw0 (Eq.trans (rfl) (Eq.symm hw1))) cq
end LC0
end
section
/-! the law: its cases, 210 .. -/
set_option maxRecDepth 100000
section LC1
variable {p : Program} {l : Launch} {e : Env} {s : State} {m : MethodId} {below : List Frame} {meth : Method} {c : Code} {b L : Nat} {xs : Nat → Int32} {G : va_G} {h0 h1 : Nat} {a0 a1 : Nat → Nat} {d0 d1 : ClassId} {i : Nat}
set_option maxHeartbeats 4000000 in
theorem lc_push (C0 : fr_cx p s m meth c b L xs G d0 d1) (hi : i + 3 ≤ L) (K : fr_at p l e s m below meth c b G h0 h1 a0 a1 d0 d1 i 401) : fr_at p l e s m below meth c b G h0 h1 a0 a1 d0 d1 i 210 := by
  intro to mk dm dn md ht kd lf rt vl kd' lf' rt' vl' sk wy I H locs ls hP hD hS hl
  obtain ⟨⟨hx, hb, hr, hml, hown, hts, hX, hbl, hlocks, hgv⟩, hK0, hK1, hL⟩ := C0
  have hA : ∀ q : Nat, s.heap.size ≤ q → (fun q : Nat => s.heap.size ≤ q) q := fun _ h => h
  have hbA : ¬ (fun q : Nat => s.heap.size ≤ q) b := Nat.not_le.mpr hbl
  have hts : ∀ w ∈ lw_all, w.before #[Value.ref b] s = true := fun w h => hts w (lw_all_tbl h)
  refine lv_aload_n hx hb dL_law_210 rfl (lv_at hl 1 rfl) ?_
  refine lv_aload_n hx hb dL_law_211 rfl (lv_at hl 0 rfl) ?_
  refine lv_iload_n hx hb dL_law_212 rfl (lv_at hl 3 rfl) ?_
  refine lv_iconst (v := 1) hx hb dL_law_213 (by decide) ?_
  refine lv_iadd hx hb dL_law_214 ?_
  refine fr_top (nI_1 i) ?_
  refine fr_sld hx hb hX hbl hbA hS (i + 1) (by omega) hL dL_law_215 ?_
  refine fr_call2i (As := [.int (xs (i + 1))]) (rest := []) ⟨hx, hb, hml, hown, hts⟩ (met0_push l G h0 a0 d0 _ to mk dn dm md kd lf rt vl ht sk wy (xs (i + 1)) I.2.2.2.1 I.2.2.2.2.1) (cwV 1 hts (lw_V q99 q100 q101 q27 q102) rfl rfl rfl (by decide +kernel) ⟨Nat.le_of_ble_eq_true rfl, Nat.le_of_ble_eq_true rfl⟩) (va_recv hK0 hP (ci := 0) (q0 := 0) rfl rfl) hK0 hP hD hS hA [0, 1, 2, 3, 4, 5, 6, 7, 8, 9] [10, 11, 12, 13, 14, 15, 16, 17, 18] rfl rfl rfl (by decide) (by decide) (by decide) rfl hl.1 rfl (Nat.le_of_ble_eq_true rfl) dL_law_216 ⟨Nat.le_of_ble_eq_true rfl, Nat.le_of_ble_eq_true rfl⟩ (fun r0 u0 H locs hw0 hP hD hS => ?_)
  have hP : va_P G vwCl (w1 h1 a1 d1 to mk dm dn kd' lf' rt' vl' md sk ht ++ w0 h0 a0 d0 to mk dn dm (if fr_puO (xs (i + 1)) md ht then md + 1 else md) (if fr_puO (xs (i + 1)) md ht then upd kd md 0 else kd) (if fr_puO (xs (i + 1)) md ht then upd lf md (xs (i + 1)) else lf) (if fr_puO (xs (i + 1)) md ht then upd rt md 0 else rt) vl (if fr_puO (xs (i + 1)) md ht then ht + 1 else ht) (if fr_puO (xs (i + 1)) md ht then upd sk ht (nI md) else sk) wy) H := hP
  have hD : va_D (fun q : Nat => s.heap.size ≤ q) (w1 h1 a1 d1 to mk dm dn kd' lf' rt' vl' md sk ht ++ w0 h0 a0 d0 to mk dn dm (if fr_puO (xs (i + 1)) md ht then md + 1 else md) (if fr_puO (xs (i + 1)) md ht then upd kd md 0 else kd) (if fr_puO (xs (i + 1)) md ht then upd lf md (xs (i + 1)) else lf) (if fr_puO (xs (i + 1)) md ht then upd rt md 0 else rt) vl (if fr_puO (xs (i + 1)) md ht then ht + 1 else ht) (if fr_puO (xs (i + 1)) md ht then upd sk ht (nI md) else sk) wy) := hD
  refine lv_aload_n hx hb dL_law_219 rfl (lv_at hl 2 rfl) ?_
  refine lv_aload_n hx hb dL_law_220 rfl (lv_at hl 0 rfl) ?_
  refine lv_iload_n hx hb dL_law_221 rfl (lv_at hl 3 rfl) ?_
  refine lv_iconst (v := 1) hx hb dL_law_222 (by decide) ?_
  refine lv_iadd hx hb dL_law_223 ?_
  refine fr_top (nI_1 i) ?_
  refine fr_sld hx hb hX hbl hbA hS (i + 1) (by omega) hL dL_law_224 ?_
  refine fr_call2i (As := [.int (xs (i + 1))]) (rest := [.int r0]) ⟨hx, hb, hml, hown, hts⟩ (met1_push l G h1 a1 d1 _ to mk dm dn kd' lf' rt' vl' md sk ht (xs (i + 1)) I.2.2.2.1 I.2.2.2.2.1) (cwV 1 hts (lw_V q259 q260 q261 q28 q262) rfl rfl rfl (by decide +kernel) ⟨Nat.le_of_ble_eq_true rfl, Nat.le_of_ble_eq_true rfl⟩) (va_recv hK1 hP (ci := 1) (q0 := 0) rfl rfl) hK1 hP hD hS hA [0, 1, 2, 3, 4, 5, 6, 7, 8] [9, 10, 11, 12, 13, 14, 15, 16, 17, 18] rfl rfl rfl (by decide) (by decide) (by decide) rfl hl.1 rfl (Nat.le_of_ble_eq_true rfl) dL_law_225 ⟨Nat.le_of_ble_eq_true rfl, Nat.le_of_ble_eq_true rfl⟩ (fun r1 u1 H locs hw1 hP hD hS => ?_)
  have hP : va_P G vwCl (w0 h0 a0 d0 to mk dn dm (if fr_puO (xs (i + 1)) md ht then md + 1 else md) (if fr_puO (xs (i + 1)) md ht then upd kd md 0 else kd) (if fr_puO (xs (i + 1)) md ht then upd lf md (xs (i + 1)) else lf) (if fr_puO (xs (i + 1)) md ht then upd rt md 0 else rt) vl (if fr_puO (xs (i + 1)) md ht then ht + 1 else ht) (if fr_puO (xs (i + 1)) md ht then upd sk ht (nI md) else sk) wy ++ w1 h1 a1 d1 to mk dm dn (if fr_puO (xs (i + 1)) md ht then upd kd' md (20 + xs (i + 1)) else kd') (if fr_puO (xs (i + 1)) md ht then upd lf' md 0 else lf') (if fr_puO (xs (i + 1)) md ht then upd rt' md 0 else rt') vl' (if fr_puO (xs (i + 1)) md ht then md + 1 else md) (if fr_puO (xs (i + 1)) md ht then upd sk ht (nI md) else sk) (if fr_puO (xs (i + 1)) md ht then ht + 1 else ht)) H := hP
  have hD : va_D (fun q : Nat => s.heap.size ≤ q) (w0 h0 a0 d0 to mk dn dm (if fr_puO (xs (i + 1)) md ht then md + 1 else md) (if fr_puO (xs (i + 1)) md ht then upd kd md 0 else kd) (if fr_puO (xs (i + 1)) md ht then upd lf md (xs (i + 1)) else lf) (if fr_puO (xs (i + 1)) md ht then upd rt md 0 else rt) vl (if fr_puO (xs (i + 1)) md ht then ht + 1 else ht) (if fr_puO (xs (i + 1)) md ht then upd sk ht (nI md) else sk) wy ++ w1 h1 a1 d1 to mk dm dn (if fr_puO (xs (i + 1)) md ht then upd kd' md (20 + xs (i + 1)) else kd') (if fr_puO (xs (i + 1)) md ht then upd lf' md 0 else lf') (if fr_puO (xs (i + 1)) md ht then upd rt' md 0 else rt') vl' (if fr_puO (xs (i + 1)) md ht then md + 1 else md) (if fr_puO (xs (i + 1)) md ht then upd sk ht (nI md) else sk) (if fr_puO (xs (i + 1)) md ht then ht + 1 else ht)) := hD
  refine lv_icmp_eq (tgt := 401) hx hb dL_law_228 (by decide) (fun _ => ?_) (fun cq => ?_)
  · exact K to mk dm dn (if fr_puO (xs (i + 1)) md ht then md + 1 else md) (if fr_puO (xs (i + 1)) md ht then ht + 1 else ht) (if fr_puO (xs (i + 1)) md ht then upd kd md 0 else kd) (if fr_puO (xs (i + 1)) md ht then upd lf md (xs (i + 1)) else lf) (if fr_puO (xs (i + 1)) md ht then upd rt md 0 else rt) vl (if fr_puO (xs (i + 1)) md ht then upd kd' md (20 + xs (i + 1)) else kd') (if fr_puO (xs (i + 1)) md ht then upd lf' md 0 else lf') (if fr_puO (xs (i + 1)) md ht then upd rt' md 0 else rt') vl' (if fr_puO (xs (i + 1)) md ht then upd sk ht (nI md) else sk) wy (i_push I (xs (i + 1))) H locs ls hP hD hS hl
  · exact absurd (Eq.trans hw0 (Eq.trans (rfl) (Eq.symm hw1))) cq
set_option maxHeartbeats 4000000 in
theorem lc_one (C0 : fr_cx p s m meth c b L xs G d0 d1) (hi : i + 3 ≤ L) (K : fr_at p l e s m below meth c b G h0 h1 a0 a1 d0 d1 i 401) : fr_at p l e s m below meth c b G h0 h1 a0 a1 d0 d1 i 233 := by
  intro to mk dm dn md ht kd lf rt vl kd' lf' rt' vl' sk wy I H locs ls hP hD hS hl
  obtain ⟨⟨hx, hb, hr, hml, hown, hts, hX, hbl, hlocks, hgv⟩, hK0, hK1, hL⟩ := C0
  have hA : ∀ q : Nat, s.heap.size ≤ q → (fun q : Nat => s.heap.size ≤ q) q := fun _ h => h
  have hbA : ¬ (fun q : Nat => s.heap.size ≤ q) b := Nat.not_le.mpr hbl
  have hts : ∀ w ∈ lw_all, w.before #[Value.ref b] s = true := fun w h => hts w (lw_all_tbl h)
  refine lv_aload_n hx hb dL_law_233 rfl (lv_at hl 1 rfl) ?_
  refine lv_aload_n hx hb dL_law_234 rfl (lv_at hl 0 rfl) ?_
  refine lv_iload_n hx hb dL_law_235 rfl (lv_at hl 3 rfl) ?_
  refine lv_iconst (v := 1) hx hb dL_law_236 (by decide) ?_
  refine lv_iadd hx hb dL_law_237 ?_
  refine fr_top (nI_1 i) ?_
  refine fr_sld hx hb hX hbl hbA hS (i + 1) (by omega) hL dL_law_238 ?_
  refine fr_call2i (As := [.int (xs (i + 1))]) (rest := []) ⟨hx, hb, hml, hown, hts⟩ (met0_one l G h0 a0 d0 _ to mk dn dm md kd lf rt vl ht sk wy (xs (i + 1)) I.2.2.2.1 I.2.2.2.2.1) (cwV 1 hts (lw_V q107 q108 q109 q27 q110) rfl rfl rfl (by decide +kernel) ⟨Nat.le_of_ble_eq_true rfl, Nat.le_of_ble_eq_true rfl⟩) (va_recv hK0 hP (ci := 0) (q0 := 0) rfl rfl) hK0 hP hD hS hA [0, 1, 2, 3, 4, 5, 6, 7, 8, 9] [10, 11, 12, 13, 14, 15, 16, 17, 18] rfl rfl rfl (by decide) (by decide) (by decide) rfl hl.1 rfl (Nat.le_of_ble_eq_true rfl) dL_law_239 ⟨Nat.le_of_ble_eq_true rfl, Nat.le_of_ble_eq_true rfl⟩ (fun r0 u0 H locs hw0 hP hD hS => ?_)
  have hP : va_P G vwCl (w1 h1 a1 d1 to mk dm dn kd' lf' rt' vl' md sk ht ++ w0 h0 a0 d0 to mk dn dm (if fr_onO (xs (i + 1)) md ht then md + 1 else md) (if fr_onO (xs (i + 1)) md ht then upd kd md (1 + xs (i + 1)) else kd) (if fr_onO (xs (i + 1)) md ht then upd lf md (sk (ht - 1)) else lf) (if fr_onO (xs (i + 1)) md ht then upd rt md 0 else rt) vl ht (if fr_onO (xs (i + 1)) md ht then upd sk (ht - 1) (nI md) else sk) wy) H := hP
  have hD : va_D (fun q : Nat => s.heap.size ≤ q) (w1 h1 a1 d1 to mk dm dn kd' lf' rt' vl' md sk ht ++ w0 h0 a0 d0 to mk dn dm (if fr_onO (xs (i + 1)) md ht then md + 1 else md) (if fr_onO (xs (i + 1)) md ht then upd kd md (1 + xs (i + 1)) else kd) (if fr_onO (xs (i + 1)) md ht then upd lf md (sk (ht - 1)) else lf) (if fr_onO (xs (i + 1)) md ht then upd rt md 0 else rt) vl ht (if fr_onO (xs (i + 1)) md ht then upd sk (ht - 1) (nI md) else sk) wy) := hD
  refine lv_aload_n hx hb dL_law_242 rfl (lv_at hl 2 rfl) ?_
  refine lv_aload_n hx hb dL_law_243 rfl (lv_at hl 0 rfl) ?_
  refine lv_iload_n hx hb dL_law_244 rfl (lv_at hl 3 rfl) ?_
  refine lv_iconst (v := 1) hx hb dL_law_245 (by decide) ?_
  refine lv_iadd hx hb dL_law_246 ?_
  refine fr_top (nI_1 i) ?_
  refine fr_sld hx hb hX hbl hbA hS (i + 1) (by omega) hL dL_law_247 ?_
  refine fr_call2i (As := [.int (xs (i + 1))]) (rest := [.int r0]) ⟨hx, hb, hml, hown, hts⟩ (met1_one l G h1 a1 d1 _ to mk dm dn kd' lf' rt' vl' md sk ht (xs (i + 1)) I.2.2.2.1 I.2.2.2.2.1) (cwV 1 hts (lw_V q267 q268 q269 q28 q270) rfl rfl rfl (by decide +kernel) ⟨Nat.le_of_ble_eq_true rfl, Nat.le_of_ble_eq_true rfl⟩) (va_recv hK1 hP (ci := 1) (q0 := 0) rfl rfl) hK1 hP hD hS hA [0, 1, 2, 3, 4, 5, 6, 7, 8] [9, 10, 11, 12, 13, 14, 15, 16, 17, 18] rfl rfl rfl (by decide) (by decide) (by decide) rfl hl.1 rfl (Nat.le_of_ble_eq_true rfl) dL_law_248 ⟨Nat.le_of_ble_eq_true rfl, Nat.le_of_ble_eq_true rfl⟩ (fun r1 u1 H locs hw1 hP hD hS => ?_)
  have hP : va_P G vwCl (w0 h0 a0 d0 to mk dn dm (if fr_onO (xs (i + 1)) md ht then md + 1 else md) (if fr_onO (xs (i + 1)) md ht then upd kd md (1 + xs (i + 1)) else kd) (if fr_onO (xs (i + 1)) md ht then upd lf md (sk (ht - 1)) else lf) (if fr_onO (xs (i + 1)) md ht then upd rt md 0 else rt) vl ht (if fr_onO (xs (i + 1)) md ht then upd sk (ht - 1) (nI md) else sk) wy ++ w1 h1 a1 d1 to mk dm dn (if fr_onO (xs (i + 1)) md ht then upd kd' md (xs (i + 1)) else kd') (if fr_onO (xs (i + 1)) md ht then upd lf' md (sk (ht - 1)) else lf') (if fr_onO (xs (i + 1)) md ht then upd rt' md 0 else rt') vl' (if fr_onO (xs (i + 1)) md ht then md + 1 else md) (if fr_onO (xs (i + 1)) md ht then upd sk (ht - 1) (nI md) else sk) (if fr_onO (xs (i + 1)) md ht then ht - 1 + 1 else ht)) H := hP
  have hD : va_D (fun q : Nat => s.heap.size ≤ q) (w0 h0 a0 d0 to mk dn dm (if fr_onO (xs (i + 1)) md ht then md + 1 else md) (if fr_onO (xs (i + 1)) md ht then upd kd md (1 + xs (i + 1)) else kd) (if fr_onO (xs (i + 1)) md ht then upd lf md (sk (ht - 1)) else lf) (if fr_onO (xs (i + 1)) md ht then upd rt md 0 else rt) vl ht (if fr_onO (xs (i + 1)) md ht then upd sk (ht - 1) (nI md) else sk) wy ++ w1 h1 a1 d1 to mk dm dn (if fr_onO (xs (i + 1)) md ht then upd kd' md (xs (i + 1)) else kd') (if fr_onO (xs (i + 1)) md ht then upd lf' md (sk (ht - 1)) else lf') (if fr_onO (xs (i + 1)) md ht then upd rt' md 0 else rt') vl' (if fr_onO (xs (i + 1)) md ht then md + 1 else md) (if fr_onO (xs (i + 1)) md ht then upd sk (ht - 1) (nI md) else sk) (if fr_onO (xs (i + 1)) md ht then ht - 1 + 1 else ht)) := hD
  rw [h_one (xs (i + 1))] at hP hD
  refine lv_icmp_eq (tgt := 401) hx hb dL_law_251 (by decide) (fun _ => ?_) (fun cq => ?_)
  · exact K to mk dm dn (if fr_onO (xs (i + 1)) md ht then md + 1 else md) ht (if fr_onO (xs (i + 1)) md ht then upd kd md (1 + xs (i + 1)) else kd) (if fr_onO (xs (i + 1)) md ht then upd lf md (sk (ht - 1)) else lf) (if fr_onO (xs (i + 1)) md ht then upd rt md 0 else rt) vl (if fr_onO (xs (i + 1)) md ht then upd kd' md (xs (i + 1)) else kd') (if fr_onO (xs (i + 1)) md ht then upd lf' md (sk (ht - 1)) else lf') (if fr_onO (xs (i + 1)) md ht then upd rt' md 0 else rt') vl' (if fr_onO (xs (i + 1)) md ht then upd sk (ht - 1) (nI md) else sk) wy (i_one I (xs (i + 1))) H locs ls hP hD hS hl
  · exact absurd (Eq.trans hw0 (Eq.trans (rfl) (Eq.symm hw1))) cq
set_option maxHeartbeats 4000000 in
theorem lc_two (C0 : fr_cx p s m meth c b L xs G d0 d1) (hi : i + 3 ≤ L) (K : fr_at p l e s m below meth c b G h0 h1 a0 a1 d0 d1 i 401) : fr_at p l e s m below meth c b G h0 h1 a0 a1 d0 d1 i 256 := by
  intro to mk dm dn md ht kd lf rt vl kd' lf' rt' vl' sk wy I H locs ls hP hD hS hl
  obtain ⟨⟨hx, hb, hr, hml, hown, hts, hX, hbl, hlocks, hgv⟩, hK0, hK1, hL⟩ := C0
  have hA : ∀ q : Nat, s.heap.size ≤ q → (fun q : Nat => s.heap.size ≤ q) q := fun _ h => h
  have hbA : ¬ (fun q : Nat => s.heap.size ≤ q) b := Nat.not_le.mpr hbl
  have hts : ∀ w ∈ lw_all, w.before #[Value.ref b] s = true := fun w h => hts w (lw_all_tbl h)
  refine lv_aload_n hx hb dL_law_256 rfl (lv_at hl 1 rfl) ?_
  refine lv_aload_n hx hb dL_law_257 rfl (lv_at hl 0 rfl) ?_
  refine lv_iload_n hx hb dL_law_258 rfl (lv_at hl 3 rfl) ?_
  refine lv_iconst (v := 1) hx hb dL_law_259 (by decide) ?_
  refine lv_iadd hx hb dL_law_260 ?_
  refine fr_top (nI_1 i) ?_
  refine fr_sld hx hb hX hbl hbA hS (i + 1) (by omega) hL dL_law_261 ?_
  refine fr_call2i (As := [.int (xs (i + 1))]) (rest := []) ⟨hx, hb, hml, hown, hts⟩ (met0_two l G h0 a0 d0 _ to mk dn dm md kd lf rt vl ht sk wy (xs (i + 1)) I.2.2.2.1 I.2.2.2.2.1) (cwV 1 hts (lw_V q111 q112 q113 q27 q114) rfl rfl rfl (by decide +kernel) ⟨Nat.le_of_ble_eq_true rfl, Nat.le_of_ble_eq_true rfl⟩) (va_recv hK0 hP (ci := 0) (q0 := 0) rfl rfl) hK0 hP hD hS hA [0, 1, 2, 3, 4, 5, 6, 7, 8, 9] [10, 11, 12, 13, 14, 15, 16, 17, 18] rfl rfl rfl (by decide) (by decide) (by decide) rfl hl.1 rfl (Nat.le_of_ble_eq_true rfl) dL_law_262 ⟨Nat.le_of_ble_eq_true rfl, Nat.le_of_ble_eq_true rfl⟩ (fun r0 u0 H locs hw0 hP hD hS => ?_)
  have hP : va_P G vwCl (w1 h1 a1 d1 to mk dm dn kd' lf' rt' vl' md sk ht ++ w0 h0 a0 d0 to mk dn dm (if fr_twO (xs (i + 1)) md ht then md + 1 else md) (if fr_twO (xs (i + 1)) md ht then upd kd md (8 + xs (i + 1)) else kd) (if fr_twO (xs (i + 1)) md ht then upd lf md (sk (ht - 1 - 1)) else lf) (if fr_twO (xs (i + 1)) md ht then upd rt md (sk (ht - 1)) else rt) vl (if fr_twO (xs (i + 1)) md ht then ht - 1 else ht) (if fr_twO (xs (i + 1)) md ht then upd sk (ht - 1 - 1) (nI md) else sk) wy) H := hP
  have hD : va_D (fun q : Nat => s.heap.size ≤ q) (w1 h1 a1 d1 to mk dm dn kd' lf' rt' vl' md sk ht ++ w0 h0 a0 d0 to mk dn dm (if fr_twO (xs (i + 1)) md ht then md + 1 else md) (if fr_twO (xs (i + 1)) md ht then upd kd md (8 + xs (i + 1)) else kd) (if fr_twO (xs (i + 1)) md ht then upd lf md (sk (ht - 1 - 1)) else lf) (if fr_twO (xs (i + 1)) md ht then upd rt md (sk (ht - 1)) else rt) vl (if fr_twO (xs (i + 1)) md ht then ht - 1 else ht) (if fr_twO (xs (i + 1)) md ht then upd sk (ht - 1 - 1) (nI md) else sk) wy) := hD
  refine lv_aload_n hx hb dL_law_265 rfl (lv_at hl 2 rfl) ?_
  refine lv_aload_n hx hb dL_law_266 rfl (lv_at hl 0 rfl) ?_
  refine lv_iload_n hx hb dL_law_267 rfl (lv_at hl 3 rfl) ?_
  refine lv_iconst (v := 1) hx hb dL_law_268 (by decide) ?_
  refine lv_iadd hx hb dL_law_269 ?_
  refine fr_top (nI_1 i) ?_
  refine fr_sld hx hb hX hbl hbA hS (i + 1) (by omega) hL dL_law_270 ?_
  refine fr_call2i (As := [.int (xs (i + 1))]) (rest := [.int r0]) ⟨hx, hb, hml, hown, hts⟩ (met1_two l G h1 a1 d1 _ to mk dm dn kd' lf' rt' vl' md sk ht (xs (i + 1)) I.2.2.2.1 I.2.2.2.2.1) (cwV 1 hts (lw_V q271 q272 q273 q28 q274) rfl rfl rfl (by decide +kernel) ⟨Nat.le_of_ble_eq_true rfl, Nat.le_of_ble_eq_true rfl⟩) (va_recv hK1 hP (ci := 1) (q0 := 0) rfl rfl) hK1 hP hD hS hA [0, 1, 2, 3, 4, 5, 6, 7, 8] [9, 10, 11, 12, 13, 14, 15, 16, 17, 18] rfl rfl rfl (by decide) (by decide) (by decide) rfl hl.1 rfl (Nat.le_of_ble_eq_true rfl) dL_law_271 ⟨Nat.le_of_ble_eq_true rfl, Nat.le_of_ble_eq_true rfl⟩ (fun r1 u1 H locs hw1 hP hD hS => ?_)
  have hP : va_P G vwCl (w0 h0 a0 d0 to mk dn dm (if fr_twO (xs (i + 1)) md ht then md + 1 else md) (if fr_twO (xs (i + 1)) md ht then upd kd md (8 + xs (i + 1)) else kd) (if fr_twO (xs (i + 1)) md ht then upd lf md (sk (ht - 1 - 1)) else lf) (if fr_twO (xs (i + 1)) md ht then upd rt md (sk (ht - 1)) else rt) vl (if fr_twO (xs (i + 1)) md ht then ht - 1 else ht) (if fr_twO (xs (i + 1)) md ht then upd sk (ht - 1 - 1) (nI md) else sk) wy ++ w1 h1 a1 d1 to mk dm dn (if fr_twO (xs (i + 1)) md ht then upd kd' md (10 + xs (i + 1)) else kd') (if fr_twO (xs (i + 1)) md ht then upd lf' md (sk (ht - 2)) else lf') (if fr_twO (xs (i + 1)) md ht then upd rt' md (sk (ht - 2 + 1)) else rt') vl' (if fr_twO (xs (i + 1)) md ht then md + 1 else md) (if fr_twO (xs (i + 1)) md ht then upd sk (ht - 2) (nI md) else sk) (if fr_twO (xs (i + 1)) md ht then ht - 2 + 1 else ht)) H := hP
  have hD : va_D (fun q : Nat => s.heap.size ≤ q) (w0 h0 a0 d0 to mk dn dm (if fr_twO (xs (i + 1)) md ht then md + 1 else md) (if fr_twO (xs (i + 1)) md ht then upd kd md (8 + xs (i + 1)) else kd) (if fr_twO (xs (i + 1)) md ht then upd lf md (sk (ht - 1 - 1)) else lf) (if fr_twO (xs (i + 1)) md ht then upd rt md (sk (ht - 1)) else rt) vl (if fr_twO (xs (i + 1)) md ht then ht - 1 else ht) (if fr_twO (xs (i + 1)) md ht then upd sk (ht - 1 - 1) (nI md) else sk) wy ++ w1 h1 a1 d1 to mk dm dn (if fr_twO (xs (i + 1)) md ht then upd kd' md (10 + xs (i + 1)) else kd') (if fr_twO (xs (i + 1)) md ht then upd lf' md (sk (ht - 2)) else lf') (if fr_twO (xs (i + 1)) md ht then upd rt' md (sk (ht - 2 + 1)) else rt') vl' (if fr_twO (xs (i + 1)) md ht then md + 1 else md) (if fr_twO (xs (i + 1)) md ht then upd sk (ht - 2) (nI md) else sk) (if fr_twO (xs (i + 1)) md ht then ht - 2 + 1 else ht)) := hD
  rw [h_two (xs (i + 1)), s_two (xs (i + 1))] at hP hD
  refine lv_icmp_eq (tgt := 401) hx hb dL_law_274 (by decide) (fun _ => ?_) (fun cq => ?_)
  · exact K to mk dm dn (if fr_twO (xs (i + 1)) md ht then md + 1 else md) (if fr_twO (xs (i + 1)) md ht then ht - 1 else ht) (if fr_twO (xs (i + 1)) md ht then upd kd md (8 + xs (i + 1)) else kd) (if fr_twO (xs (i + 1)) md ht then upd lf md (sk (ht - 1 - 1)) else lf) (if fr_twO (xs (i + 1)) md ht then upd rt md (sk (ht - 1)) else rt) vl (if fr_twO (xs (i + 1)) md ht then upd kd' md (10 + xs (i + 1)) else kd') (if fr_twO (xs (i + 1)) md ht then upd lf' md (sk (ht - 2)) else lf') (if fr_twO (xs (i + 1)) md ht then upd rt' md (sk (ht - 2 + 1)) else rt') vl' (if fr_twO (xs (i + 1)) md ht then upd sk (ht - 1 - 1) (nI md) else sk) wy (i_two I (xs (i + 1))) H locs ls hP hD hS hl
  · exact absurd (Eq.trans hw0 (Eq.trans (rfl) (Eq.symm hw1))) cq
set_option maxHeartbeats 4000000 in
theorem lc_discard (C0 : fr_cx p s m meth c b L xs G d0 d1) (hi : i + 3 ≤ L) (K : fr_at p l e s m below meth c b G h0 h1 a0 a1 d0 d1 i 401) : fr_at p l e s m below meth c b G h0 h1 a0 a1 d0 d1 i 279 := by
  intro to mk dm dn md ht kd lf rt vl kd' lf' rt' vl' sk wy I H locs ls hP hD hS hl
  obtain ⟨⟨hx, hb, hr, hml, hown, hts, hX, hbl, hlocks, hgv⟩, hK0, hK1, hL⟩ := C0
  have hA : ∀ q : Nat, s.heap.size ≤ q → (fun q : Nat => s.heap.size ≤ q) q := fun _ h => h
  have hbA : ¬ (fun q : Nat => s.heap.size ≤ q) b := Nat.not_le.mpr hbl
  have hts : ∀ w ∈ lw_all, w.before #[Value.ref b] s = true := fun w h => hts w (lw_all_tbl h)
  refine lv_aload_n hx hb dL_law_279 rfl (lv_at hl 1 rfl) ?_
  refine fr_call2v (As := []) (rest := []) ⟨hx, hb, hml, hown, hts⟩ (met0_discard l G h0 a0 d0 _ to mk dn dm md kd lf rt vl ht sk wy) (cwV 0 hts (lw_V q115 q116 q117 q27 q118) rfl rfl rfl (by decide +kernel) ⟨Nat.le_of_ble_eq_true rfl, Nat.le_of_ble_eq_true rfl⟩) (va_recv hK0 hP (ci := 0) (q0 := 0) rfl rfl) hK0 hP hD hS hA [0, 1, 2, 3, 4, 5, 6, 7, 8, 9] [10, 11, 12, 13, 14, 15, 16, 17, 18] rfl rfl rfl (by decide) (by decide) (by decide) rfl hl.1 rfl (Nat.le_of_ble_eq_true rfl) dL_law_280 ⟨Nat.le_of_ble_eq_true rfl, Nat.le_of_ble_eq_true rfl⟩ (fun u0 H locs hw0 hP hD hS => ?_)
  have hP : va_P G vwCl (w1 h1 a1 d1 to mk dm dn kd' lf' rt' vl' md sk ht ++ w0 h0 a0 d0 to mk dn dm 0 kd lf rt vl 0 sk wy) H := hP
  have hD : va_D (fun q : Nat => s.heap.size ≤ q) (w1 h1 a1 d1 to mk dm dn kd' lf' rt' vl' md sk ht ++ w0 h0 a0 d0 to mk dn dm 0 kd lf rt vl 0 sk wy) := hD
  refine lv_aload_n hx hb dL_law_283 rfl (lv_at hl 2 rfl) ?_
  refine fr_call2v (As := []) (rest := []) ⟨hx, hb, hml, hown, hts⟩ (met1_discard l G h1 a1 d1 _ to mk dm dn kd' lf' rt' vl' md sk ht) (cwV 0 hts (lw_V q275 q276 q277 q28 q278) rfl rfl rfl (by decide +kernel) ⟨Nat.le_of_ble_eq_true rfl, Nat.le_of_ble_eq_true rfl⟩) (va_recv hK1 hP (ci := 1) (q0 := 0) rfl rfl) hK1 hP hD hS hA [0, 1, 2, 3, 4, 5, 6, 7, 8] [9, 10, 11, 12, 13, 14, 15, 16, 17, 18] rfl rfl rfl (by decide) (by decide) (by decide) rfl hl.1 rfl (Nat.le_of_ble_eq_true rfl) dL_law_284 ⟨Nat.le_of_ble_eq_true rfl, Nat.le_of_ble_eq_true rfl⟩ (fun u1 H locs hw1 hP hD hS => ?_)
  have hP : va_P G vwCl (w0 h0 a0 d0 to mk dn dm 0 kd lf rt vl 0 sk wy ++ w1 h1 a1 d1 to mk dm dn kd' lf' rt' vl' 0 sk 0) H := hP
  have hD : va_D (fun q : Nat => s.heap.size ≤ q) (w0 h0 a0 d0 to mk dn dm 0 kd lf rt vl 0 sk wy ++ w1 h1 a1 d1 to mk dm dn kd' lf' rt' vl' 0 sk 0) := hD
  refine lv_goto (tgt := 401) hx hb dL_law_287 (by decide) ?_
  exact K to mk dm dn 0 0 kd lf rt vl kd' lf' rt' vl' sk wy (i_disc I) H locs ls hP hD hS hl
end LC1
end
section
/-! the law: its cases, 290 .. -/
set_option maxRecDepth 100000
section LC2
variable {p : Program} {l : Launch} {e : Env} {s : State} {m : MethodId} {below : List Frame} {meth : Method} {c : Code} {b L : Nat} {xs : Nat → Int32} {G : va_G} {h0 h1 : Nat} {a0 a1 : Nat → Nat} {d0 d1 : ClassId} {i : Nat}
set_option maxHeartbeats 4000000 in
theorem lc_depth (C0 : fr_cx p s m meth c b L xs G d0 d1) (hi : i + 3 ≤ L) (K : fr_at p l e s m below meth c b G h0 h1 a0 a1 d0 d1 i 401) : fr_at p l e s m below meth c b G h0 h1 a0 a1 d0 d1 i 290 := by
  intro to mk dm dn md ht kd lf rt vl kd' lf' rt' vl' sk wy I H locs ls hP hD hS hl
  obtain ⟨⟨hx, hb, hr, hml, hown, hts, hX, hbl, hlocks, hgv⟩, hK0, hK1, hL⟩ := C0
  have hA : ∀ q : Nat, s.heap.size ≤ q → (fun q : Nat => s.heap.size ≤ q) q := fun _ h => h
  have hbA : ¬ (fun q : Nat => s.heap.size ≤ q) b := Nat.not_le.mpr hbl
  have hts : ∀ w ∈ lw_all, w.before #[Value.ref b] s = true := fun w h => hts w (lw_all_tbl h)
  refine lv_aload_n hx hb dL_law_290 rfl (lv_at hl 1 rfl) ?_
  refine fr_call2i (As := []) (rest := []) ⟨hx, hb, hml, hown, hts⟩ (met0_depth l G h0 a0 d0 _ to mk dn dm md kd lf rt vl ht sk wy) (cwV 0 hts (lw_V q119 q120 q121 q27 q122) rfl rfl rfl (by decide +kernel) ⟨Nat.le_of_ble_eq_true rfl, Nat.le_of_ble_eq_true rfl⟩) (va_recv hK0 hP (ci := 0) (q0 := 0) rfl rfl) hK0 hP hD hS hA [0, 1, 2, 3, 4, 5, 6, 7, 8, 9] [10, 11, 12, 13, 14, 15, 16, 17, 18] rfl rfl rfl (by decide) (by decide) (by decide) rfl hl.1 rfl (Nat.le_of_ble_eq_true rfl) dL_law_291 ⟨Nat.le_of_ble_eq_true rfl, Nat.le_of_ble_eq_true rfl⟩ (fun r0 u0 H locs hw0 hP hD hS => ?_)
  have hP : va_P G vwCl (w1 h1 a1 d1 to mk dm dn kd' lf' rt' vl' md sk ht ++ w0 h0 a0 d0 to mk dn dm md kd lf rt vl ht sk wy) H := hP
  have hD : va_D (fun q : Nat => s.heap.size ≤ q) (w1 h1 a1 d1 to mk dm dn kd' lf' rt' vl' md sk ht ++ w0 h0 a0 d0 to mk dn dm md kd lf rt vl ht sk wy) := hD
  refine lv_aload_n hx hb dL_law_294 rfl (lv_at hl 2 rfl) ?_
  refine fr_call2i (As := []) (rest := [.int r0]) ⟨hx, hb, hml, hown, hts⟩ (met1_depth l G h1 a1 d1 _ to mk dm dn kd' lf' rt' vl' md sk ht) (cwV 0 hts (lw_V q279 q280 q281 q28 q282) rfl rfl rfl (by decide +kernel) ⟨Nat.le_of_ble_eq_true rfl, Nat.le_of_ble_eq_true rfl⟩) (va_recv hK1 hP (ci := 1) (q0 := 0) rfl rfl) hK1 hP hD hS hA [0, 1, 2, 3, 4, 5, 6, 7, 8] [9, 10, 11, 12, 13, 14, 15, 16, 17, 18] rfl rfl rfl (by decide) (by decide) (by decide) rfl hl.1 rfl (Nat.le_of_ble_eq_true rfl) dL_law_295 ⟨Nat.le_of_ble_eq_true rfl, Nat.le_of_ble_eq_true rfl⟩ (fun r1 u1 H locs hw1 hP hD hS => ?_)
  have hP : va_P G vwCl (w0 h0 a0 d0 to mk dn dm md kd lf rt vl ht sk wy ++ w1 h1 a1 d1 to mk dm dn kd' lf' rt' vl' md sk ht) H := hP
  have hD : va_D (fun q : Nat => s.heap.size ≤ q) (w0 h0 a0 d0 to mk dn dm md kd lf rt vl ht sk wy ++ w1 h1 a1 d1 to mk dm dn kd' lf' rt' vl' md sk ht) := hD
  refine lv_icmp_eq (tgt := 401) hx hb dL_law_298 (by decide) (fun _ => ?_) (fun cq => ?_)
  · exact K to mk dm dn md ht kd lf rt vl kd' lf' rt' vl' sk wy (I) H locs ls hP hD hS hl
  · exact absurd (Eq.trans hw0 (Eq.trans (rfl) (Eq.symm hw1))) cq
set_option maxHeartbeats 4000000 in
theorem lc_holds (C0 : fr_cx p s m meth c b L xs G d0 d1) (hi : i + 3 ≤ L) (K : fr_at p l e s m below meth c b G h0 h1 a0 a1 d0 d1 i 401) : fr_at p l e s m below meth c b G h0 h1 a0 a1 d0 d1 i 303 := by
  intro to mk dm dn md ht kd lf rt vl kd' lf' rt' vl' sk wy I H locs ls hP hD hS hl
  obtain ⟨⟨hx, hb, hr, hml, hown, hts, hX, hbl, hlocks, hgv⟩, hK0, hK1, hL⟩ := C0
  have hA : ∀ q : Nat, s.heap.size ≤ q → (fun q : Nat => s.heap.size ≤ q) q := fun _ h => h
  have hbA : ¬ (fun q : Nat => s.heap.size ≤ q) b := Nat.not_le.mpr hbl
  have hts : ∀ w ∈ lw_all, w.before #[Value.ref b] s = true := fun w h => hts w (lw_all_tbl h)
  refine lv_aload_n hx hb dL_law_303 rfl (lv_at hl 1 rfl) ?_
  refine fr_call2i (As := []) (rest := []) ⟨hx, hb, hml, hown, hts⟩ (met0_holds l G h0 a0 d0 _ to mk dn dm md kd lf rt vl ht sk wy I.2.2.1 I.2.2.2.1 I.2.2.2.2.1 I.2.2.2.2.2.1 (i_w0 I)) (cwV 0 hts (lw_V q123 q124 q125 q27 q126) rfl rfl rfl (by decide +kernel) ⟨Nat.le_of_ble_eq_true rfl, Nat.le_of_ble_eq_true rfl⟩) (va_recv hK0 hP (ci := 0) (q0 := 0) rfl rfl) hK0 hP hD hS hA [0, 1, 2, 3, 4, 5, 6, 7, 8, 9] [10, 11, 12, 13, 14, 15, 16, 17, 18] rfl rfl rfl (by decide) (by decide) (by decide) rfl hl.1 rfl (Nat.le_of_ble_eq_true rfl) dL_law_304 ⟨Nat.le_of_ble_eq_true rfl, Nat.le_of_ble_eq_true rfl⟩ (fun r0 u0 H locs hw0 hP hD hS => ?_)
  have hP : va_P G vwCl (w1 h1 a1 d1 to mk dm dn kd' lf' rt' vl' md sk ht ++ w0 h0 a0 d0 to mk dn dm md kd lf rt (u0.1) ht sk (u0.2)) H := hP
  have hD : va_D (fun q : Nat => s.heap.size ≤ q) (w1 h1 a1 d1 to mk dm dn kd' lf' rt' vl' md sk ht ++ w0 h0 a0 d0 to mk dn dm md kd lf rt (u0.1) ht sk (u0.2)) := hD
  refine lv_aload_n hx hb dL_law_307 rfl (lv_at hl 2 rfl) ?_
  refine fr_call2i (As := []) (rest := [.int r0]) ⟨hx, hb, hml, hown, hts⟩ (met1_holds l G h1 a1 d1 _ to mk dm dn kd' lf' rt' vl' md sk ht I.2.2.1 I.2.2.2.1 I.2.2.2.2.1 I.2.2.2.2.2.1 (i_w1 I)) (cwV 0 hts (lw_V q283 q284 q285 q28 q286) rfl rfl rfl (by decide +kernel) ⟨Nat.le_of_ble_eq_true rfl, Nat.le_of_ble_eq_true rfl⟩) (va_recv hK1 hP (ci := 1) (q0 := 0) rfl rfl) hK1 hP hD hS hA [0, 1, 2, 3, 4, 5, 6, 7, 8] [9, 10, 11, 12, 13, 14, 15, 16, 17, 18] rfl rfl rfl (by decide) (by decide) (by decide) rfl hl.1 rfl (Nat.le_of_ble_eq_true rfl) dL_law_308 ⟨Nat.le_of_ble_eq_true rfl, Nat.le_of_ble_eq_true rfl⟩ (fun r1 u1 H locs hw1 hP hD hS => ?_)
  have hP : va_P G vwCl (w0 h0 a0 d0 to mk dn dm md kd lf rt (u0.1) ht sk (u0.2) ++ w1 h1 a1 d1 to mk dm dn kd' lf' rt' u1 md sk ht) H := hP
  have hD : va_D (fun q : Nat => s.heap.size ≤ q) (w0 h0 a0 d0 to mk dn dm md kd lf rt (u0.1) ht sk (u0.2) ++ w1 h1 a1 d1 to mk dm dn kd' lf' rt' u1 md sk ht) := hD
  refine lv_icmp_eq (tgt := 401) hx hb dL_law_311 (by decide) (fun _ => ?_) (fun cq => ?_)
  · exact K to mk dm dn md ht kd lf rt (u0.1) kd' lf' rt' u1 sk (u0.2) (I) H locs ls hP hD hS hl
  · exact absurd (Eq.trans hw0 (Eq.trans (a_holds I vl vl') (Eq.symm hw1))) cq
set_option maxHeartbeats 4000000 in
theorem lc_alike (C0 : fr_cx p s m meth c b L xs G d0 d1) (hi : i + 3 ≤ L) (K : fr_at p l e s m below meth c b G h0 h1 a0 a1 d0 d1 i 401) : fr_at p l e s m below meth c b G h0 h1 a0 a1 d0 d1 i 316 := by
  intro to mk dm dn md ht kd lf rt vl kd' lf' rt' vl' sk wy I H locs ls hP hD hS hl
  obtain ⟨⟨hx, hb, hr, hml, hown, hts, hX, hbl, hlocks, hgv⟩, hK0, hK1, hL⟩ := C0
  have hA : ∀ q : Nat, s.heap.size ≤ q → (fun q : Nat => s.heap.size ≤ q) q := fun _ h => h
  have hbA : ¬ (fun q : Nat => s.heap.size ≤ q) b := Nat.not_le.mpr hbl
  have hts : ∀ w ∈ lw_all, w.before #[Value.ref b] s = true := fun w h => hts w (lw_all_tbl h)
  refine lv_aload_n hx hb dL_law_316 rfl (lv_at hl 1 rfl) ?_
  refine fr_call2i (As := []) (rest := []) ⟨hx, hb, hml, hown, hts⟩ (met0_alike l G h0 a0 d0 _ to mk dn dm md kd lf rt vl ht sk wy I.2.2.1 I.2.2.2.1 I.2.2.2.2.1 I.2.2.2.2.2.1 (i_w0 I)) (cwV 0 hts (lw_V q175 q176 q177 q27 q178) rfl rfl rfl (by decide +kernel) ⟨Nat.le_of_ble_eq_true rfl, Nat.le_of_ble_eq_true rfl⟩) (va_recv hK0 hP (ci := 0) (q0 := 0) rfl rfl) hK0 hP hD hS hA [0, 1, 2, 3, 4, 5, 6, 7, 8, 9] [10, 11, 12, 13, 14, 15, 16, 17, 18] rfl rfl rfl (by decide) (by decide) (by decide) rfl hl.1 rfl (Nat.le_of_ble_eq_true rfl) dL_law_317 ⟨Nat.le_of_ble_eq_true rfl, Nat.le_of_ble_eq_true rfl⟩ (fun r0 u0 H locs hw0 hP hD hS => ?_)
  have hP : va_P G vwCl (w1 h1 a1 d1 to mk dm dn kd' lf' rt' vl' md sk ht ++ w0 h0 a0 d0 to mk dn dm md kd lf rt (u0.1) ht sk (u0.2)) H := hP
  have hD : va_D (fun q : Nat => s.heap.size ≤ q) (w1 h1 a1 d1 to mk dm dn kd' lf' rt' vl' md sk ht ++ w0 h0 a0 d0 to mk dn dm md kd lf rt (u0.1) ht sk (u0.2)) := hD
  refine lv_aload_n hx hb dL_law_320 rfl (lv_at hl 2 rfl) ?_
  refine fr_call2i (As := []) (rest := [.int r0]) ⟨hx, hb, hml, hown, hts⟩ (met1_alike l G h1 a1 d1 _ to mk dm dn kd' lf' rt' vl' md sk ht I.2.2.1 I.2.2.2.1 I.2.2.2.2.1 I.2.2.2.2.2.1 (i_w1 I)) (cwV 0 hts (lw_V q315 q316 q317 q28 q318) rfl rfl rfl (by decide +kernel) ⟨Nat.le_of_ble_eq_true rfl, Nat.le_of_ble_eq_true rfl⟩) (va_recv hK1 hP (ci := 1) (q0 := 0) rfl rfl) hK1 hP hD hS hA [0, 1, 2, 3, 4, 5, 6, 7, 8] [9, 10, 11, 12, 13, 14, 15, 16, 17, 18] rfl rfl rfl (by decide) (by decide) (by decide) rfl hl.1 rfl (Nat.le_of_ble_eq_true rfl) dL_law_321 ⟨Nat.le_of_ble_eq_true rfl, Nat.le_of_ble_eq_true rfl⟩ (fun r1 u1 H locs hw1 hP hD hS => ?_)
  have hP : va_P G vwCl (w0 h0 a0 d0 to mk dn dm md kd lf rt (u0.1) ht sk (u0.2) ++ w1 h1 a1 d1 to mk dm dn kd' lf' rt' u1 md sk ht) H := hP
  have hD : va_D (fun q : Nat => s.heap.size ≤ q) (w0 h0 a0 d0 to mk dn dm md kd lf rt (u0.1) ht sk (u0.2) ++ w1 h1 a1 d1 to mk dm dn kd' lf' rt' u1 md sk ht) := hD
  refine lv_icmp_eq (tgt := 401) hx hb dL_law_324 (by decide) (fun _ => ?_) (fun cq => ?_)
  · exact K to mk dm dn md ht kd lf rt (u0.1) kd' lf' rt' u1 sk (u0.2) (I) H locs ls hP hD hS hl
  · exact absurd (Eq.trans hw0 (Eq.trans (a_alike I vl vl') (Eq.symm hw1))) cq
set_option maxHeartbeats 4000000 in
theorem lc_fair (C0 : fr_cx p s m meth c b L xs G d0 d1) (hi : i + 3 ≤ L) (K : fr_at p l e s m below meth c b G h0 h1 a0 a1 d0 d1 i 401) : fr_at p l e s m below meth c b G h0 h1 a0 a1 d0 d1 i 329 := by
  intro to mk dm dn md ht kd lf rt vl kd' lf' rt' vl' sk wy I H locs ls hP hD hS hl
  obtain ⟨⟨hx, hb, hr, hml, hown, hts, hX, hbl, hlocks, hgv⟩, hK0, hK1, hL⟩ := C0
  have hA : ∀ q : Nat, s.heap.size ≤ q → (fun q : Nat => s.heap.size ≤ q) q := fun _ h => h
  have hbA : ¬ (fun q : Nat => s.heap.size ≤ q) b := Nat.not_le.mpr hbl
  have hts : ∀ w ∈ lw_all, w.before #[Value.ref b] s = true := fun w h => hts w (lw_all_tbl h)
  refine lv_aload_n hx hb dL_law_329 rfl (lv_at hl 1 rfl) ?_
  refine fr_call2i (As := []) (rest := []) ⟨hx, hb, hml, hown, hts⟩ (met0_fair l G h0 a0 d0 _ to mk dn dm md kd lf rt vl ht sk wy I.2.2.1) (cwV 0 hts (lw_V q179 q180 q181 q27 q182) rfl rfl rfl (by decide +kernel) ⟨Nat.le_of_ble_eq_true rfl, Nat.le_of_ble_eq_true rfl⟩) (va_recv hK0 hP (ci := 0) (q0 := 0) rfl rfl) hK0 hP hD hS hA [0, 1, 2, 3, 4, 5, 6, 7, 8, 9] [10, 11, 12, 13, 14, 15, 16, 17, 18] rfl rfl rfl (by decide) (by decide) (by decide) rfl hl.1 rfl (Nat.le_of_ble_eq_true rfl) dL_law_330 ⟨Nat.le_of_ble_eq_true rfl, Nat.le_of_ble_eq_true rfl⟩ (fun r0 u0 H locs hw0 hP hD hS => ?_)
  have hP : va_P G vwCl (w1 h1 a1 d1 to mk dm dn kd' lf' rt' vl' md sk ht ++ w0 h0 a0 d0 to mk dn dm md kd lf rt vl ht sk u0) H := hP
  have hD : va_D (fun q : Nat => s.heap.size ≤ q) (w1 h1 a1 d1 to mk dm dn kd' lf' rt' vl' md sk ht ++ w0 h0 a0 d0 to mk dn dm md kd lf rt vl ht sk u0) := hD
  refine lv_aload_n hx hb dL_law_333 rfl (lv_at hl 2 rfl) ?_
  refine fr_call2i (As := []) (rest := [.int r0]) ⟨hx, hb, hml, hown, hts⟩ (met1_fair l G h1 a1 d1 _ to mk dm dn kd' lf' rt' vl' md sk ht I.2.2.1) (cwV 0 hts (lw_V q319 q320 q321 q28 q322) rfl rfl rfl (by decide +kernel) ⟨Nat.le_of_ble_eq_true rfl, Nat.le_of_ble_eq_true rfl⟩) (va_recv hK1 hP (ci := 1) (q0 := 0) rfl rfl) hK1 hP hD hS hA [0, 1, 2, 3, 4, 5, 6, 7, 8] [9, 10, 11, 12, 13, 14, 15, 16, 17, 18] rfl rfl rfl (by decide) (by decide) (by decide) rfl hl.1 rfl (Nat.le_of_ble_eq_true rfl) dL_law_334 ⟨Nat.le_of_ble_eq_true rfl, Nat.le_of_ble_eq_true rfl⟩ (fun r1 u1 H locs hw1 hP hD hS => ?_)
  have hP : va_P G vwCl (w0 h0 a0 d0 to mk dn dm md kd lf rt vl ht sk u0 ++ w1 h1 a1 d1 to mk dm dn kd' lf' rt' vl' md sk ht) H := hP
  have hD : va_D (fun q : Nat => s.heap.size ≤ q) (w0 h0 a0 d0 to mk dn dm md kd lf rt vl ht sk u0 ++ w1 h1 a1 d1 to mk dm dn kd' lf' rt' vl' md sk ht) := hD
  refine lv_icmp_eq (tgt := 401) hx hb dL_law_337 (by decide) (fun _ => ?_) (fun cq => ?_)
  · exact K to mk dm dn md ht kd lf rt vl kd' lf' rt' vl' sk u0 (I) H locs ls hP hD hS hl
  · exact absurd (Eq.trans hw0 (Eq.trans (st_sm ok_255) (Eq.symm hw1))) cq
end LC2
end
section
/-! the law: its cases, 342 .. -/
set_option maxRecDepth 100000
section LC3
variable {p : Program} {l : Launch} {e : Env} {s : State} {m : MethodId} {below : List Frame} {meth : Method} {c : Code} {b L : Nat} {xs : Nat → Int32} {G : va_G} {h0 h1 : Nat} {a0 a1 : Nat → Nat} {d0 d1 : ClassId} {i : Nat}
set_option maxHeartbeats 4000000 in
theorem lc_reach (C0 : fr_cx p s m meth c b L xs G d0 d1) (hi : i + 3 ≤ L) (K : fr_at p l e s m below meth c b G h0 h1 a0 a1 d0 d1 i 401) : fr_at p l e s m below meth c b G h0 h1 a0 a1 d0 d1 i 342 := by
  intro to mk dm dn md ht kd lf rt vl kd' lf' rt' vl' sk wy I H locs ls hP hD hS hl
  obtain ⟨⟨hx, hb, hr, hml, hown, hts, hX, hbl, hlocks, hgv⟩, hK0, hK1, hL⟩ := C0
  have hA : ∀ q : Nat, s.heap.size ≤ q → (fun q : Nat => s.heap.size ≤ q) q := fun _ h => h
  have hbA : ¬ (fun q : Nat => s.heap.size ≤ q) b := Nat.not_le.mpr hbl
  have hts : ∀ w ∈ lw_all, w.before #[Value.ref b] s = true := fun w h => hts w (lw_all_tbl h)
  refine lv_aload_n hx hb dL_law_342 rfl (lv_at hl 1 rfl) ?_
  refine lv_aload_n hx hb dL_law_343 rfl (lv_at hl 0 rfl) ?_
  refine lv_iload_n hx hb dL_law_344 rfl (lv_at hl 3 rfl) ?_
  refine lv_iconst (v := 1) hx hb dL_law_345 (by decide) ?_
  refine lv_iadd hx hb dL_law_346 ?_
  refine fr_top (nI_1 i) ?_
  refine fr_sld hx hb hX hbl hbA hS (i + 1) (by omega) hL dL_law_347 ?_
  refine fr_call2i (As := [.int (xs (i + 1))]) (rest := []) ⟨hx, hb, hml, hown, hts⟩ (met0_reach l G h0 a0 d0 _ to mk dn dm md kd lf rt vl ht sk wy (xs (i + 1))) (cwV 1 hts (lw_V q183 q184 q185 q27 q186) rfl rfl rfl (by decide +kernel) ⟨Nat.le_of_ble_eq_true rfl, Nat.le_of_ble_eq_true rfl⟩) (va_recv hK0 hP (ci := 0) (q0 := 0) rfl rfl) hK0 hP hD hS hA [0, 1, 2, 3, 4, 5, 6, 7, 8, 9] [10, 11, 12, 13, 14, 15, 16, 17, 18] rfl rfl rfl (by decide) (by decide) (by decide) rfl hl.1 rfl (Nat.le_of_ble_eq_true rfl) dL_law_348 ⟨Nat.le_of_ble_eq_true rfl, Nat.le_of_ble_eq_true rfl⟩ (fun r0 u0 H locs hw0 hP hD hS => ?_)
  have hP : va_P G vwCl (w1 h1 a1 d1 to mk dm dn kd' lf' rt' vl' md sk ht ++ w0 h0 a0 d0 to mk dn dm md kd lf rt vl ht sk u0) H := hP
  have hD : va_D (fun q : Nat => s.heap.size ≤ q) (w1 h1 a1 d1 to mk dm dn kd' lf' rt' vl' md sk ht ++ w0 h0 a0 d0 to mk dn dm md kd lf rt vl ht sk u0) := hD
  refine lv_aload_n hx hb dL_law_351 rfl (lv_at hl 2 rfl) ?_
  refine lv_aload_n hx hb dL_law_352 rfl (lv_at hl 0 rfl) ?_
  refine lv_iload_n hx hb dL_law_353 rfl (lv_at hl 3 rfl) ?_
  refine lv_iconst (v := 1) hx hb dL_law_354 (by decide) ?_
  refine lv_iadd hx hb dL_law_355 ?_
  refine fr_top (nI_1 i) ?_
  refine fr_sld hx hb hX hbl hbA hS (i + 1) (by omega) hL dL_law_356 ?_
  refine fr_call2i (As := [.int (xs (i + 1))]) (rest := [.int r0]) ⟨hx, hb, hml, hown, hts⟩ (met1_reach l G h1 a1 d1 _ to mk dm dn kd' lf' rt' vl' md sk ht (xs (i + 1))) (cwV 1 hts (lw_V q323 q324 q325 q28 q326) rfl rfl rfl (by decide +kernel) ⟨Nat.le_of_ble_eq_true rfl, Nat.le_of_ble_eq_true rfl⟩) (va_recv hK1 hP (ci := 1) (q0 := 0) rfl rfl) hK1 hP hD hS hA [0, 1, 2, 3, 4, 5, 6, 7, 8] [9, 10, 11, 12, 13, 14, 15, 16, 17, 18] rfl rfl rfl (by decide) (by decide) (by decide) rfl hl.1 rfl (Nat.le_of_ble_eq_true rfl) dL_law_357 ⟨Nat.le_of_ble_eq_true rfl, Nat.le_of_ble_eq_true rfl⟩ (fun r1 u1 H locs hw1 hP hD hS => ?_)
  have hP : va_P G vwCl (w0 h0 a0 d0 to mk dn dm md kd lf rt vl ht sk u0 ++ w1 h1 a1 d1 to mk dm dn kd' lf' rt' vl' md sk ht) H := hP
  have hD : va_D (fun q : Nat => s.heap.size ≤ q) (w0 h0 a0 d0 to mk dn dm md kd lf rt vl ht sk u0 ++ w1 h1 a1 d1 to mk dm dn kd' lf' rt' vl' md sk ht) := hD
  refine lv_icmp_eq (tgt := 401) hx hb dL_law_360 (by decide) (fun _ => ?_) (fun cq => ?_)
  · exact K to mk dm dn md ht kd lf rt vl kd' lf' rt' vl' sk u0 (I) H locs ls hP hD hS hl
  · exact absurd (Eq.trans hw0 (Eq.trans (a_reach I (xs (i + 1))) (Eq.symm hw1))) cq
set_option maxHeartbeats 4000000 in
theorem lc_steps (C0 : fr_cx p s m meth c b L xs G d0 d1) (hi : i + 3 ≤ L) (K : fr_at p l e s m below meth c b G h0 h1 a0 a1 d0 d1 i 401) : fr_at p l e s m below meth c b G h0 h1 a0 a1 d0 d1 i 365 := by
  intro to mk dm dn md ht kd lf rt vl kd' lf' rt' vl' sk wy I H locs ls hP hD hS hl
  obtain ⟨⟨hx, hb, hr, hml, hown, hts, hX, hbl, hlocks, hgv⟩, hK0, hK1, hL⟩ := C0
  have hA : ∀ q : Nat, s.heap.size ≤ q → (fun q : Nat => s.heap.size ≤ q) q := fun _ h => h
  have hbA : ¬ (fun q : Nat => s.heap.size ≤ q) b := Nat.not_le.mpr hbl
  have hts : ∀ w ∈ lw_all, w.before #[Value.ref b] s = true := fun w h => hts w (lw_all_tbl h)
  refine lv_aload_n hx hb dL_law_365 rfl (lv_at hl 1 rfl) ?_
  refine lv_aload_n hx hb dL_law_366 rfl (lv_at hl 0 rfl) ?_
  refine lv_iload_n hx hb dL_law_367 rfl (lv_at hl 3 rfl) ?_
  refine lv_iconst (v := 1) hx hb dL_law_368 (by decide) ?_
  refine lv_iadd hx hb dL_law_369 ?_
  refine fr_top (nI_1 i) ?_
  refine fr_sld hx hb hX hbl hbA hS (i + 1) (by omega) hL dL_law_370 ?_
  refine fr_call2i (As := [.int (xs (i + 1))]) (rest := []) ⟨hx, hb, hml, hown, hts⟩ (met0_steps l G h0 a0 d0 _ to mk dn dm md kd lf rt vl ht sk wy (xs (i + 1)) I.2.2.1 I.2.2.2.1 I.2.2.2.2.1 I.2.2.2.2.2.1 (i_w0 I)) (cwV 1 hts (lw_V q187 q188 q189 q27 q190) rfl rfl rfl (by decide +kernel) ⟨Nat.le_of_ble_eq_true rfl, Nat.le_of_ble_eq_true rfl⟩) (va_recv hK0 hP (ci := 0) (q0 := 0) rfl rfl) hK0 hP hD hS hA [0, 1, 2, 3, 4, 5, 6, 7, 8, 9] [10, 11, 12, 13, 14, 15, 16, 17, 18] rfl rfl rfl (by decide) (by decide) (by decide) rfl hl.1 rfl (Nat.le_of_ble_eq_true rfl) dL_law_371 ⟨Nat.le_of_ble_eq_true rfl, Nat.le_of_ble_eq_true rfl⟩ (fun r0 u0 H locs hw0 hP hD hS => ?_)
  have hP : va_P G vwCl (w1 h1 a1 d1 to mk dm dn kd' lf' rt' vl' md sk ht ++ w0 h0 a0 d0 to mk dn dm md kd lf rt (u0.1) ht sk (u0.2)) H := hP
  have hD : va_D (fun q : Nat => s.heap.size ≤ q) (w1 h1 a1 d1 to mk dm dn kd' lf' rt' vl' md sk ht ++ w0 h0 a0 d0 to mk dn dm md kd lf rt (u0.1) ht sk (u0.2)) := hD
  refine lv_aload_n hx hb dL_law_374 rfl (lv_at hl 2 rfl) ?_
  refine lv_aload_n hx hb dL_law_375 rfl (lv_at hl 0 rfl) ?_
  refine lv_iload_n hx hb dL_law_376 rfl (lv_at hl 3 rfl) ?_
  refine lv_iconst (v := 1) hx hb dL_law_377 (by decide) ?_
  refine lv_iadd hx hb dL_law_378 ?_
  refine fr_top (nI_1 i) ?_
  refine fr_sld hx hb hX hbl hbA hS (i + 1) (by omega) hL dL_law_379 ?_
  refine fr_call2i (As := [.int (xs (i + 1))]) (rest := [.int r0]) ⟨hx, hb, hml, hown, hts⟩ (met1_steps l G h1 a1 d1 _ to mk dm dn kd' lf' rt' vl' md sk ht (xs (i + 1)) I.2.2.1 I.2.2.2.1 I.2.2.2.2.1 I.2.2.2.2.2.1 (i_w1 I)) (cwV 1 hts (lw_V q331 q332 q333 q28 q334) rfl rfl rfl (by decide +kernel) ⟨Nat.le_of_ble_eq_true rfl, Nat.le_of_ble_eq_true rfl⟩) (va_recv hK1 hP (ci := 1) (q0 := 0) rfl rfl) hK1 hP hD hS hA [0, 1, 2, 3, 4, 5, 6, 7, 8] [9, 10, 11, 12, 13, 14, 15, 16, 17, 18] rfl rfl rfl (by decide) (by decide) (by decide) rfl hl.1 rfl (Nat.le_of_ble_eq_true rfl) dL_law_380 ⟨Nat.le_of_ble_eq_true rfl, Nat.le_of_ble_eq_true rfl⟩ (fun r1 u1 H locs hw1 hP hD hS => ?_)
  have hP : va_P G vwCl (w0 h0 a0 d0 to mk dn dm md kd lf rt (u0.1) ht sk (u0.2) ++ w1 h1 a1 d1 to mk dm dn kd' lf' rt' u1 md sk ht) H := hP
  have hD : va_D (fun q : Nat => s.heap.size ≤ q) (w0 h0 a0 d0 to mk dn dm md kd lf rt (u0.1) ht sk (u0.2) ++ w1 h1 a1 d1 to mk dm dn kd' lf' rt' u1 md sk ht) := hD
  refine lv_icmp_eq (tgt := 401) hx hb dL_law_383 (by decide) (fun _ => ?_) (fun cq => ?_)
  · exact K to mk dm dn md ht kd lf rt (u0.1) kd' lf' rt' u1 sk (u0.2) (I) H locs ls hP hD hS hl
  · exact absurd (Eq.trans hw0 (Eq.trans (a_steps I vl vl' (xs (i + 1))) (Eq.symm hw1))) cq
set_option maxHeartbeats 4000000 in
theorem lc_knots (C0 : fr_cx p s m meth c b L xs G d0 d1) (hi : i + 3 ≤ L) (K : fr_at p l e s m below meth c b G h0 h1 a0 a1 d0 d1 i 401) : fr_at p l e s m below meth c b G h0 h1 a0 a1 d0 d1 i 388 := by
  intro to mk dm dn md ht kd lf rt vl kd' lf' rt' vl' sk wy I H locs ls hP hD hS hl
  obtain ⟨⟨hx, hb, hr, hml, hown, hts, hX, hbl, hlocks, hgv⟩, hK0, hK1, hL⟩ := C0
  have hA : ∀ q : Nat, s.heap.size ≤ q → (fun q : Nat => s.heap.size ≤ q) q := fun _ h => h
  have hbA : ¬ (fun q : Nat => s.heap.size ≤ q) b := Nat.not_le.mpr hbl
  have hts : ∀ w ∈ lw_all, w.before #[Value.ref b] s = true := fun w h => hts w (lw_all_tbl h)
  refine lv_aload_n hx hb dL_law_388 rfl (lv_at hl 1 rfl) ?_
  refine fr_call2i (As := []) (rest := []) ⟨hx, hb, hml, hown, hts⟩ (met0_knots l G h0 a0 d0 _ to mk dn dm md kd lf rt vl ht sk wy) (cwV 0 hts (lw_V q191 q192 q193 q27 q194) rfl rfl rfl (by decide +kernel) ⟨Nat.le_of_ble_eq_true rfl, Nat.le_of_ble_eq_true rfl⟩) (va_recv hK0 hP (ci := 0) (q0 := 0) rfl rfl) hK0 hP hD hS hA [0, 1, 2, 3, 4, 5, 6, 7, 8, 9] [10, 11, 12, 13, 14, 15, 16, 17, 18] rfl rfl rfl (by decide) (by decide) (by decide) rfl hl.1 rfl (Nat.le_of_ble_eq_true rfl) dL_law_389 ⟨Nat.le_of_ble_eq_true rfl, Nat.le_of_ble_eq_true rfl⟩ (fun r0 u0 H locs hw0 hP hD hS => ?_)
  have hP : va_P G vwCl (w1 h1 a1 d1 to mk dm dn kd' lf' rt' vl' md sk ht ++ w0 h0 a0 d0 to mk dn dm md kd lf rt vl ht sk u0) H := hP
  have hD : va_D (fun q : Nat => s.heap.size ≤ q) (w1 h1 a1 d1 to mk dm dn kd' lf' rt' vl' md sk ht ++ w0 h0 a0 d0 to mk dn dm md kd lf rt vl ht sk u0) := hD
  refine lv_aload_n hx hb dL_law_392 rfl (lv_at hl 2 rfl) ?_
  refine fr_call2i (As := []) (rest := [.int r0]) ⟨hx, hb, hml, hown, hts⟩ (met1_knots l G h1 a1 d1 _ to mk dm dn kd' lf' rt' vl' md sk ht) (cwV 0 hts (lw_V q336 q337 q338 q28 q339) rfl rfl rfl (by decide +kernel) ⟨Nat.le_of_ble_eq_true rfl, Nat.le_of_ble_eq_true rfl⟩) (va_recv hK1 hP (ci := 1) (q0 := 0) rfl rfl) hK1 hP hD hS hA [0, 1, 2, 3, 4, 5, 6, 7, 8] [9, 10, 11, 12, 13, 14, 15, 16, 17, 18] rfl rfl rfl (by decide) (by decide) (by decide) rfl hl.1 rfl (Nat.le_of_ble_eq_true rfl) dL_law_393 ⟨Nat.le_of_ble_eq_true rfl, Nat.le_of_ble_eq_true rfl⟩ (fun r1 u1 H locs hw1 hP hD hS => ?_)
  have hP : va_P G vwCl (w0 h0 a0 d0 to mk dn dm md kd lf rt vl ht sk u0 ++ w1 h1 a1 d1 to mk dm dn kd' lf' rt' vl' md sk ht) H := hP
  have hD : va_D (fun q : Nat => s.heap.size ≤ q) (w0 h0 a0 d0 to mk dn dm md kd lf rt vl ht sk u0 ++ w1 h1 a1 d1 to mk dm dn kd' lf' rt' vl' md sk ht) := hD
  refine lv_icmp_eq (tgt := 401) hx hb dL_law_396 (by decide) (fun _ => ?_) (fun cq => ?_)
  · exact K to mk dm dn md ht kd lf rt vl kd' lf' rt' vl' sk u0 (I) H locs ls hP hD hS hl
  · exact absurd (Eq.trans hw0 (Eq.trans (a_knots I) (Eq.symm hw1))) cq
end LC3
end
section
/-! the law: its loop, and its start -/
set_option maxRecDepth 100000
theorem fr_and15 (x : Int32) : ∃ k, k < 16 ∧ x &&& 15 = nI k := by
  have h : (x &&& 15).toBitVec.toNat ≤ 15 := by
    rw [Int32.and_comm]
    exact fr_andle 15 x
  refine ⟨(x &&& 15).toBitVec.toNat, by omega, fr_i32 ?_⟩
  generalize (x &&& 15).toBitVec.toNat = v at h
  exact ((by decide +kernel : ∀ v, v < 16 → (nI v).toBitVec.toNat = v) v (by omega)).symm
theorem fr_L3 : ∀ L, L < 193 → (Int32.ofNat L - 3).toInt = (L : Int) - 3 := by decide +kernel
theorem fr_bound {L i : Nat} (hL : L ≤ 192) (hi : i ≤ L) (h : ¬ Int32.ofNat L - 3 < nI i) : i + 3 ≤ L := by
  rw [Int32.lt_iff_toInt_lt, fr_L3 L (by omega), nI_toInt (by omega)] at h
  omega
theorem fr_o3 : Int32.ofInt 3 = nI 3 := by decide +kernel
section LOOP
variable {p : Program} {l : Launch} {e : Env} {s : State} {m : MethodId} {below : List Frame} {meth : Method} {c : Code} {b L : Nat} {xs : Nat → Int32} {G : va_G} {h0 h1 : Nat} {a0 a1 : Nat → Nat} {d0 d1 : ClassId}
set_option maxHeartbeats 4000000 in
theorem fr_loop (C0 : fr_cx p s m meth c b L xs G d0 d1) : ∀ (n i : Nat), L + 1 ≤ i + n → i ≤ L → fr_at p l e s m below meth c b G h0 h1 a0 a1 d0 d1 i 18 := by
  obtain ⟨⟨hx, hb, hr, hml, hown, hts, hX, hbl, hlocks, hgv⟩, hK0, hK1, hL⟩ := id C0
  have hA : ∀ q : Nat, s.heap.size ≤ q → (fun q : Nat => s.heap.size ≤ q) q := fun _ h => h
  have hbA : ¬ (fun q : Nat => s.heap.size ≤ q) b := Nat.not_le.mpr hbl
  intro n
  induction n with
  | zero =>
    intro i h1 h2
    exact absurd h1 (by omega)
  | succ n ih =>
    intro i hn hiL
    have K : i + 3 ≤ L → fr_at p l e s m below meth c b G h0 h1 a0 a1 d0 d1 i 401 := by
      intro hi3
      intro to mk dm dn md ht kd lf rt vl kd' lf' rt' vl' sk wy I H locs ls hP hD hS hl
      refine lv_iinc (v := nI (i + 3)) (lv' := [(3, .int (nI (i + 3))), (0, .ref b), (1, .ref h0), (2, .ref h1)]) hx hb dL_law_401 hl (k := 3) rfl (by rw [fr_o3, nI_add]) (by decide) rfl (fun ls hl => ?_)
      refine lv_goto (tgt := 18) hx hb dL_law_404 (by decide) ?_
      exact ih (i + 3) (by omega) hi3 to mk dm dn md ht kd lf rt vl kd' lf' rt' vl' sk wy I H locs ls hP hD hS (lv_sub hl [1, 2, 3, 0] rfl)
    intro to mk dm dn md ht kd lf rt vl kd' lf' rt' vl' sk wy I H locs ls hP hD hS hl
    refine lv_iload_n hx hb dL_law_18 rfl (lv_at hl 3 rfl) ?_
    refine lv_aload_n hx hb dL_law_19 rfl (lv_at hl 0 rfl) ?_
    refine va_slen hx hb hX hbl hbA hS dL_law_20 ?_
    refine lv_iconst (v := 3) hx hb dL_law_21 (by decide) ?_
    refine lv_isub hx hb dL_law_22 ?_
    refine lv_icmp_gt (tgt := 407) hx hb dL_law_23 (by decide) (fun _ => ?_) (fun cq => ?_)
    · refine lv_iconst (v := 1) hx hb dL_law_407 (by decide) ?_
      refine va_forget hS.2.2 ?_
      refine W.widen (k := 600000) (n := 7290000) (by decide) (by decide) ?_
      exact lw_ret hx hb hr hlocks dL_law_408
    · have hi3 := fr_bound hL hiL cq
      have K := K hi3
      refine lv_aload_n hx hb dL_law_26 rfl (lv_at hl 0 rfl) ?_
      refine lv_iload_n hx hb dL_law_27 rfl (lv_at hl 3 rfl) ?_
      refine fr_sld hx hb hX hbl hbA hS i (by omega) hL dL_law_28 ?_
      refine lv_bipush (v := 15) hx hb dL_law_29 (by decide) ?_
      refine lv_iand hx hb dL_law_31 ?_
      obtain ⟨k, hk, ek⟩ := fr_and15 (xs i)
      refine fr_top ek ?_
      clear ek
      rcases (show k = 0 ∨ k = 1 ∨ k = 2 ∨ k = 3 ∨ k = 4 ∨ k = 5 ∨ k = 6 ∨ k = 7 ∨ k = 8 ∨ k = 9 ∨ k = 10 ∨ k = 11 ∨ k = 12 ∨ k = 13 ∨ k = 14 ∨ k = 15 by omega) with rfl | rfl | rfl | rfl | rfl | rfl | rfl | rfl | rfl | rfl | rfl | rfl | rfl | rfl | rfl | rfl
      · exact lv_tableIn (off := 76) (tgt := 108) hx hb dL_law_32 (by decide) (by decide) rfl (by decide) (lc_arcs C0 hi3 K to mk dm dn md ht kd lf rt vl kd' lf' rt' vl' sk wy I H locs ls hP hD hS hl)
      · exact lv_tableIn (off := 109) (tgt := 141) hx hb dL_law_32 (by decide) (by decide) rfl (by decide) (lc_mark C0 hi3 K to mk dm dn md ht kd lf rt vl kd' lf' rt' vl' sk wy I H locs ls hP hD hS hl)
      · exact lv_tableIn (off := 142) (tgt := 174) hx hb dL_law_32 (by decide) (by decide) rfl (by decide) (lc_demand C0 hi3 K to mk dm dn md ht kd lf rt vl kd' lf' rt' vl' sk wy I H locs ls hP hD hS hl)
      · exact lv_tableIn (off := 165) (tgt := 197) hx hb dL_law_32 (by decide) (by decide) rfl (by decide) (lc_undemand C0 hi3 K to mk dm dn md ht kd lf rt vl kd' lf' rt' vl' sk wy I H locs ls hP hD hS hl)
      · exact lv_tableIn (off := 178) (tgt := 210) hx hb dL_law_32 (by decide) (by decide) rfl (by decide) (lc_push C0 hi3 K to mk dm dn md ht kd lf rt vl kd' lf' rt' vl' sk wy I H locs ls hP hD hS hl)
      · exact lv_tableIn (off := 201) (tgt := 233) hx hb dL_law_32 (by decide) (by decide) rfl (by decide) (lc_one C0 hi3 K to mk dm dn md ht kd lf rt vl kd' lf' rt' vl' sk wy I H locs ls hP hD hS hl)
      · exact lv_tableIn (off := 224) (tgt := 256) hx hb dL_law_32 (by decide) (by decide) rfl (by decide) (lc_two C0 hi3 K to mk dm dn md ht kd lf rt vl kd' lf' rt' vl' sk wy I H locs ls hP hD hS hl)
      · exact lv_tableIn (off := 247) (tgt := 279) hx hb dL_law_32 (by decide) (by decide) rfl (by decide) (lc_discard C0 hi3 K to mk dm dn md ht kd lf rt vl kd' lf' rt' vl' sk wy I H locs ls hP hD hS hl)
      · exact lv_tableIn (off := 258) (tgt := 290) hx hb dL_law_32 (by decide) (by decide) rfl (by decide) (lc_depth C0 hi3 K to mk dm dn md ht kd lf rt vl kd' lf' rt' vl' sk wy I H locs ls hP hD hS hl)
      · exact lv_tableIn (off := 271) (tgt := 303) hx hb dL_law_32 (by decide) (by decide) rfl (by decide) (lc_holds C0 hi3 K to mk dm dn md ht kd lf rt vl kd' lf' rt' vl' sk wy I H locs ls hP hD hS hl)
      · exact lv_tableIn (off := 284) (tgt := 316) hx hb dL_law_32 (by decide) (by decide) rfl (by decide) (lc_alike C0 hi3 K to mk dm dn md ht kd lf rt vl kd' lf' rt' vl' sk wy I H locs ls hP hD hS hl)
      · exact lv_tableIn (off := 297) (tgt := 329) hx hb dL_law_32 (by decide) (by decide) rfl (by decide) (lc_fair C0 hi3 K to mk dm dn md ht kd lf rt vl kd' lf' rt' vl' sk wy I H locs ls hP hD hS hl)
      · exact lv_tableIn (off := 310) (tgt := 342) hx hb dL_law_32 (by decide) (by decide) rfl (by decide) (lc_reach C0 hi3 K to mk dm dn md ht kd lf rt vl kd' lf' rt' vl' sk wy I H locs ls hP hD hS hl)
      · exact lv_tableIn (off := 333) (tgt := 365) hx hb dL_law_32 (by decide) (by decide) rfl (by decide) (lc_steps C0 hi3 K to mk dm dn md ht kd lf rt vl kd' lf' rt' vl' sk wy I H locs ls hP hD hS hl)
      · exact lv_tableIn (off := 356) (tgt := 388) hx hb dL_law_32 (by decide) (by decide) rfl (by decide) (lc_knots C0 hi3 K to mk dm dn md ht kd lf rt vl kd' lf' rt' vl' sk wy I H locs ls hP hD hS hl)
      · exact lv_tableOut (tgt := 401) hx hb dL_law_32 (Or.inr (by decide)) (by decide) (K to mk dm dn md ht kd lf rt vl kd' lf' rt' vl' sk wy I H locs ls hP hD hS hl)
end LOOP
end
section
/-! the law from its entry -/
set_option maxRecDepth 100000
set_option maxHeartbeats 4000000 in
theorem whole_start {p : Program} {e : Env} {s : State} {m : MethodId} {below : List Frame} {meth : Method} {c : Code} (l : Launch) {b L : Nat} {xs : Nat → Int32} (hL : L ≤ 192) (C0 : lw_At p s m meth c b L xs) : W p l e room_1 s m #[Value.ref b] below meth c s.heap [] 0 0 (lw_Z below #[Value.ref b] s) (entryFrame m ([Value.ref b] : List Value).toArray 4) := by
  obtain ⟨hx, hb, hr, hml, hown, hts0, hX, hbl, hlocks, hgv⟩ := id C0
  have hts : ∀ w ∈ lw_all, w.before #[Value.ref b] s = true := fun w h => hts0 w (lw_all_tbl h)
  have hA : ∀ q : Nat, s.heap.size ≤ q → (fun q : Nat => s.heap.size ≤ q) q := fun _ h => h
  obtain ⟨c0, iS0, hKn0⟩ := u_known (C := RX0) (T := TX0) (N := 12) (n := 12) hts in_X0 (hts _ q30)
  obtain ⟨c1, iS1, hKn1⟩ := u_known (C := RX1) (T := TX1) (N := 11) (n := 11) hts in_X1 (hts _ q196)
  obtain ⟨dC, dI, hKc⟩ : ∃ (dC : Nat → ClassId) (dI : Nat → Nat → Nat), ∀ (k : Nat) (q : vw_C), vwCl[k]? = some q → u_Kn s q.1 q.2.1 q.2.2 (dC k) (dI k) := by
    refine ⟨fun k => if k = 0 then c0 else c1, fun k => if k = 0 then iS0 else iS1, ?_⟩
    intro k q hq
    match k, hq with
    | 0, hq => cases hq; exact hKn0
    | 1, hq => cases hq; exact hKn1
    | k + 2, hq => simp [vwCl] at hq
  have hS : va_S (fun q : Nat => s.heap.size ≤ q) s.heap s.heap [] := va_S.rf
  have hK : va_K (dC, dI) vwCl [] s := ⟨hKc, fun k q h => by simp at h⟩
  have hP : va_P (dC, dI) vwCl [] s.heap := fun k q h => by simp at h
  have hD : va_D (fun q : Nat => s.heap.size ≤ q) [] := ⟨fun i j p q h => by simp at h, fun k q h => by simp at h⟩
  have hl := lv_entry ([.ref b]) (n := 4) (Nat.le_of_ble_eq_true rfl)
  rw [lg_entry_eq]
  generalize (lg_sl ([.ref b]) ++ List.replicate (4 - (lg_sl ([.ref b])).length) Slot.unset).toArray = ls at hl ⊢
  have hl : lv_has ls 4 [(0, .ref b)] := hl
  refine va_new (ci := 0) (fs := [.null, .null, .int 0, .null, .int 0, .null, .null, .null, .null, .int 0, .null, .null]) (C := RX0) (T := TX0) (N := 12) hx hb hts in_X0 tyX0 tyX0_ok hown (hts _ q29) (hts _ q30) (hts _ q27) hK hP hD hS hA rfl (fun j hj => by rcases (show j = 0 ∨ j = 1 ∨ j = 2 ∨ j = 3 ∨ j = 4 ∨ j = 5 ∨ j = 6 ∨ j = 7 ∨ j = 8 ∨ j = 9 ∨ j = 10 ∨ j = 11 by omega) with rfl | rfl | rfl | rfl | rfl | rfl | rfl | rfl | rfl | rfl | rfl | rfl <;> rfl) (Nat.le_of_ble_eq_true rfl) (Nat.le_of_ble_eq_true rfl) dL_law_0 (fun q0 H hP hD hS => ?_)
  have hP : va_P (dC, dI) vwCl [(q0, .inr (0, [.null, .null, .int 0, .null, .int 0, .null, .null, .null, .null, .int 0, .null, .null]))] H := hP
  have hD : va_D (fun q : Nat => s.heap.size ≤ q) [(q0, .inr (0, [.null, .null, .int 0, .null, .int 0, .null, .null, .null, .null, .int 0, .null, .null]))] := hD
  refine W.widen (k := 1) (n := 12) (by omega) (by omega) ?_
  refine lv_dup hx hb dL_law_3 rfl ?_
  have hPc := hP.sub (ws' := [(q0, .inr (0, [.null, .null, .int 0, .null, .int 0, .null, .null, .null, .null, .int 0, .null, .null]))]) [0] rfl
  have hDc := hD.sub (ws' := [(q0, .inr (0, [.null, .null, .int 0, .null, .int 0, .null, .null, .null, .null, .int 0, .null, .null]))]) [0] (by decide) rfl
  have hKc := hK.sub (tys' := []) [] rfl
  have hFc := va_free (wc := [(q0, .inr (0, [.null, .null, .int 0, .null, .int 0, .null, .null, .null, .null, .int 0, .null, .null]))]) hD hS hA [0] rfl
  refine va_callv (va_runI (As := []) (rest := [.ref q0]) ⟨hx, hb, hml, hown, hts⟩ (met0_init l (dC, dI) q0 H.size) (cwI 0 hts (lw_meth q33) rfl rfl rfl (hts _ q27) (hts _ q31) (hts _ q32) rfl (by decide +kernel) ⟨Nat.le_of_ble_eq_true rfl, Nat.le_of_ble_eq_true rfl⟩) ⟨fun a U g mk q => by obtain ⟨z0, z1, qP, qK, qD⟩ := q; exact ⟨z0, z1, qP, va_K.moved (u := U) (U := U.calling g mk a) (Vm.Alike.refl U.vm) qK, qD⟩, fun U hU hW => ⟨rfl, by rw [hU], by rw [hU]; exact hPc, va_K.moved hW.alike hKc, hDc.weaken (fun _ _ _ _ => trivial)⟩⟩ rfl rfl hl.1 rfl (lv_room (Nat.le_of_ble_eq_true rfl)) dL_law_4 ⟨Nat.le_of_ble_eq_true rfl, Nat.le_of_ble_eq_true rfl⟩) hS (fun q _ h => hFc q h) hFc (fun u0 t H1 locs ht hvm hw hB hz1 hk1 hS => ?_)
  obtain ⟨hP1, hK1, hD1⟩ := hB
  rw [ht] at hP1
  have hK0 : va_K (dC, dI) vwCl [(u0.2, .int)] s := va_K.moved hvm.symm hK1
  obtain ⟨hP, hD⟩ := va_join (wr := []) (w1 := w0 q0 u0.1 u0.2 (fun _ => 0) (fun _ => 0) 0 (fun _ => 0) 0 (fun _ => 0) (fun _ => 0) (fun _ => 0) (fun _ => 0) 0 (fun _ => 0) (fun _ => 0)) hP hD [0] [] rfl rfl (by decide) (by decide) hk1 hFc hP1 hD1
  generalize H1 = H at hP hS ⊢
  have hP : va_P (dC, dI) vwCl (w0 q0 u0.1 u0.2 (fun _ => 0) (fun _ => 0) 0 (fun _ => 0) 0 (fun _ => 0) (fun _ => 0) (fun _ => 0) (fun _ => 0) 0 (fun _ => 0) (fun _ => 0)) H := hP
  have hD : va_D (fun q : Nat => s.heap.size ≤ q) (w0 q0 u0.1 u0.2 (fun _ => 0) (fun _ => 0) 0 (fun _ => 0) 0 (fun _ => 0) (fun _ => 0) (fun _ => 0) (fun _ => 0) 0 (fun _ => 0) (fun _ => 0)) := hD
  refine W.widen (k := 10) (n := 121) (by omega) (by omega) ?_
  refine lv_astore_n (lv' := [(1, .ref q0), (0, .ref b)]) hx hb dL_law_7 rfl hl (by decide) rfl (fun ls hl => ?_)
  refine va_new (ci := 1) (fs := [.null, .null, .null, .int 0, .null, .null, .null, .null, .int 0, .null, .int 0]) (C := RX1) (T := TX1) (N := 11) hx hb hts in_X1 tyX1 tyX1_ok hown (hts _ q195) (hts _ q196) (hts _ q28) hK hP hD hS hA rfl (fun j hj => by rcases (show j = 0 ∨ j = 1 ∨ j = 2 ∨ j = 3 ∨ j = 4 ∨ j = 5 ∨ j = 6 ∨ j = 7 ∨ j = 8 ∨ j = 9 ∨ j = 10 by omega) with rfl | rfl | rfl | rfl | rfl | rfl | rfl | rfl | rfl | rfl | rfl <;> rfl) (Nat.le_of_ble_eq_true rfl) (Nat.le_of_ble_eq_true rfl) dL_law_8 (fun q1 H hP hD hS => ?_)
  have hP : va_P (dC, dI) vwCl (w0 q0 u0.1 u0.2 (fun _ => 0) (fun _ => 0) 0 (fun _ => 0) 0 (fun _ => 0) (fun _ => 0) (fun _ => 0) (fun _ => 0) 0 (fun _ => 0) (fun _ => 0) ++ [(q1, .inr (1, [.null, .null, .null, .int 0, .null, .null, .null, .null, .int 0, .null, .int 0]))]) H := hP
  have hD : va_D (fun q : Nat => s.heap.size ≤ q) (w0 q0 u0.1 u0.2 (fun _ => 0) (fun _ => 0) 0 (fun _ => 0) 0 (fun _ => 0) (fun _ => 0) (fun _ => 0) (fun _ => 0) 0 (fun _ => 0) (fun _ => 0) ++ [(q1, .inr (1, [.null, .null, .null, .int 0, .null, .null, .null, .null, .int 0, .null, .int 0]))]) := hD
  refine W.widen (k := 11) (n := 132) (by omega) (by omega) ?_
  refine lv_dup hx hb dL_law_11 rfl ?_
  have hPc := hP.sub (ws' := [(q1, .inr (1, [.null, .null, .null, .int 0, .null, .null, .null, .null, .int 0, .null, .int 0]))]) [10] rfl
  have hDc := hD.sub (ws' := [(q1, .inr (1, [.null, .null, .null, .int 0, .null, .null, .null, .null, .int 0, .null, .int 0]))]) [10] (by decide) rfl
  have hFc := va_free (wc := [(q1, .inr (1, [.null, .null, .null, .int 0, .null, .null, .null, .null, .int 0, .null, .int 0]))]) hD hS hA [10] rfl
  refine va_callv (va_runI (As := []) (rest := [.ref q1]) ⟨hx, hb, hml, hown, hts⟩ (met1_init l (dC, dI) q1 H.size) (cwI 0 hts (lw_meth q199) rfl rfl rfl (hts _ q28) (hts _ q197) (hts _ q198) rfl (by decide +kernel) ⟨Nat.le_of_ble_eq_true rfl, Nat.le_of_ble_eq_true rfl⟩) ⟨fun a U g mk q => by obtain ⟨z0, z1, qP, qK, qD⟩ := q; exact ⟨z0, z1, qP, va_K.moved (u := U) (U := U.calling g mk a) (Vm.Alike.refl U.vm) qK, qD⟩, fun U hU hW => ⟨rfl, by rw [hU], by rw [hU]; exact hPc, va_K.moved hW.alike hKc, hDc.weaken (fun _ _ _ _ => trivial)⟩⟩ rfl rfl hl.1 rfl (lv_room (Nat.le_of_ble_eq_true rfl)) dL_law_12 ⟨Nat.le_of_ble_eq_true rfl, Nat.le_of_ble_eq_true rfl⟩) hS (fun q _ h => hFc q h) hFc (fun u1 t H1 locs ht hvm hw hB hz1 hk1 hS => ?_)
  obtain ⟨hP1, hK1, hD1⟩ := hB
  rw [ht] at hP1
  have hK1 : va_K (dC, dI) vwCl [(u1.2, .int)] s := va_K.moved hvm.symm hK1
  obtain ⟨hP, hD⟩ := va_join (wr := w0 q0 u0.1 u0.2 (fun _ => 0) (fun _ => 0) 0 (fun _ => 0) 0 (fun _ => 0) (fun _ => 0) (fun _ => 0) (fun _ => 0) 0 (fun _ => 0) (fun _ => 0)) (w1 := w1 q1 u1.1 u1.2 (fun _ => 0) (fun _ => 0) (fun _ => 0) 0 (fun _ => 0) (fun _ => 0) (fun _ => 0) (fun _ => 0) 0 (fun _ => 0) 0) hP hD [10] [0, 1, 2, 3, 4, 5, 6, 7, 8, 9] rfl rfl (by decide) (by decide) hk1 hFc hP1 hD1
  generalize H1 = H at hP hS ⊢
  refine W.widen (k := 19) (n := 233) (by omega) (by omega) ?_
  refine lv_astore_n (lv' := [(2, .ref q1), (1, .ref q0), (0, .ref b)]) hx hb dL_law_15 rfl hl (by decide) rfl (fun ls hl => ?_)
  refine lv_iconst (v := nI 0) hx hb dL_law_16 (by decide +kernel) ?_
  refine lv_istore_n (lv' := [(3, .int (nI 0)), (2, .ref q1), (1, .ref q0), (0, .ref b)]) hx hb dL_law_17 rfl hl (by decide) rfl (fun ls hl => ?_)
  exact fr_loop ⟨C0, hK0, hK1, hL⟩ (L + 1) 0 (by omega) (Nat.zero_le L) (fun _ => 0) (fun _ => 0) (fun _ => 0) 0 0 0 (fun _ => 0) (fun _ => 0) (fun _ => 0) (fun _ => 0) (fun _ => 0) (fun _ => 0) (fun _ => 0) (fun _ => 0) (fun _ => 0) (fun _ => 0) i_nil H locs ls hP hD hS (lv_sub hl [3, 2, 1, 0] rfl)
end
section
set_option maxHeartbeats 4000000 in
theorem lw_walk (l : Launch) (b : Addr) (xs : List Int32) : MetFree l x (headSpec (Jvm.Cond.code x code maxLocals ret :: tables_1) room_1) (lw_P b xs) (fun _ _ _ _ _ => True) lw_Q := by
  refine MetFree.of_bodyS (code := code) (maxLocals := maxLocals) (ret := ret) (by decide) ?_ ?_
  · intro args s m h hn
    obtain ⟨meth, c, h1, h2, h3, h4, h5, h6, -, -⟩ := Cond.code_spec hn (atoms_spec (ws := Jvm.Cond.code x code maxLocals ret :: tables_1) h _ List.mem_cons_self)
    exact ⟨meth, c, h1, h2, h3, h4, h5, h6⟩
  · intro p e s m args below meth c s₁ B hml0 hP _
    obtain ⟨rfl, hx, hbd, hgv⟩ := hP
    obtain ⟨scr, harrAt, hlist, hof, hsmall⟩ := hx
    obtain ⟨hcb, hkn, -, -⟩ := State.arrayAt?_spec harrAt
    have hown : s.vm.findClass R_law = some m.cls := findClass_of_methodNamed B.named
    have hts0 : ∀ c ∈ (Jvm.Cond.code x code maxLocals ret :: tables_1), c.before #[Value.ref b] s = true := atoms_spec (ws := Jvm.Cond.code x code maxLocals ret :: tables_1) B.pre
    have hts : ∀ w ∈ lw_tbl, w.before #[Value.ref b] s = true := k2_hts_sels lw_privs (fun w hw => hts0 w (List.mem_cons_of_mem _ hw)) lw_privs_ok
    have hml : c.maxLocals = 4 := B.maxLocals_eq (hts0 _ List.mem_cons_self)
    have X₀ : Stand p l e room_1 s m #[Value.ref b] below meth c s₁ [] 0 0 := Stand.of_body B
    have hh0 : s₁.heap = s.heap := by rw [B.state]; rfl
    have hsz : scr.slots.size = xs.length := by rw [← Array.length_toList, hlist, List.length_map]
    have hval : ∀ j : Nat, j < xs.length → scr.slots[j]? = some (.int (xs.getD j 0)) := fun j hj => by
      rw [← Array.getElem?_toList, hlist]
      simp [hj]
    have hbl : b < s.heap.size := (Array.getElem?_eq_some_iff.mp hcb).1
    have hX : va_X b xs.length (fun j => xs.getD j 0) s s.heap := ⟨scr, hcb, hof, hkn, hsz, hval⟩
    have K : W p l e room_1 s m #[Value.ref b] below meth c s₁.heap [] 0 0 (lw_Z below #[Value.ref b] s) (entryFrame m ([Value.ref b] : List Value).toArray 4) := by
      rw [hh0]
      exact whole_start l hbd ⟨B.exec, B.bytes, B.returns, hml, hown, hts, hX, hbl, B.notSynchronized, hgv⟩
    obtain ⟨t, a1, o, b1, b2, b3⟩ := K s₁ rfl X₀
    exact ⟨t, o, a1, b1, b2, b3⟩
theorem lw_pre_spec {args : Array Value} {s : State} (h : (Jvm.Cond.and given_1 narrow_1).before args s = true) (hr : rest_1_c.before args s = true) : ∃ (b : Addr) (xs : List Int32), lw_P b xs args s := by
  have hs := flat_of_before _ h
  have hq := flat_of_before _ hr
  have hc : (Cond.count 1).before args s = true := hs _ (by decide +kernel)
  have harr : (Cond.arrayOf (.arg 0) .int).before args s = true := hs _ (by decide +kernel)
  have hle : (Cond.le (.length (.arg 0)) (.int 192)).before args s = true := hs _ (by decide +kernel)
  have hlen : (Cond.isInt (.length (.arg 0))).before args s = true := hq _ (by decide +kernel)
  have hall : (Cond.all (.arg 0) (.isInt (.elem (.arg 0) (.index 0)))).before args s = true := hq _ (by decide +kernel)
  obtain ⟨b, xs, hb, hx⟩ := State.ints_of_pre rfl harr hlen hall
  have hsm : xs.length < 2 ^ 31 := hx.choose_spec.2.2.2
  have hev : (Term.length (.arg 0)).eval args s none [] s = some (.int xs.length.toInt32) := hx.length_eval hb
  have hv := Cond.le_ints hev (show (Term.int 192).eval args s none [] s = some (.int 192) from rfl)
  have hd : xs.length.toInt32 ≤ 192 := by
    simpa [Cond.before, Cond.holds, hv] using hle
  have hN : xs.length ≤ 192 := (Int32.ofNat_le_ofNat hsm (by decide)).mp (show Int32.ofNat xs.length ≤ Int32.ofNat 192 from hd)
  exact ⟨b, xs, Cond.one_arg hc (show args[0]? = some (.ref b) from hb), hx, hN, h⟩
theorem lw_comes (l : Launch) : Comes l x (Jvm.Cond.code x code maxLocals ret :: tables_1) room_1 (fun tb e args s => Calls_1 tb e args s ∧ rest_1 tb e args s ∧ Pre_1 tb e args s)
    (fun _ _ args s o t => lw_Q args s o t) := by
  intro p e ha hc hk s m args below hf hfit hheap happ hpre
  obtain ⟨b, xs, hP⟩ := lw_pre_spec hpre.2.2 hpre.2.1
  obtain ⟨k, o, h1, h2, h3, hQ⟩ := lw_walk l b xs p e ha hc hk s m args below hf ((Spec.applies_iff_loose hf).mp happ).1 hP trivial
  exact ⟨k, o, h1, h2, h3, hQ⟩
theorem lw_frame {s t : State} {o : Outcome} {args : Array Value} (h : Framed s o t [] 600000 7290000) :
    Framed s o t (fieldLocs frame_1_writes args s ++ arrayLocs frame_1_arrays args s ++ staticLocs frame_1_statics s) 600000 7290000 := h
theorem lw_limb (L : Cond) (hL : ∀ (args : Array Value) (s t : State), L.after args s (.returned (some (.int 1))) t = true) :
    ArmFor flags0 classFile x code maxLocals ret World_1 tables_1 room_1 Calls_1 rest_1 Pre_1
      (fun tb e a s o t => postC L tb e a s o t ∧ Framed s o t (fieldLocs frame_1_writes a s ++ arrayLocs frame_1_arrays a s ++ staticLocs frame_1_statics s) 600000 7290000) := by
  intro l _ _ _ p e ha hc hk s m args below hf hfit hheap happ hpre
  obtain ⟨k, o, h1, h2, h3, rfl, hF⟩ := lw_comes l p e ha hc hk s m args below hf hfit hheap happ hpre
  exact ⟨k, _, h1, h2, h3, hL args s _, lw_frame hF⟩
theorem i_vc : Claimed_1_1 ∧ Claimed_1_2 := ⟨lw_limb limb_1_1 (fun args s t => by simp [limb_1_1, Cond.after, Cond.holds, Cond.value]), lw_limb limb_1_2 (fun args s t => Cond.after_iff.mpr (by
  first | (rw [show limb_1_2 = Cond.eq .result (.int 1) from rfl, Cond.eq_ints (x := 1) (y := 1) rfl rfl]; simp; done) | (simp [limb_1_2, Cond.value, Term.eval]; done)))⟩
end
