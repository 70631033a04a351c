section
-- ===== PART A: goes FIRST, ahead of the names: the tables' words, and 'selects' of the private methods out of them =====
/-- a private method of a class that the tables say can be made, by its rows of tables_1 -/
def lw_okq (q : MethodName × Nat) : Prop := (q.1.cls ≠ "java/lang/invoke/MethodHandle" ∧ q.1.cls ≠ "java/lang/invoke/VarHandle") ∧ Cond.instantiable q.1.cls q.2 ∈ tables_1 ∧ Cond.privateMethod q.1 ∈ tables_1 ∧ Cond.instanceMethod q.1 ∈ tables_1
set_option maxRecDepth 100000
theorem lw_t1 {w : Cond} (h : w ∈ tables_1_1) : w ∈ tables_1 := List.mem_append_left _ h
theorem lw_t2 {w : Cond} (h : w ∈ tables_1_2) : w ∈ tables_1 := List.mem_append_right _ h
theorem lw_p0 : lw_okq (⟨"DisjunctiveTimes", "isPoint", "(I)Z"⟩, 17) := ⟨⟨by decide +kernel, by decide +kernel⟩, lw_t1 (List.mem_of_getElem? (i := 4) rfl), lw_t1 (List.mem_of_getElem? (i := 73) rfl), lw_t1 (List.mem_of_getElem? (i := 74) rfl)⟩
theorem lw_p1 : lw_okq (⟨"DisjunctiveTimes", "offer", "(III)V"⟩, 17) := ⟨⟨by decide +kernel, by decide +kernel⟩, lw_t1 (List.mem_of_getElem? (i := 4) rfl), lw_t1 (List.mem_of_getElem? (i := 85) rfl), lw_t1 (List.mem_of_getElem? (i := 86) rfl)⟩
theorem lw_p2 : lw_okq (⟨"DisjunctiveTimes", "isEvent", "(I)Z"⟩, 17) := ⟨⟨by decide +kernel, by decide +kernel⟩, lw_t1 (List.mem_of_getElem? (i := 4) rfl), lw_t1 (List.mem_of_getElem? (i := 93) rfl), lw_t1 (List.mem_of_getElem? (i := 94) rfl)⟩
theorem lw_p3 : lw_okq (⟨"DisjunctiveTimes", "isConstraint", "(I)Z"⟩, 17) := ⟨⟨by decide +kernel, by decide +kernel⟩, lw_t1 (List.mem_of_getElem? (i := 4) rfl), lw_t1 (List.mem_of_getElem? (i := 101) rfl), lw_t1 (List.mem_of_getElem? (i := 102) rfl)⟩
theorem lw_p4 : lw_okq (⟨"DisjunctiveTimes", "openStart", "()V"⟩, 17) := ⟨⟨by decide +kernel, by decide +kernel⟩, lw_t1 (List.mem_of_getElem? (i := 4) rfl), lw_t1 (List.mem_of_getElem? (i := 113) rfl), lw_t1 (List.mem_of_getElem? (i := 114) rfl)⟩
theorem lw_p5 : lw_okq (⟨"DisjunctiveTimes", "canMeet", "()Z"⟩, 17) := ⟨⟨by decide +kernel, by decide +kernel⟩, lw_t1 (List.mem_of_getElem? (i := 4) rfl), lw_t1 (List.mem_of_getElem? (i := 117) rfl), lw_t1 (List.mem_of_getElem? (i := 118) rfl)⟩
theorem lw_p6 : lw_okq (⟨"DisjunctiveTimes", "search", "(II)Z"⟩, 17) := ⟨⟨by decide +kernel, by decide +kernel⟩, lw_t1 (List.mem_of_getElem? (i := 4) rfl), lw_t1 (List.mem_of_getElem? (i := 121) rfl), lw_t1 (List.mem_of_getElem? (i := 122) rfl)⟩
theorem lw_p7 : lw_okq (⟨"DisjunctiveTimes", "goOn", "(I)Z"⟩, 17) := ⟨⟨by decide +kernel, by decide +kernel⟩, lw_t1 (List.mem_of_getElem? (i := 4) rfl), lw_t1 (List.mem_of_getElem? (i := 126) rfl), lw_t1 (List.mem_of_getElem? (i := 127) rfl)⟩
theorem lw_p8 : lw_okq (⟨"DisjunctiveTimes", "copyOn", "(I)V"⟩, 17) := ⟨⟨by decide +kernel, by decide +kernel⟩, lw_t1 (List.mem_of_getElem? (i := 4) rfl), lw_t1 (List.mem_of_getElem? (i := 130) rfl), lw_t1 (List.mem_of_getElem? (i := 131) rfl)⟩
theorem lw_p9 : lw_okq (⟨"DisjunctiveTimes", "tighten", "(IIII)V"⟩, 17) := ⟨⟨by decide +kernel, by decide +kernel⟩, lw_t1 (List.mem_of_getElem? (i := 4) rfl), lw_t1 (List.mem_of_getElem? (i := 134) rfl), lw_t1 (List.mem_of_getElem? (i := 135) rfl)⟩
theorem lw_p10 : lw_okq (⟨"DisjunctiveTimes", "firstFrom", "(III)I"⟩, 17) := ⟨⟨by decide +kernel, by decide +kernel⟩, lw_t1 (List.mem_of_getElem? (i := 4) rfl), lw_t1 (List.mem_of_getElem? (i := 154) rfl), lw_t1 (List.mem_of_getElem? (i := 155) rfl)⟩
theorem lw_p11 : lw_okq (⟨"DisjunctiveTimes", "tightenStart", "(III)V"⟩, 17) := ⟨⟨by decide +kernel, by decide +kernel⟩, lw_t1 (List.mem_of_getElem? (i := 4) rfl), lw_t1 (List.mem_of_getElem? (i := 158) rfl), lw_t1 (List.mem_of_getElem? (i := 159) rfl)⟩
theorem lw_p12 : lw_okq (⟨"DisjunctiveTimes", "timeIn", "(II)I"⟩, 17) := ⟨⟨by decide +kernel, by decide +kernel⟩, lw_t1 (List.mem_of_getElem? (i := 4) rfl), lw_t1 (List.mem_of_getElem? (i := 166) rfl), lw_t1 (List.mem_of_getElem? (i := 167) rfl)⟩
theorem lw_p13 : lw_okq (⟨"DisjunctiveTimesModel", "badPoint", "(I)Z"⟩, 8) := ⟨⟨by decide +kernel, by decide +kernel⟩, lw_t1 (List.mem_of_getElem? (i := 189) rfl), lw_t1 (List.mem_of_getElem? (i := 228) rfl), lw_t1 (List.mem_of_getElem? (i := 229) rfl)⟩
theorem lw_p14 : lw_okq (⟨"DisjunctiveTimesModel", "compare", "(IIII)V"⟩, 8) := ⟨⟨by decide +kernel, by decide +kernel⟩, lw_t1 (List.mem_of_getElem? (i := 189) rfl), lw_t1 (List.mem_of_getElem? (i := 232) rfl), lw_t1 (List.mem_of_getElem? (i := 233) rfl)⟩
theorem lw_p15 : lw_okq (⟨"DisjunctiveTimesModel", "copy", "(II)V"⟩, 8) := ⟨⟨by decide +kernel, by decide +kernel⟩, lw_t1 (List.mem_of_getElem? (i := 189) rfl), lw_t2 (List.mem_of_getElem? (i := 4) rfl), lw_t2 (List.mem_of_getElem? (i := 5) rfl)⟩
def lw_privs_1 : List (MethodName × Nat) := [(⟨"DisjunctiveTimes", "isPoint", "(I)Z"⟩, 17), (⟨"DisjunctiveTimes", "offer", "(III)V"⟩, 17), (⟨"DisjunctiveTimes", "isEvent", "(I)Z"⟩, 17), (⟨"DisjunctiveTimes", "isConstraint", "(I)Z"⟩, 17), (⟨"DisjunctiveTimes", "openStart", "()V"⟩, 17), (⟨"DisjunctiveTimes", "canMeet", "()Z"⟩, 17), (⟨"DisjunctiveTimes", "search", "(II)Z"⟩, 17), (⟨"DisjunctiveTimes", "goOn", "(I)Z"⟩, 17), (⟨"DisjunctiveTimes", "copyOn", "(I)V"⟩, 17), (⟨"DisjunctiveTimes", "tighten", "(IIII)V"⟩, 17), (⟨"DisjunctiveTimes", "firstFrom", "(III)I"⟩, 17), (⟨"DisjunctiveTimes", "tightenStart", "(III)V"⟩, 17), (⟨"DisjunctiveTimes", "timeIn", "(II)I"⟩, 17), (⟨"DisjunctiveTimesModel", "badPoint", "(I)Z"⟩, 8), (⟨"DisjunctiveTimesModel", "compare", "(IIII)V"⟩, 8), (⟨"DisjunctiveTimesModel", "copy", "(II)V"⟩, 8)]
theorem lw_r1 : ∀ q ∈ lw_privs_1, lw_okq q := List.forall_mem_cons.mpr ⟨lw_p0, List.forall_mem_cons.mpr ⟨lw_p1, List.forall_mem_cons.mpr ⟨lw_p2, List.forall_mem_cons.mpr ⟨lw_p3, List.forall_mem_cons.mpr ⟨lw_p4, List.forall_mem_cons.mpr ⟨lw_p5, List.forall_mem_cons.mpr ⟨lw_p6, List.forall_mem_cons.mpr ⟨lw_p7, List.forall_mem_cons.mpr ⟨lw_p8, List.forall_mem_cons.mpr ⟨lw_p9, List.forall_mem_cons.mpr ⟨lw_p10, List.forall_mem_cons.mpr ⟨lw_p11, List.forall_mem_cons.mpr ⟨lw_p12, List.forall_mem_cons.mpr ⟨lw_p13, List.forall_mem_cons.mpr ⟨lw_p14, List.forall_mem_cons.mpr ⟨lw_p15, fun _ h => absurd h List.not_mem_nil⟩⟩⟩⟩⟩⟩⟩⟩⟩⟩⟩⟩⟩⟩⟩⟩
theorem lw_p16 : lw_okq (⟨"DisjunctiveTimesModel", "badEvent", "(I)Z"⟩, 8) := ⟨⟨by decide +kernel, by decide +kernel⟩, lw_t1 (List.mem_of_getElem? (i := 189) rfl), lw_t2 (List.mem_of_getElem? (i := 12) rfl), lw_t2 (List.mem_of_getElem? (i := 13) rfl)⟩
theorem lw_p17 : lw_okq (⟨"DisjunctiveTimesModel", "possible", "(I)Z"⟩, 8) := ⟨⟨by decide +kernel, by decide +kernel⟩, lw_t1 (List.mem_of_getElem? (i := 189) rfl), lw_t2 (List.mem_of_getElem? (i := 28) rfl), lw_t2 (List.mem_of_getElem? (i := 29) rfl)⟩
theorem lw_p18 : lw_okq (⟨"DisjunctiveTimesModel", "meetsFirst", "(III)Z"⟩, 8) := ⟨⟨by decide +kernel, by decide +kernel⟩, lw_t1 (List.mem_of_getElem? (i := 189) rfl), lw_t2 (List.mem_of_getElem? (i := 32) rfl), lw_t2 (List.mem_of_getElem? (i := 33) rfl)⟩
theorem lw_p19 : lw_okq (⟨"DisjunctiveTimesModel", "met", "(II)Z"⟩, 8) := ⟨⟨by decide +kernel, by decide +kernel⟩, lw_t1 (List.mem_of_getElem? (i := 189) rfl), lw_t2 (List.mem_of_getElem? (i := 36) rfl), lw_t2 (List.mem_of_getElem? (i := 37) rfl)⟩
theorem lw_p20 : lw_okq (⟨"DisjunctiveTimesModel", "time", "(II)I"⟩, 8) := ⟨⟨by decide +kernel, by decide +kernel⟩, lw_t1 (List.mem_of_getElem? (i := 189) rfl), lw_t2 (List.mem_of_getElem? (i := 40) rfl), lw_t2 (List.mem_of_getElem? (i := 41) rfl)⟩
theorem lw_p21 : lw_okq (⟨"DisjunctiveTimesModel", "greatest", "(II)I"⟩, 8) := ⟨⟨by decide +kernel, by decide +kernel⟩, lw_t1 (List.mem_of_getElem? (i := 189) rfl), lw_t2 (List.mem_of_getElem? (i := 48) rfl), lw_t2 (List.mem_of_getElem? (i := 49) rfl)⟩
theorem lw_p22 : lw_okq (⟨"DisjunctiveTimesModel", "solution", "(I)Z"⟩, 8) := ⟨⟨by decide +kernel, by decide +kernel⟩, lw_t1 (List.mem_of_getElem? (i := 189) rfl), lw_t2 (List.mem_of_getElem? (i := 52) rfl), lw_t2 (List.mem_of_getElem? (i := 53) rfl)⟩
def lw_privs_2 : List (MethodName × Nat) := [(⟨"DisjunctiveTimesModel", "badEvent", "(I)Z"⟩, 8), (⟨"DisjunctiveTimesModel", "possible", "(I)Z"⟩, 8), (⟨"DisjunctiveTimesModel", "meetsFirst", "(III)Z"⟩, 8), (⟨"DisjunctiveTimesModel", "met", "(II)Z"⟩, 8), (⟨"DisjunctiveTimesModel", "time", "(II)I"⟩, 8), (⟨"DisjunctiveTimesModel", "greatest", "(II)I"⟩, 8), (⟨"DisjunctiveTimesModel", "solution", "(I)Z"⟩, 8)]
theorem lw_r2 : ∀ q ∈ lw_privs_2, lw_okq q := List.forall_mem_cons.mpr ⟨lw_p16, List.forall_mem_cons.mpr ⟨lw_p17, List.forall_mem_cons.mpr ⟨lw_p18, List.forall_mem_cons.mpr ⟨lw_p19, List.forall_mem_cons.mpr ⟨lw_p20, List.forall_mem_cons.mpr ⟨lw_p21, List.forall_mem_cons.mpr ⟨lw_p22, fun _ h => absurd h List.not_mem_nil⟩⟩⟩⟩⟩⟩⟩
def lw_privs : List (MethodName × Nat) := lw_privs_1 ++ (lw_privs_2)
def lw_tbl : List Cond := k2_sels lw_privs ++ tables_1
theorem lw_privs_ok : ∀ q ∈ lw_privs, lw_okq q := by
  show ∀ q ∈ lw_privs_1 ++ (lw_privs_2), lw_okq q
  exact List.forall_mem_append.mpr ⟨lw_r1, lw_r2⟩
-- ===== ONE list of words for every method: the tables' words that hold all through a run =====
def lw_all : List Cond := lw_tbl.filter goodWord
/-- a word of the tables by its place: claim/WORDS.tsv -/
theorem lw_w {w : Cond} (i : Nat) (h : lw_tbl[i]? = some w) (g : goodWord w = true) : w ∈ lw_all := List.mem_filter.mpr ⟨List.mem_of_getElem? h, g⟩
theorem lw_all_tbl {w : Cond} (h : w ∈ lw_all) : w ∈ lw_tbl := (List.mem_filter.mp h).1
theorem lw_self : GoodIn lw_all lw_all := fun w h => ⟨h, good_of_word (List.mem_filter.mp h).2⟩
/-- a class's field words, by their places -/
theorem lw_in (ws : List Cond) (ps : List Nat) (hp : ws = ps.filterMap (fun i => lw_tbl[i]?)) (hg : ws.all goodWord = true) : ∀ w ∈ ws, w ∈ lw_all := by
  intro w h
  have h1 := List.all_eq_true.mp hg w h
  rw [hp] at h
  obtain ⟨i, -, hi⟩ := List.mem_filterMap.mp h
  exact lw_w i hi h1
/-- the words of a contract for the method y with code b, L locals, answer r -/
abbrev ws_ (y : MethodName) (b : ByteArray) (L : Nat) (r : Option FieldType) : List Cond := Cond.code y b L r :: lw_all
theorem lw_meth {y : MethodName} {b : ByteArray} {L : Nat} {r : Option FieldType} (h : Cond.code y b L r ∈ lw_all) : GoodIn lw_all (ws_ y b L r) := by
  intro w hw
  rcases List.mem_cons.mp hw with e | e
  · rw [e]
    exact lw_self _ h
  · exact lw_self _ e
theorem lw_app {a c : List Cond} (ha : ∀ w ∈ a, w ∈ lw_all) (hc : GoodIn lw_all c) : GoodIn lw_all (a ++ c) := by
  intro w hw
  rcases List.mem_append.mp hw with e | e
  · exact lw_self w (ha w e)
  · exact hc w e
/-- what a call through an object asks: cwV n hts (lw_V ..) -/
theorem lw_V {own : String} {idx : Nat} {C : String} {y : MethodName} {b : ByteArray} {L : Nat} {r : Option FieldType} (h1 : Cond.methodLink own idx y ∈ lw_all) (h2 : Cond.instanceMethod y ∈ lw_all) (h3 : Cond.selects C y y ∈ lw_all) (h4 : Cond.initialized C ∈ lw_all) (h5 : Cond.code y b L r ∈ lw_all) : GoodIn lw_all (wsV own idx C y (ws_ y b L r)) := by
  refine lw_app ?_ (lw_meth h5)
  intro w hw
  simp only [List.mem_cons, List.not_mem_nil, or_false] at hw
  rcases hw with e | e | e | e
  · rw [e]; exact h1
  · rw [e]; exact h2
  · rw [e]; exact h3
  · rw [e]; exact h4
/-- what a static call asks: va_cwS n hts (lw_S ..) -/
theorem lw_S {own : String} {idx : Nat} {y : MethodName} {b : ByteArray} {L : Nat} {r : Option FieldType} (h1 : Cond.methodLink own idx y ∈ lw_all) (h2 : Cond.static y ∈ lw_all) (h3 : Cond.initialized y.cls ∈ lw_all) (h4 : Cond.code y b L r ∈ lw_all) : GoodIn lw_all (va_wsS own idx y (ws_ y b L r)) := by
  refine lw_app ?_ (lw_meth h4)
  intro w hw
  simp only [List.mem_cons, List.not_mem_nil, or_false] at hw
  rcases hw with e | e | e
  · rw [e]; exact h1
  · rw [e]; exact h2
  · rw [e]; exact h3
/-- the words of a contract for a method WITH HANDLERS (hh: its table) -/
abbrev wsW_ (y : MethodName) (b : ByteArray) (L : Nat) (r : Option FieldType) (hh : List (Nat × Nat × Nat × Nat)) : List Cond := Cond.codeWith y b L r hh :: lw_all
theorem lw_methW {y : MethodName} {b : ByteArray} {L : Nat} {r : Option FieldType} {hh : List (Nat × Nat × Nat × Nat)} (h : Cond.codeWith y b L r hh ∈ lw_all) : GoodIn lw_all (wsW_ y b L r hh) := by
  intro w hw
  rcases List.mem_cons.mp hw with e | e
  · rw [e]
    exact lw_self _ h
  · exact lw_self _ e
/-- any list of words by their places (lw_in), good -/
theorem lw_good {ws : List Cond} (h : ∀ w ∈ ws, w ∈ lw_all) : GoodIn lw_all ws := fun w hw => lw_self w (h w hw)
/-- what a call of a method with handlers asks: vx_cwVW n hts (lw_VW ..), vx_cwSW n hts (lw_SW ..) -/
theorem lw_VW {own : String} {idx : Nat} {C : String} {y : MethodName} {b : ByteArray} {L : Nat} {r : Option FieldType} {hh : List (Nat × Nat × Nat × Nat)} (h1 : Cond.methodLink own idx y ∈ lw_all) (h2 : Cond.instanceMethod y ∈ lw_all) (h3 : Cond.selects C y y ∈ lw_all) (h4 : Cond.initialized C ∈ lw_all) (h5 : Cond.codeWith y b L r hh ∈ lw_all) : GoodIn lw_all (wsV own idx C y (wsW_ y b L r hh)) := by
  refine lw_app ?_ (lw_methW h5)
  intro w hw
  simp only [List.mem_cons, List.not_mem_nil, or_false] at hw
  rcases hw with e | e | e | e
  · rw [e]; exact h1
  · rw [e]; exact h2
  · rw [e]; exact h3
  · rw [e]; exact h4
theorem lw_SW {own : String} {idx : Nat} {y : MethodName} {b : ByteArray} {L : Nat} {r : Option FieldType} {hh : List (Nat × Nat × Nat × Nat)} (h1 : Cond.methodLink own idx y ∈ lw_all) (h2 : Cond.static y ∈ lw_all) (h3 : Cond.initialized y.cls ∈ lw_all) (h4 : Cond.codeWith y b L r hh ∈ lw_all) : GoodIn lw_all (va_wsS own idx y (wsW_ y b L r hh)) := by
  refine lw_app ?_ (lw_methW h4)
  intro w hw
  simp only [List.mem_cons, List.not_mem_nil, or_false] at hw
  rcases hw with e | e | e
  · rw [e]; exact h1
  · rw [e]; exact h2
  · rw [e]; exact h3
/-- a word by its place in its run of the tables -/
theorem lw_at {r : List Cond} (hr : ∀ w ∈ r, w ∈ lw_tbl) {w : Cond} (i : Nat) (h : r[i]? = some w) : w ∈ lw_tbl := hr w (List.mem_of_getElem? h)
theorem lw_g {w : Cond} (h : w ∈ lw_tbl) (g : goodWord w = true) : w ∈ lw_all := List.mem_filter.mpr ⟨h, g⟩
theorem lw_ms : ∀ w ∈ k2_sels lw_privs, w ∈ lw_tbl := fun w h => show w ∈ k2_sels lw_privs ++ tables_1 from List.mem_append_left _ h
theorem lw_m1 : ∀ w ∈ tables_1_1, w ∈ lw_tbl := fun w h => show w ∈ k2_sels lw_privs ++ tables_1 from List.mem_append_right (k2_sels lw_privs) (show w ∈ tables_1 from List.mem_append_left _ h)
theorem lw_m2 : ∀ w ∈ tables_1_2, w ∈ lw_tbl := fun w h => show w ∈ k2_sels lw_privs ++ tables_1 from List.mem_append_right (k2_sels lw_privs) (show w ∈ tables_1 from List.mem_append_right _ h)
theorem qs0 : (Cond.selects "DisjunctiveTimes" ⟨"DisjunctiveTimes", "isPoint", "(I)Z"⟩ ⟨"DisjunctiveTimes", "isPoint", "(I)Z"⟩) ∈ lw_all := lw_g (lw_at lw_ms 0 rfl) rfl
theorem qs1 : (Cond.selects "DisjunctiveTimes" ⟨"DisjunctiveTimes", "offer", "(III)V"⟩ ⟨"DisjunctiveTimes", "offer", "(III)V"⟩) ∈ lw_all := lw_g (lw_at lw_ms 1 rfl) rfl
theorem qs2 : (Cond.selects "DisjunctiveTimes" ⟨"DisjunctiveTimes", "isEvent", "(I)Z"⟩ ⟨"DisjunctiveTimes", "isEvent", "(I)Z"⟩) ∈ lw_all := lw_g (lw_at lw_ms 2 rfl) rfl
theorem qs3 : (Cond.selects "DisjunctiveTimes" ⟨"DisjunctiveTimes", "isConstraint", "(I)Z"⟩ ⟨"DisjunctiveTimes", "isConstraint", "(I)Z"⟩) ∈ lw_all := lw_g (lw_at lw_ms 3 rfl) rfl
theorem qs4 : (Cond.selects "DisjunctiveTimes" ⟨"DisjunctiveTimes", "openStart", "()V"⟩ ⟨"DisjunctiveTimes", "openStart", "()V"⟩) ∈ lw_all := lw_g (lw_at lw_ms 4 rfl) rfl
theorem qs5 : (Cond.selects "DisjunctiveTimes" ⟨"DisjunctiveTimes", "canMeet", "()Z"⟩ ⟨"DisjunctiveTimes", "canMeet", "()Z"⟩) ∈ lw_all := lw_g (lw_at lw_ms 5 rfl) rfl
theorem qs6 : (Cond.selects "DisjunctiveTimes" ⟨"DisjunctiveTimes", "search", "(II)Z"⟩ ⟨"DisjunctiveTimes", "search", "(II)Z"⟩) ∈ lw_all := lw_g (lw_at lw_ms 6 rfl) rfl
theorem qs7 : (Cond.selects "DisjunctiveTimes" ⟨"DisjunctiveTimes", "goOn", "(I)Z"⟩ ⟨"DisjunctiveTimes", "goOn", "(I)Z"⟩) ∈ lw_all := lw_g (lw_at lw_ms 7 rfl) rfl
theorem qs8 : (Cond.selects "DisjunctiveTimes" ⟨"DisjunctiveTimes", "copyOn", "(I)V"⟩ ⟨"DisjunctiveTimes", "copyOn", "(I)V"⟩) ∈ lw_all := lw_g (lw_at lw_ms 8 rfl) rfl
theorem qs9 : (Cond.selects "DisjunctiveTimes" ⟨"DisjunctiveTimes", "tighten", "(IIII)V"⟩ ⟨"DisjunctiveTimes", "tighten", "(IIII)V"⟩) ∈ lw_all := lw_g (lw_at lw_ms 9 rfl) rfl
theorem qs10 : (Cond.selects "DisjunctiveTimes" ⟨"DisjunctiveTimes", "firstFrom", "(III)I"⟩ ⟨"DisjunctiveTimes", "firstFrom", "(III)I"⟩) ∈ lw_all := lw_g (lw_at lw_ms 10 rfl) rfl
theorem qs11 : (Cond.selects "DisjunctiveTimes" ⟨"DisjunctiveTimes", "tightenStart", "(III)V"⟩ ⟨"DisjunctiveTimes", "tightenStart", "(III)V"⟩) ∈ lw_all := lw_g (lw_at lw_ms 11 rfl) rfl
theorem qs12 : (Cond.selects "DisjunctiveTimes" ⟨"DisjunctiveTimes", "timeIn", "(II)I"⟩ ⟨"DisjunctiveTimes", "timeIn", "(II)I"⟩) ∈ lw_all := lw_g (lw_at lw_ms 12 rfl) rfl
theorem qs13 : (Cond.selects "DisjunctiveTimesModel" ⟨"DisjunctiveTimesModel", "badPoint", "(I)Z"⟩ ⟨"DisjunctiveTimesModel", "badPoint", "(I)Z"⟩) ∈ lw_all := lw_g (lw_at lw_ms 13 rfl) rfl
theorem qs14 : (Cond.selects "DisjunctiveTimesModel" ⟨"DisjunctiveTimesModel", "compare", "(IIII)V"⟩ ⟨"DisjunctiveTimesModel", "compare", "(IIII)V"⟩) ∈ lw_all := lw_g (lw_at lw_ms 14 rfl) rfl
theorem qs15 : (Cond.selects "DisjunctiveTimesModel" ⟨"DisjunctiveTimesModel", "copy", "(II)V"⟩ ⟨"DisjunctiveTimesModel", "copy", "(II)V"⟩) ∈ lw_all := lw_g (lw_at lw_ms 15 rfl) rfl
theorem qs16 : (Cond.selects "DisjunctiveTimesModel" ⟨"DisjunctiveTimesModel", "badEvent", "(I)Z"⟩ ⟨"DisjunctiveTimesModel", "badEvent", "(I)Z"⟩) ∈ lw_all := lw_g (lw_at lw_ms 16 rfl) rfl
theorem qs17 : (Cond.selects "DisjunctiveTimesModel" ⟨"DisjunctiveTimesModel", "possible", "(I)Z"⟩ ⟨"DisjunctiveTimesModel", "possible", "(I)Z"⟩) ∈ lw_all := lw_g (lw_at lw_ms 17 rfl) rfl
theorem qs18 : (Cond.selects "DisjunctiveTimesModel" ⟨"DisjunctiveTimesModel", "meetsFirst", "(III)Z"⟩ ⟨"DisjunctiveTimesModel", "meetsFirst", "(III)Z"⟩) ∈ lw_all := lw_g (lw_at lw_ms 18 rfl) rfl
theorem qs19 : (Cond.selects "DisjunctiveTimesModel" ⟨"DisjunctiveTimesModel", "met", "(II)Z"⟩ ⟨"DisjunctiveTimesModel", "met", "(II)Z"⟩) ∈ lw_all := lw_g (lw_at lw_ms 19 rfl) rfl
theorem qs20 : (Cond.selects "DisjunctiveTimesModel" ⟨"DisjunctiveTimesModel", "time", "(II)I"⟩ ⟨"DisjunctiveTimesModel", "time", "(II)I"⟩) ∈ lw_all := lw_g (lw_at lw_ms 20 rfl) rfl
theorem qs21 : (Cond.selects "DisjunctiveTimesModel" ⟨"DisjunctiveTimesModel", "greatest", "(II)I"⟩ ⟨"DisjunctiveTimesModel", "greatest", "(II)I"⟩) ∈ lw_all := lw_g (lw_at lw_ms 21 rfl) rfl
theorem qs22 : (Cond.selects "DisjunctiveTimesModel" ⟨"DisjunctiveTimesModel", "solution", "(I)Z"⟩ ⟨"DisjunctiveTimesModel", "solution", "(I)Z"⟩) ∈ lw_all := lw_g (lw_at lw_ms 22 rfl) rfl
end
section
set_option maxRecDepth 100000
def RJ0 : String := "java/lang/Object"
def RX0 : String := "DisjunctiveTimesLaw"
def RX1 : String := "DisjunctiveTimes"
def TX1 : u_T := fun k => match k with
  | 0 => ("DisjunctiveTimes", "ends", "[I", true)
  | 1 => ("DisjunctiveTimes", "begins", "[I", true)
  | 2 => ("DisjunctiveTimes", "limits", "[I", true)
  | 3 => ("DisjunctiveTimes", "sizes", "[I", true)
  | 4 => ("DisjunctiveTimes", "draftEnd", "[I", true)
  | 5 => ("DisjunctiveTimes", "draftBegin", "[I", true)
  | 6 => ("DisjunctiveTimes", "draftLimit", "[I", true)
  | 7 => ("DisjunctiveTimes", "start", "[I", true)
  | 8 => ("DisjunctiveTimes", "matrix", "[I", true)
  | 9 => ("DisjunctiveTimes", "turn", "[I", true)
  | 10 => ("DisjunctiveTimes", "n", "I", false)
  | 11 => ("DisjunctiveTimes", "count", "I", false)
  | 12 => ("DisjunctiveTimes", "draftSize", "I", false)
  | 13 => ("DisjunctiveTimes", "active", "I", false)
  | 14 => ("DisjunctiveTimes", "skipped", "I", false)
  | 15 => ("DisjunctiveTimes", "startBad", "Z", false)
  | _ => ("DisjunctiveTimes", "best", "I", false)
def tyX1 : Nat → FieldType := fun k => match k with
  | 0 => .array .int
  | 1 => .array .int
  | 2 => .array .int
  | 3 => .array .int
  | 4 => .array .int
  | 5 => .array .int
  | 6 => .array .int
  | 7 => .array .int
  | 8 => .array .int
  | 9 => .array .int
  | 10 => .int
  | 11 => .int
  | 12 => .int
  | 13 => .int
  | 14 => .int
  | 15 => .boolean
  | _ => .int
abbrev wsX10 : List Cond := u_ws RX1 TX1 17
theorem nmX1 : ∀ a, a < 17 → ∀ b, b < 17 → a ≠ b → (TX1 a).2.1 ≠ (TX1 b).2.1 := by decide +kernel
theorem tyX1_ok : ∀ k, k < 17 → parseFieldDescriptor (TX1 k).2.2.1 = some (tyX1 k) := by decide +kernel
def RX2 : String := "DisjunctiveTimesModel"
def TX2 : u_T := fun k => match k with
  | 0 => ("DisjunctiveTimesModel", "n", "I", false)
  | 1 => ("DisjunctiveTimesModel", "plans", "I", false)
  | 2 => ("DisjunctiveTimesModel", "drafted", "I", false)
  | 3 => ("DisjunctiveTimesModel", "count", "I", false)
  | 4 => ("DisjunctiveTimesModel", "sizes", "[I", false)
  | 5 => ("DisjunctiveTimesModel", "left", "[I", false)
  | 6 => ("DisjunctiveTimesModel", "right", "[I", false)
  | _ => ("DisjunctiveTimesModel", "bound", "[I", false)
def tyX2 : Nat → FieldType := fun k => match k with
  | 0 => .int
  | 1 => .int
  | 2 => .int
  | 3 => .int
  | 4 => .array .int
  | 5 => .array .int
  | 6 => .array .int
  | _ => .array .int
abbrev wsX20 : List Cond := u_ws RX2 TX2 8
theorem nmX2 : ∀ a, a < 8 → ∀ b, b < 8 → a ≠ b → (TX2 a).2.1 ≠ (TX2 b).2.1 := by decide +kernel
theorem tyX2_ok : ∀ k, k < 8 → parseFieldDescriptor (TX2 k).2.2.1 = some (tyX2 k) := by decide +kernel
theorem q32 : (Jvm.Cond.instanceMethod ({ cls := "java/lang/Object", name := "<init>", desc := "()V" } : Jvm.MethodName)) ∈ lw_all := lw_g (lw_at lw_m1 9 rfl) rfl
theorem q33 : (Jvm.Cond.code ({ cls := "java/lang/Object", name := "<init>", desc := "()V" } : Jvm.MethodName) object_method_1_code (1 : Nat) (Option.none : Option Jvm.ClassFile.FieldType)) ∈ lw_all := lw_g (lw_at lw_m1 10 rfl) rfl
theorem q23 : (Jvm.Cond.initialized "DisjunctiveTimesLaw") ∈ lw_all := lw_g (lw_at lw_m1 0 rfl) rfl
theorem q26 : (Jvm.Cond.classLink "DisjunctiveTimesLaw" (7 : Nat) "DisjunctiveTimes") ∈ lw_all := lw_g (lw_at lw_m1 3 rfl) rfl
theorem q28 : (Jvm.Cond.methodLink "DisjunctiveTimesLaw" (15 : Nat) ({ cls := "DisjunctiveTimes", name := "<init>", desc := "(I)V" } : Jvm.MethodName)) ∈ lw_all := lw_g (lw_at lw_m1 5 rfl) rfl
theorem q87 : (Jvm.Cond.methodLink "DisjunctiveTimesLaw" (21 : Nat) ({ cls := "DisjunctiveTimes", name := "events", desc := "()I" } : Jvm.MethodName)) ∈ lw_all := lw_g (lw_at lw_m1 64 rfl) rfl
theorem q91 : (Jvm.Cond.methodLink "DisjunctiveTimesLaw" (26 : Nat) ({ cls := "DisjunctiveTimes", name := "alternative", desc := "(III)I" } : Jvm.MethodName)) ∈ lw_all := lw_g (lw_at lw_m1 68 rfl) rfl
theorem q99 : (Jvm.Cond.methodLink "DisjunctiveTimesLaw" (31 : Nat) ({ cls := "DisjunctiveTimes", name := "clear", desc := "()I" } : Jvm.MethodName)) ∈ lw_all := lw_g (lw_at lw_m1 76 rfl) rfl
theorem q103 : (Jvm.Cond.methodLink "DisjunctiveTimesLaw" (35 : Nat) ({ cls := "DisjunctiveTimes", name := "add", desc := "()I" } : Jvm.MethodName)) ∈ lw_all := lw_g (lw_at lw_m1 80 rfl) rfl
theorem q111 : (Jvm.Cond.methodLink "DisjunctiveTimesLaw" (39 : Nat) ({ cls := "DisjunctiveTimes", name := "apart", desc := "(III)I" } : Jvm.MethodName)) ∈ lw_all := lw_g (lw_at lw_m1 88 rfl) rfl
theorem q119 : (Jvm.Cond.methodLink "DisjunctiveTimesLaw" (43 : Nat) ({ cls := "DisjunctiveTimes", name := "remove", desc := "(I)I" } : Jvm.MethodName)) ∈ lw_all := lw_g (lw_at lw_m1 96 rfl) rfl
theorem q127 : (Jvm.Cond.methodLink "DisjunctiveTimesLaw" (48 : Nat) ({ cls := "DisjunctiveTimes", name := "size", desc := "()I" } : Jvm.MethodName)) ∈ lw_all := lw_g (lw_at lw_m1 104 rfl) rfl
theorem q131 : (Jvm.Cond.methodLink "DisjunctiveTimesLaw" (52 : Nat) ({ cls := "DisjunctiveTimes", name := "solvable", desc := "()I" } : Jvm.MethodName)) ∈ lw_all := lw_g (lw_at lw_m1 108 rfl) rfl
theorem q160 : (Jvm.Cond.methodLink "DisjunctiveTimesLaw" (56 : Nat) ({ cls := "DisjunctiveTimes", name := "earliest", desc := "(I)I" } : Jvm.MethodName)) ∈ lw_all := lw_g (lw_at lw_m1 137 rfl) rfl
theorem q164 : (Jvm.Cond.methodLink "DisjunctiveTimesLaw" (60 : Nat) ({ cls := "DisjunctiveTimes", name := "latest", desc := "(I)I" } : Jvm.MethodName)) ∈ lw_all := lw_g (lw_at lw_m1 141 rfl) rfl
theorem q168 : (Jvm.Cond.methodLink "DisjunctiveTimesLaw" (64 : Nat) ({ cls := "DisjunctiveTimes", name := "widest", desc := "(II)I" } : Jvm.MethodName)) ∈ lw_all := lw_g (lw_at lw_m1 145 rfl) rfl
theorem q172 : (Jvm.Cond.methodLink "DisjunctiveTimesLaw" (69 : Nat) ({ cls := "DisjunctiveTimes", name := "next", desc := "(I)I" } : Jvm.MethodName)) ∈ lw_all := lw_g (lw_at lw_m1 149 rfl) rfl
theorem q184 : (Jvm.Cond.methodLink "DisjunctiveTimesLaw" (73 : Nat) ({ cls := "DisjunctiveTimes", name := "meets", desc := "(I)I" } : Jvm.MethodName)) ∈ lw_all := lw_g (lw_at lw_m1 161 rfl) rfl
theorem q192 : (Jvm.Cond.methodLink "DisjunctiveTimesLaw" (77 : Nat) ({ cls := "DisjunctiveTimes", name := "shortest", desc := "()I" } : Jvm.MethodName)) ∈ lw_all := lw_g (lw_at lw_m1 169 rfl) rfl
theorem q196 : (Jvm.Cond.methodLink "DisjunctiveTimesLaw" (81 : Nat) ({ cls := "DisjunctiveTimes", name := "entailed", desc := "()I" } : Jvm.MethodName)) ∈ lw_all := lw_g (lw_at lw_m1 173 rfl) rfl
theorem q200 : (Jvm.Cond.methodLink "DisjunctiveTimesLaw" (85 : Nat) ({ cls := "DisjunctiveTimes", name := "redundant", desc := "(I)I" } : Jvm.MethodName)) ∈ lw_all := lw_g (lw_at lw_m1 177 rfl) rfl
theorem q204 : (Jvm.Cond.methodLink "DisjunctiveTimesLaw" (89 : Nat) ({ cls := "DisjunctiveTimes", name := "excess", desc := "()I" } : Jvm.MethodName)) ∈ lw_all := lw_g (lw_at lw_m1 181 rfl) rfl
theorem q208 : (Jvm.Cond.methodLink "DisjunctiveTimesLaw" (9 : Nat) ({ cls := "DisjunctiveTimesLaw", name := "cell", desc := "([II)I" } : Jvm.MethodName)) ∈ lw_all := lw_g (lw_at lw_m1 185 rfl) rfl
theorem q209 : (Jvm.Cond.static ({ cls := "DisjunctiveTimesLaw", name := "cell", desc := "([II)I" } : Jvm.MethodName)) ∈ lw_all := lw_g (lw_at lw_m1 186 rfl) rfl
theorem q210 : (Jvm.Cond.code ({ cls := "DisjunctiveTimesLaw", name := "cell", desc := "([II)I" } : Jvm.MethodName) method_2_code (2 : Nat) (Option.some Jvm.ClassFile.FieldType.int)) ∈ lw_all := lw_g (lw_at lw_m1 187 rfl) rfl
theorem q211 : (Jvm.Cond.classLink "DisjunctiveTimesLaw" (18 : Nat) "DisjunctiveTimesModel") ∈ lw_all := lw_g (lw_at lw_m1 188 rfl) rfl
theorem q213 : (Jvm.Cond.methodLink "DisjunctiveTimesLaw" (20 : Nat) ({ cls := "DisjunctiveTimesModel", name := "<init>", desc := "(I)V" } : Jvm.MethodName)) ∈ lw_all := lw_g (lw_at lw_m1 190 rfl) rfl
theorem q242 : (Jvm.Cond.methodLink "DisjunctiveTimesLaw" (25 : Nat) ({ cls := "DisjunctiveTimesModel", name := "events", desc := "()I" } : Jvm.MethodName)) ∈ lw_all := lw_g (lw_at lw_m1 219 rfl) rfl
theorem q246 : (Jvm.Cond.methodLink "DisjunctiveTimesLaw" (30 : Nat) ({ cls := "DisjunctiveTimesModel", name := "alternative", desc := "(III)I" } : Jvm.MethodName)) ∈ lw_all := lw_g (lw_at lw_m1 223 rfl) rfl
theorem q258 : (Jvm.Cond.methodLink "DisjunctiveTimesLaw" (34 : Nat) ({ cls := "DisjunctiveTimesModel", name := "clear", desc := "()I" } : Jvm.MethodName)) ∈ lw_all := lw_g (lw_at lw_m1 235 rfl) rfl
theorem q262 : (Jvm.Cond.methodLink "DisjunctiveTimesLaw" (38 : Nat) ({ cls := "DisjunctiveTimesModel", name := "add", desc := "()I" } : Jvm.MethodName)) ∈ lw_all := lw_g (lw_at lw_m1 239 rfl) rfl
theorem q270 : (Jvm.Cond.methodLink "DisjunctiveTimesLaw" (42 : Nat) ({ cls := "DisjunctiveTimesModel", name := "apart", desc := "(III)I" } : Jvm.MethodName)) ∈ lw_all := lw_g (lw_at lw_m2 7 rfl) rfl
theorem q278 : (Jvm.Cond.methodLink "DisjunctiveTimesLaw" (47 : Nat) ({ cls := "DisjunctiveTimesModel", name := "remove", desc := "(I)I" } : Jvm.MethodName)) ∈ lw_all := lw_g (lw_at lw_m2 15 rfl) rfl
theorem q282 : (Jvm.Cond.methodLink "DisjunctiveTimesLaw" (51 : Nat) ({ cls := "DisjunctiveTimesModel", name := "size", desc := "()I" } : Jvm.MethodName)) ∈ lw_all := lw_g (lw_at lw_m2 19 rfl) rfl
theorem q286 : (Jvm.Cond.methodLink "DisjunctiveTimesLaw" (55 : Nat) ({ cls := "DisjunctiveTimesModel", name := "solvable", desc := "()I" } : Jvm.MethodName)) ∈ lw_all := lw_g (lw_at lw_m2 23 rfl) rfl
theorem q306 : (Jvm.Cond.methodLink "DisjunctiveTimesLaw" (59 : Nat) ({ cls := "DisjunctiveTimesModel", name := "earliest", desc := "(I)I" } : Jvm.MethodName)) ∈ lw_all := lw_g (lw_at lw_m2 43 rfl) rfl
theorem q318 : (Jvm.Cond.methodLink "DisjunctiveTimesLaw" (63 : Nat) ({ cls := "DisjunctiveTimesModel", name := "latest", desc := "(I)I" } : Jvm.MethodName)) ∈ lw_all := lw_g (lw_at lw_m2 55 rfl) rfl
theorem q322 : (Jvm.Cond.methodLink "DisjunctiveTimesLaw" (68 : Nat) ({ cls := "DisjunctiveTimesModel", name := "widest", desc := "(II)I" } : Jvm.MethodName)) ∈ lw_all := lw_g (lw_at lw_m2 59 rfl) rfl
theorem q326 : (Jvm.Cond.methodLink "DisjunctiveTimesLaw" (72 : Nat) ({ cls := "DisjunctiveTimesModel", name := "next", desc := "(I)I" } : Jvm.MethodName)) ∈ lw_all := lw_g (lw_at lw_m2 63 rfl) rfl
theorem q330 : (Jvm.Cond.methodLink "DisjunctiveTimesLaw" (76 : Nat) ({ cls := "DisjunctiveTimesModel", name := "meets", desc := "(I)I" } : Jvm.MethodName)) ∈ lw_all := lw_g (lw_at lw_m2 67 rfl) rfl
theorem q334 : (Jvm.Cond.methodLink "DisjunctiveTimesLaw" (80 : Nat) ({ cls := "DisjunctiveTimesModel", name := "shortest", desc := "()I" } : Jvm.MethodName)) ∈ lw_all := lw_g (lw_at lw_m2 71 rfl) rfl
theorem q338 : (Jvm.Cond.methodLink "DisjunctiveTimesLaw" (84 : Nat) ({ cls := "DisjunctiveTimesModel", name := "entailed", desc := "()I" } : Jvm.MethodName)) ∈ lw_all := lw_g (lw_at lw_m2 75 rfl) rfl
theorem q342 : (Jvm.Cond.methodLink "DisjunctiveTimesLaw" (88 : Nat) ({ cls := "DisjunctiveTimesModel", name := "redundant", desc := "(I)I" } : Jvm.MethodName)) ∈ lw_all := lw_g (lw_at lw_m2 79 rfl) rfl
theorem q346 : (Jvm.Cond.methodLink "DisjunctiveTimesLaw" (92 : Nat) ({ cls := "DisjunctiveTimesModel", name := "excess", desc := "()I" } : Jvm.MethodName)) ∈ lw_all := lw_g (lw_at lw_m2 83 rfl) rfl
theorem q24 : (Jvm.Cond.initialized "DisjunctiveTimes") ∈ lw_all := lw_g (lw_at lw_m1 1 rfl) rfl
theorem q27 : (Jvm.Cond.instantiable "DisjunctiveTimes" (17 : Nat)) ∈ lw_all := lw_g (lw_at lw_m1 4 rfl) rfl
theorem q29 : (Jvm.Cond.instanceMethod ({ cls := "DisjunctiveTimes", name := "<init>", desc := "(I)V" } : Jvm.MethodName)) ∈ lw_all := lw_g (lw_at lw_m1 6 rfl) rfl
theorem q30 : (Jvm.Cond.code ({ cls := "DisjunctiveTimes", name := "<init>", desc := "(I)V" } : Jvm.MethodName) prog_1_method_1_code (2 : Nat) (Option.none : Option Jvm.ClassFile.FieldType)) ∈ lw_all := lw_g (lw_at lw_m1 7 rfl) rfl
theorem q31 : (Jvm.Cond.methodLink "DisjunctiveTimes" (1 : Nat) ({ cls := "java/lang/Object", name := "<init>", desc := "()V" } : Jvm.MethodName)) ∈ lw_all := lw_g (lw_at lw_m1 8 rfl) rfl
theorem q34 : (Jvm.Cond.fieldLink "DisjunctiveTimes" (7 : Nat) "DisjunctiveTimes" "ends" "[I") ∈ lw_all := lw_g (lw_at lw_m1 11 rfl) rfl
theorem q35 : (Jvm.Cond.fieldLink "DisjunctiveTimes" (13 : Nat) "DisjunctiveTimes" "begins" "[I") ∈ lw_all := lw_g (lw_at lw_m1 12 rfl) rfl
theorem q36 : (Jvm.Cond.fieldLink "DisjunctiveTimes" (16 : Nat) "DisjunctiveTimes" "limits" "[I") ∈ lw_all := lw_g (lw_at lw_m1 13 rfl) rfl
theorem q37 : (Jvm.Cond.fieldLink "DisjunctiveTimes" (19 : Nat) "DisjunctiveTimes" "sizes" "[I") ∈ lw_all := lw_g (lw_at lw_m1 14 rfl) rfl
theorem q38 : (Jvm.Cond.fieldLink "DisjunctiveTimes" (22 : Nat) "DisjunctiveTimes" "draftEnd" "[I") ∈ lw_all := lw_g (lw_at lw_m1 15 rfl) rfl
theorem q39 : (Jvm.Cond.fieldLink "DisjunctiveTimes" (25 : Nat) "DisjunctiveTimes" "draftBegin" "[I") ∈ lw_all := lw_g (lw_at lw_m1 16 rfl) rfl
theorem q40 : (Jvm.Cond.fieldLink "DisjunctiveTimes" (28 : Nat) "DisjunctiveTimes" "draftLimit" "[I") ∈ lw_all := lw_g (lw_at lw_m1 17 rfl) rfl
theorem q41 : (Jvm.Cond.fieldLink "DisjunctiveTimes" (31 : Nat) "DisjunctiveTimes" "start" "[I") ∈ lw_all := lw_g (lw_at lw_m1 18 rfl) rfl
theorem q42 : (Jvm.Cond.fieldLink "DisjunctiveTimes" (34 : Nat) "DisjunctiveTimes" "matrix" "[I") ∈ lw_all := lw_g (lw_at lw_m1 19 rfl) rfl
theorem q43 : (Jvm.Cond.fieldLink "DisjunctiveTimes" (37 : Nat) "DisjunctiveTimes" "turn" "[I") ∈ lw_all := lw_g (lw_at lw_m1 20 rfl) rfl
theorem q44 : (Jvm.Cond.fieldLink "DisjunctiveTimes" (40 : Nat) "DisjunctiveTimes" "n" "I") ∈ lw_all := lw_g (lw_at lw_m1 21 rfl) rfl
theorem q45 : (Jvm.Cond.fieldLink "DisjunctiveTimes" (54 : Nat) "DisjunctiveTimes" "count" "I") ∈ lw_all := lw_g (lw_at lw_m1 22 rfl) rfl
theorem q46 : (Jvm.Cond.fieldLink "DisjunctiveTimes" (51 : Nat) "DisjunctiveTimes" "draftSize" "I") ∈ lw_all := lw_g (lw_at lw_m1 23 rfl) rfl
theorem q47 : (Jvm.Cond.fieldLink "DisjunctiveTimes" (96 : Nat) "DisjunctiveTimes" "active" "I") ∈ lw_all := lw_g (lw_at lw_m1 24 rfl) rfl
theorem q48 : (Jvm.Cond.fieldLink "DisjunctiveTimes" (44 : Nat) "DisjunctiveTimes" "skipped" "I") ∈ lw_all := lw_g (lw_at lw_m1 25 rfl) rfl
theorem q49 : (Jvm.Cond.fieldLink "DisjunctiveTimes" (92 : Nat) "DisjunctiveTimes" "startBad" "Z") ∈ lw_all := lw_g (lw_at lw_m1 26 rfl) rfl
theorem q50 : (Jvm.Cond.fieldLink "DisjunctiveTimes" (78 : Nat) "DisjunctiveTimes" "best" "I") ∈ lw_all := lw_g (lw_at lw_m1 27 rfl) rfl
theorem q51 : (Jvm.Cond.laysFinal "DisjunctiveTimes" "DisjunctiveTimes" "ends" "[I") ∈ lw_all := lw_g (lw_at lw_m1 28 rfl) rfl
theorem q52 : (Jvm.Cond.soleField "DisjunctiveTimes" "ends") ∈ lw_all := lw_g (lw_at lw_m1 29 rfl) rfl
theorem q53 : (Jvm.Cond.laysFinal "DisjunctiveTimes" "DisjunctiveTimes" "begins" "[I") ∈ lw_all := lw_g (lw_at lw_m1 30 rfl) rfl
theorem q54 : (Jvm.Cond.soleField "DisjunctiveTimes" "begins") ∈ lw_all := lw_g (lw_at lw_m1 31 rfl) rfl
theorem q55 : (Jvm.Cond.laysFinal "DisjunctiveTimes" "DisjunctiveTimes" "limits" "[I") ∈ lw_all := lw_g (lw_at lw_m1 32 rfl) rfl
theorem q56 : (Jvm.Cond.soleField "DisjunctiveTimes" "limits") ∈ lw_all := lw_g (lw_at lw_m1 33 rfl) rfl
theorem q57 : (Jvm.Cond.laysFinal "DisjunctiveTimes" "DisjunctiveTimes" "sizes" "[I") ∈ lw_all := lw_g (lw_at lw_m1 34 rfl) rfl
theorem q58 : (Jvm.Cond.soleField "DisjunctiveTimes" "sizes") ∈ lw_all := lw_g (lw_at lw_m1 35 rfl) rfl
theorem q59 : (Jvm.Cond.laysFinal "DisjunctiveTimes" "DisjunctiveTimes" "draftEnd" "[I") ∈ lw_all := lw_g (lw_at lw_m1 36 rfl) rfl
theorem q60 : (Jvm.Cond.soleField "DisjunctiveTimes" "draftEnd") ∈ lw_all := lw_g (lw_at lw_m1 37 rfl) rfl
theorem q61 : (Jvm.Cond.laysFinal "DisjunctiveTimes" "DisjunctiveTimes" "draftBegin" "[I") ∈ lw_all := lw_g (lw_at lw_m1 38 rfl) rfl
theorem q62 : (Jvm.Cond.soleField "DisjunctiveTimes" "draftBegin") ∈ lw_all := lw_g (lw_at lw_m1 39 rfl) rfl
theorem q63 : (Jvm.Cond.laysFinal "DisjunctiveTimes" "DisjunctiveTimes" "draftLimit" "[I") ∈ lw_all := lw_g (lw_at lw_m1 40 rfl) rfl
theorem q64 : (Jvm.Cond.soleField "DisjunctiveTimes" "draftLimit") ∈ lw_all := lw_g (lw_at lw_m1 41 rfl) rfl
theorem q65 : (Jvm.Cond.laysFinal "DisjunctiveTimes" "DisjunctiveTimes" "start" "[I") ∈ lw_all := lw_g (lw_at lw_m1 42 rfl) rfl
theorem q66 : (Jvm.Cond.soleField "DisjunctiveTimes" "start") ∈ lw_all := lw_g (lw_at lw_m1 43 rfl) rfl
theorem q67 : (Jvm.Cond.laysFinal "DisjunctiveTimes" "DisjunctiveTimes" "matrix" "[I") ∈ lw_all := lw_g (lw_at lw_m1 44 rfl) rfl
theorem q68 : (Jvm.Cond.soleField "DisjunctiveTimes" "matrix") ∈ lw_all := lw_g (lw_at lw_m1 45 rfl) rfl
theorem q69 : (Jvm.Cond.laysFinal "DisjunctiveTimes" "DisjunctiveTimes" "turn" "[I") ∈ lw_all := lw_g (lw_at lw_m1 46 rfl) rfl
theorem q70 : (Jvm.Cond.soleField "DisjunctiveTimes" "turn") ∈ lw_all := lw_g (lw_at lw_m1 47 rfl) rfl
theorem q71 : (Jvm.Cond.lays "DisjunctiveTimes" "DisjunctiveTimes" "n" "I") ∈ lw_all := lw_g (lw_at lw_m1 48 rfl) rfl
theorem q72 : (Jvm.Cond.soleField "DisjunctiveTimes" "n") ∈ lw_all := lw_g (lw_at lw_m1 49 rfl) rfl
theorem q73 : (Jvm.Cond.lays "DisjunctiveTimes" "DisjunctiveTimes" "count" "I") ∈ lw_all := lw_g (lw_at lw_m1 50 rfl) rfl
theorem q74 : (Jvm.Cond.soleField "DisjunctiveTimes" "count") ∈ lw_all := lw_g (lw_at lw_m1 51 rfl) rfl
theorem q75 : (Jvm.Cond.lays "DisjunctiveTimes" "DisjunctiveTimes" "draftSize" "I") ∈ lw_all := lw_g (lw_at lw_m1 52 rfl) rfl
theorem q76 : (Jvm.Cond.soleField "DisjunctiveTimes" "draftSize") ∈ lw_all := lw_g (lw_at lw_m1 53 rfl) rfl
theorem q77 : (Jvm.Cond.lays "DisjunctiveTimes" "DisjunctiveTimes" "active" "I") ∈ lw_all := lw_g (lw_at lw_m1 54 rfl) rfl
theorem q78 : (Jvm.Cond.soleField "DisjunctiveTimes" "active") ∈ lw_all := lw_g (lw_at lw_m1 55 rfl) rfl
theorem q79 : (Jvm.Cond.lays "DisjunctiveTimes" "DisjunctiveTimes" "skipped" "I") ∈ lw_all := lw_g (lw_at lw_m1 56 rfl) rfl
theorem q80 : (Jvm.Cond.soleField "DisjunctiveTimes" "skipped") ∈ lw_all := lw_g (lw_at lw_m1 57 rfl) rfl
theorem q81 : (Jvm.Cond.lays "DisjunctiveTimes" "DisjunctiveTimes" "startBad" "Z") ∈ lw_all := lw_g (lw_at lw_m1 58 rfl) rfl
theorem q82 : (Jvm.Cond.soleField "DisjunctiveTimes" "startBad") ∈ lw_all := lw_g (lw_at lw_m1 59 rfl) rfl
theorem q83 : (Jvm.Cond.lays "DisjunctiveTimes" "DisjunctiveTimes" "best" "I") ∈ lw_all := lw_g (lw_at lw_m1 60 rfl) rfl
theorem q84 : (Jvm.Cond.soleField "DisjunctiveTimes" "best") ∈ lw_all := lw_g (lw_at lw_m1 61 rfl) rfl
theorem q85 : (Jvm.Cond.superclass "DisjunctiveTimes" "java/lang/Object") ∈ lw_all := lw_g (lw_at lw_m1 62 rfl) rfl
theorem q88 : (Jvm.Cond.instanceMethod ({ cls := "DisjunctiveTimes", name := "events", desc := "()I" } : Jvm.MethodName)) ∈ lw_all := lw_g (lw_at lw_m1 65 rfl) rfl
theorem q89 : (Jvm.Cond.selects "DisjunctiveTimes" ({ cls := "DisjunctiveTimes", name := "events", desc := "()I" } : Jvm.MethodName) ({ cls := "DisjunctiveTimes", name := "events", desc := "()I" } : Jvm.MethodName)) ∈ lw_all := lw_g (lw_at lw_m1 66 rfl) rfl
theorem q90 : (Jvm.Cond.code ({ cls := "DisjunctiveTimes", name := "events", desc := "()I" } : Jvm.MethodName) prog_1_method_2_code (1 : Nat) (Option.some Jvm.ClassFile.FieldType.int)) ∈ lw_all := lw_g (lw_at lw_m1 67 rfl) rfl
theorem q92 : (Jvm.Cond.instanceMethod ({ cls := "DisjunctiveTimes", name := "alternative", desc := "(III)I" } : Jvm.MethodName)) ∈ lw_all := lw_g (lw_at lw_m1 69 rfl) rfl
theorem q93 : (Jvm.Cond.selects "DisjunctiveTimes" ({ cls := "DisjunctiveTimes", name := "alternative", desc := "(III)I" } : Jvm.MethodName) ({ cls := "DisjunctiveTimes", name := "alternative", desc := "(III)I" } : Jvm.MethodName)) ∈ lw_all := lw_g (lw_at lw_m1 70 rfl) rfl
theorem q94 : (Jvm.Cond.code ({ cls := "DisjunctiveTimes", name := "alternative", desc := "(III)I" } : Jvm.MethodName) prog_1_method_3_code (4 : Nat) (Option.some Jvm.ClassFile.FieldType.int)) ∈ lw_all := lw_g (lw_at lw_m1 71 rfl) rfl
theorem q95 : (Jvm.Cond.methodLink "DisjunctiveTimes" (47 : Nat) ({ cls := "DisjunctiveTimes", name := "isPoint", desc := "(I)Z" } : Jvm.MethodName)) ∈ lw_all := lw_g (lw_at lw_m1 72 rfl) rfl
theorem q96 : (Jvm.Cond.privateMethod ({ cls := "DisjunctiveTimes", name := "isPoint", desc := "(I)Z" } : Jvm.MethodName)) ∈ lw_tbl := lw_at lw_m1 73 rfl
theorem q97 : (Jvm.Cond.instanceMethod ({ cls := "DisjunctiveTimes", name := "isPoint", desc := "(I)Z" } : Jvm.MethodName)) ∈ lw_all := lw_g (lw_at lw_m1 74 rfl) rfl
theorem q98 : (Jvm.Cond.code ({ cls := "DisjunctiveTimes", name := "isPoint", desc := "(I)Z" } : Jvm.MethodName) prog_1_method_20_code (2 : Nat) (Option.some Jvm.ClassFile.FieldType.boolean)) ∈ lw_all := lw_g (lw_at lw_m1 75 rfl) rfl
theorem q100 : (Jvm.Cond.instanceMethod ({ cls := "DisjunctiveTimes", name := "clear", desc := "()I" } : Jvm.MethodName)) ∈ lw_all := lw_g (lw_at lw_m1 77 rfl) rfl
theorem q101 : (Jvm.Cond.selects "DisjunctiveTimes" ({ cls := "DisjunctiveTimes", name := "clear", desc := "()I" } : Jvm.MethodName) ({ cls := "DisjunctiveTimes", name := "clear", desc := "()I" } : Jvm.MethodName)) ∈ lw_all := lw_g (lw_at lw_m1 78 rfl) rfl
theorem q102 : (Jvm.Cond.code ({ cls := "DisjunctiveTimes", name := "clear", desc := "()I" } : Jvm.MethodName) prog_1_method_4_code (2 : Nat) (Option.some Jvm.ClassFile.FieldType.int)) ∈ lw_all := lw_g (lw_at lw_m1 79 rfl) rfl
theorem q104 : (Jvm.Cond.instanceMethod ({ cls := "DisjunctiveTimes", name := "add", desc := "()I" } : Jvm.MethodName)) ∈ lw_all := lw_g (lw_at lw_m1 81 rfl) rfl
theorem q105 : (Jvm.Cond.selects "DisjunctiveTimes" ({ cls := "DisjunctiveTimes", name := "add", desc := "()I" } : Jvm.MethodName) ({ cls := "DisjunctiveTimes", name := "add", desc := "()I" } : Jvm.MethodName)) ∈ lw_all := lw_g (lw_at lw_m1 82 rfl) rfl
theorem q106 : (Jvm.Cond.code ({ cls := "DisjunctiveTimes", name := "add", desc := "()I" } : Jvm.MethodName) prog_1_method_5_code (2 : Nat) (Option.some Jvm.ClassFile.FieldType.int)) ∈ lw_all := lw_g (lw_at lw_m1 83 rfl) rfl
theorem q107 : (Jvm.Cond.methodLink "DisjunctiveTimes" (57 : Nat) ({ cls := "DisjunctiveTimes", name := "offer", desc := "(III)V" } : Jvm.MethodName)) ∈ lw_all := lw_g (lw_at lw_m1 84 rfl) rfl
theorem q108 : (Jvm.Cond.privateMethod ({ cls := "DisjunctiveTimes", name := "offer", desc := "(III)V" } : Jvm.MethodName)) ∈ lw_tbl := lw_at lw_m1 85 rfl
theorem q109 : (Jvm.Cond.instanceMethod ({ cls := "DisjunctiveTimes", name := "offer", desc := "(III)V" } : Jvm.MethodName)) ∈ lw_all := lw_g (lw_at lw_m1 86 rfl) rfl
theorem q110 : (Jvm.Cond.code ({ cls := "DisjunctiveTimes", name := "offer", desc := "(III)V" } : Jvm.MethodName) prog_1_method_22_code (5 : Nat) (Option.none : Option Jvm.ClassFile.FieldType)) ∈ lw_all := lw_g (lw_at lw_m1 87 rfl) rfl
theorem q112 : (Jvm.Cond.instanceMethod ({ cls := "DisjunctiveTimes", name := "apart", desc := "(III)I" } : Jvm.MethodName)) ∈ lw_all := lw_g (lw_at lw_m1 89 rfl) rfl
theorem q113 : (Jvm.Cond.selects "DisjunctiveTimes" ({ cls := "DisjunctiveTimes", name := "apart", desc := "(III)I" } : Jvm.MethodName) ({ cls := "DisjunctiveTimes", name := "apart", desc := "(III)I" } : Jvm.MethodName)) ∈ lw_all := lw_g (lw_at lw_m1 90 rfl) rfl
theorem q114 : (Jvm.Cond.code ({ cls := "DisjunctiveTimes", name := "apart", desc := "(III)I" } : Jvm.MethodName) prog_1_method_6_code (6 : Nat) (Option.some Jvm.ClassFile.FieldType.int)) ∈ lw_all := lw_g (lw_at lw_m1 91 rfl) rfl
theorem q115 : (Jvm.Cond.methodLink "DisjunctiveTimes" (61 : Nat) ({ cls := "DisjunctiveTimes", name := "isEvent", desc := "(I)Z" } : Jvm.MethodName)) ∈ lw_all := lw_g (lw_at lw_m1 92 rfl) rfl
theorem q116 : (Jvm.Cond.privateMethod ({ cls := "DisjunctiveTimes", name := "isEvent", desc := "(I)Z" } : Jvm.MethodName)) ∈ lw_tbl := lw_at lw_m1 93 rfl
theorem q117 : (Jvm.Cond.instanceMethod ({ cls := "DisjunctiveTimes", name := "isEvent", desc := "(I)Z" } : Jvm.MethodName)) ∈ lw_all := lw_g (lw_at lw_m1 94 rfl) rfl
theorem q118 : (Jvm.Cond.code ({ cls := "DisjunctiveTimes", name := "isEvent", desc := "(I)Z" } : Jvm.MethodName) prog_1_method_19_code (2 : Nat) (Option.some Jvm.ClassFile.FieldType.boolean)) ∈ lw_all := lw_g (lw_at lw_m1 95 rfl) rfl
theorem q120 : (Jvm.Cond.instanceMethod ({ cls := "DisjunctiveTimes", name := "remove", desc := "(I)I" } : Jvm.MethodName)) ∈ lw_all := lw_g (lw_at lw_m1 97 rfl) rfl
theorem q121 : (Jvm.Cond.selects "DisjunctiveTimes" ({ cls := "DisjunctiveTimes", name := "remove", desc := "(I)I" } : Jvm.MethodName) ({ cls := "DisjunctiveTimes", name := "remove", desc := "(I)I" } : Jvm.MethodName)) ∈ lw_all := lw_g (lw_at lw_m1 98 rfl) rfl
theorem q122 : (Jvm.Cond.code ({ cls := "DisjunctiveTimes", name := "remove", desc := "(I)I" } : Jvm.MethodName) prog_1_method_7_code (4 : Nat) (Option.some Jvm.ClassFile.FieldType.int)) ∈ lw_all := lw_g (lw_at lw_m1 99 rfl) rfl
theorem q123 : (Jvm.Cond.methodLink "DisjunctiveTimes" (64 : Nat) ({ cls := "DisjunctiveTimes", name := "isConstraint", desc := "(I)Z" } : Jvm.MethodName)) ∈ lw_all := lw_g (lw_at lw_m1 100 rfl) rfl
theorem q124 : (Jvm.Cond.privateMethod ({ cls := "DisjunctiveTimes", name := "isConstraint", desc := "(I)Z" } : Jvm.MethodName)) ∈ lw_tbl := lw_at lw_m1 101 rfl
theorem q125 : (Jvm.Cond.instanceMethod ({ cls := "DisjunctiveTimes", name := "isConstraint", desc := "(I)Z" } : Jvm.MethodName)) ∈ lw_all := lw_g (lw_at lw_m1 102 rfl) rfl
theorem q126 : (Jvm.Cond.code ({ cls := "DisjunctiveTimes", name := "isConstraint", desc := "(I)Z" } : Jvm.MethodName) prog_1_method_21_code (2 : Nat) (Option.some Jvm.ClassFile.FieldType.boolean)) ∈ lw_all := lw_g (lw_at lw_m1 103 rfl) rfl
theorem q128 : (Jvm.Cond.instanceMethod ({ cls := "DisjunctiveTimes", name := "size", desc := "()I" } : Jvm.MethodName)) ∈ lw_all := lw_g (lw_at lw_m1 105 rfl) rfl
theorem q129 : (Jvm.Cond.selects "DisjunctiveTimes" ({ cls := "DisjunctiveTimes", name := "size", desc := "()I" } : Jvm.MethodName) ({ cls := "DisjunctiveTimes", name := "size", desc := "()I" } : Jvm.MethodName)) ∈ lw_all := lw_g (lw_at lw_m1 106 rfl) rfl
theorem q130 : (Jvm.Cond.code ({ cls := "DisjunctiveTimes", name := "size", desc := "()I" } : Jvm.MethodName) prog_1_method_8_code (1 : Nat) (Option.some Jvm.ClassFile.FieldType.int)) ∈ lw_all := lw_g (lw_at lw_m1 107 rfl) rfl
theorem q132 : (Jvm.Cond.instanceMethod ({ cls := "DisjunctiveTimes", name := "solvable", desc := "()I" } : Jvm.MethodName)) ∈ lw_all := lw_g (lw_at lw_m1 109 rfl) rfl
theorem q133 : (Jvm.Cond.selects "DisjunctiveTimes" ({ cls := "DisjunctiveTimes", name := "solvable", desc := "()I" } : Jvm.MethodName) ({ cls := "DisjunctiveTimes", name := "solvable", desc := "()I" } : Jvm.MethodName)) ∈ lw_all := lw_g (lw_at lw_m1 110 rfl) rfl
theorem q134 : (Jvm.Cond.code ({ cls := "DisjunctiveTimes", name := "solvable", desc := "()I" } : Jvm.MethodName) prog_1_method_9_code (1 : Nat) (Option.some Jvm.ClassFile.FieldType.int)) ∈ lw_all := lw_g (lw_at lw_m1 111 rfl) rfl
theorem q135 : (Jvm.Cond.methodLink "DisjunctiveTimes" (67 : Nat) ({ cls := "DisjunctiveTimes", name := "openStart", desc := "()V" } : Jvm.MethodName)) ∈ lw_all := lw_g (lw_at lw_m1 112 rfl) rfl
theorem q136 : (Jvm.Cond.privateMethod ({ cls := "DisjunctiveTimes", name := "openStart", desc := "()V" } : Jvm.MethodName)) ∈ lw_tbl := lw_at lw_m1 113 rfl
theorem q137 : (Jvm.Cond.instanceMethod ({ cls := "DisjunctiveTimes", name := "openStart", desc := "()V" } : Jvm.MethodName)) ∈ lw_all := lw_g (lw_at lw_m1 114 rfl) rfl
theorem q138 : (Jvm.Cond.code ({ cls := "DisjunctiveTimes", name := "openStart", desc := "()V" } : Jvm.MethodName) prog_1_method_24_code (4 : Nat) (Option.none : Option Jvm.ClassFile.FieldType)) ∈ lw_all := lw_g (lw_at lw_m1 115 rfl) rfl
theorem q139 : (Jvm.Cond.methodLink "DisjunctiveTimes" (70 : Nat) ({ cls := "DisjunctiveTimes", name := "canMeet", desc := "()Z" } : Jvm.MethodName)) ∈ lw_all := lw_g (lw_at lw_m1 116 rfl) rfl
theorem q140 : (Jvm.Cond.privateMethod ({ cls := "DisjunctiveTimes", name := "canMeet", desc := "()Z" } : Jvm.MethodName)) ∈ lw_tbl := lw_at lw_m1 117 rfl
theorem q141 : (Jvm.Cond.instanceMethod ({ cls := "DisjunctiveTimes", name := "canMeet", desc := "()Z" } : Jvm.MethodName)) ∈ lw_all := lw_g (lw_at lw_m1 118 rfl) rfl
theorem q142 : (Jvm.Cond.code ({ cls := "DisjunctiveTimes", name := "canMeet", desc := "()Z" } : Jvm.MethodName) prog_1_method_26_code (1 : Nat) (Option.some Jvm.ClassFile.FieldType.boolean)) ∈ lw_all := lw_g (lw_at lw_m1 119 rfl) rfl
theorem q143 : (Jvm.Cond.methodLink "DisjunctiveTimes" (74 : Nat) ({ cls := "DisjunctiveTimes", name := "search", desc := "(II)Z" } : Jvm.MethodName)) ∈ lw_all := lw_g (lw_at lw_m1 120 rfl) rfl
theorem q144 : (Jvm.Cond.privateMethod ({ cls := "DisjunctiveTimes", name := "search", desc := "(II)Z" } : Jvm.MethodName)) ∈ lw_tbl := lw_at lw_m1 121 rfl
theorem q145 : (Jvm.Cond.instanceMethod ({ cls := "DisjunctiveTimes", name := "search", desc := "(II)Z" } : Jvm.MethodName)) ∈ lw_all := lw_g (lw_at lw_m1 122 rfl) rfl
theorem q146 : (Jvm.Cond.code ({ cls := "DisjunctiveTimes", name := "search", desc := "(II)Z" } : Jvm.MethodName) prog_1_method_27_code (7 : Nat) (Option.some Jvm.ClassFile.FieldType.boolean)) ∈ lw_all := lw_g (lw_at lw_m1 123 rfl) rfl
theorem q147 : (Jvm.Cond.constant "DisjunctiveTimes" (99 : Nat) (40000 : Int32)) ∈ lw_all := lw_g (lw_at lw_m1 124 rfl) rfl
theorem q148 : (Jvm.Cond.methodLink "DisjunctiveTimes" (100 : Nat) ({ cls := "DisjunctiveTimes", name := "goOn", desc := "(I)Z" } : Jvm.MethodName)) ∈ lw_all := lw_g (lw_at lw_m1 125 rfl) rfl
theorem q149 : (Jvm.Cond.privateMethod ({ cls := "DisjunctiveTimes", name := "goOn", desc := "(I)Z" } : Jvm.MethodName)) ∈ lw_tbl := lw_at lw_m1 126 rfl
theorem q150 : (Jvm.Cond.instanceMethod ({ cls := "DisjunctiveTimes", name := "goOn", desc := "(I)Z" } : Jvm.MethodName)) ∈ lw_all := lw_g (lw_at lw_m1 127 rfl) rfl
theorem q151 : (Jvm.Cond.code ({ cls := "DisjunctiveTimes", name := "goOn", desc := "(I)Z" } : Jvm.MethodName) prog_1_method_28_code (7 : Nat) (Option.some Jvm.ClassFile.FieldType.boolean)) ∈ lw_all := lw_g (lw_at lw_m1 128 rfl) rfl
theorem q152 : (Jvm.Cond.methodLink "DisjunctiveTimes" (103 : Nat) ({ cls := "DisjunctiveTimes", name := "copyOn", desc := "(I)V" } : Jvm.MethodName)) ∈ lw_all := lw_g (lw_at lw_m1 129 rfl) rfl
theorem q153 : (Jvm.Cond.privateMethod ({ cls := "DisjunctiveTimes", name := "copyOn", desc := "(I)V" } : Jvm.MethodName)) ∈ lw_tbl := lw_at lw_m1 130 rfl
theorem q154 : (Jvm.Cond.instanceMethod ({ cls := "DisjunctiveTimes", name := "copyOn", desc := "(I)V" } : Jvm.MethodName)) ∈ lw_all := lw_g (lw_at lw_m1 131 rfl) rfl
theorem q155 : (Jvm.Cond.code ({ cls := "DisjunctiveTimes", name := "copyOn", desc := "(I)V" } : Jvm.MethodName) prog_1_method_29_code (3 : Nat) (Option.none : Option Jvm.ClassFile.FieldType)) ∈ lw_all := lw_g (lw_at lw_m1 132 rfl) rfl
theorem q156 : (Jvm.Cond.methodLink "DisjunctiveTimes" (107 : Nat) ({ cls := "DisjunctiveTimes", name := "tighten", desc := "(IIII)V" } : Jvm.MethodName)) ∈ lw_all := lw_g (lw_at lw_m1 133 rfl) rfl
theorem q157 : (Jvm.Cond.privateMethod ({ cls := "DisjunctiveTimes", name := "tighten", desc := "(IIII)V" } : Jvm.MethodName)) ∈ lw_tbl := lw_at lw_m1 134 rfl
theorem q158 : (Jvm.Cond.instanceMethod ({ cls := "DisjunctiveTimes", name := "tighten", desc := "(IIII)V" } : Jvm.MethodName)) ∈ lw_all := lw_g (lw_at lw_m1 135 rfl) rfl
theorem q159 : (Jvm.Cond.code ({ cls := "DisjunctiveTimes", name := "tighten", desc := "(IIII)V" } : Jvm.MethodName) prog_1_method_30_code (11 : Nat) (Option.none : Option Jvm.ClassFile.FieldType)) ∈ lw_all := lw_g (lw_at lw_m1 136 rfl) rfl
theorem q161 : (Jvm.Cond.instanceMethod ({ cls := "DisjunctiveTimes", name := "earliest", desc := "(I)I" } : Jvm.MethodName)) ∈ lw_all := lw_g (lw_at lw_m1 138 rfl) rfl
theorem q162 : (Jvm.Cond.selects "DisjunctiveTimes" ({ cls := "DisjunctiveTimes", name := "earliest", desc := "(I)I" } : Jvm.MethodName) ({ cls := "DisjunctiveTimes", name := "earliest", desc := "(I)I" } : Jvm.MethodName)) ∈ lw_all := lw_g (lw_at lw_m1 139 rfl) rfl
theorem q163 : (Jvm.Cond.code ({ cls := "DisjunctiveTimes", name := "earliest", desc := "(I)I" } : Jvm.MethodName) prog_1_method_10_code (3 : Nat) (Option.some Jvm.ClassFile.FieldType.int)) ∈ lw_all := lw_g (lw_at lw_m1 140 rfl) rfl
theorem q165 : (Jvm.Cond.instanceMethod ({ cls := "DisjunctiveTimes", name := "latest", desc := "(I)I" } : Jvm.MethodName)) ∈ lw_all := lw_g (lw_at lw_m1 142 rfl) rfl
theorem q166 : (Jvm.Cond.selects "DisjunctiveTimes" ({ cls := "DisjunctiveTimes", name := "latest", desc := "(I)I" } : Jvm.MethodName) ({ cls := "DisjunctiveTimes", name := "latest", desc := "(I)I" } : Jvm.MethodName)) ∈ lw_all := lw_g (lw_at lw_m1 143 rfl) rfl
theorem q167 : (Jvm.Cond.code ({ cls := "DisjunctiveTimes", name := "latest", desc := "(I)I" } : Jvm.MethodName) prog_1_method_11_code (3 : Nat) (Option.some Jvm.ClassFile.FieldType.int)) ∈ lw_all := lw_g (lw_at lw_m1 144 rfl) rfl
theorem q169 : (Jvm.Cond.instanceMethod ({ cls := "DisjunctiveTimes", name := "widest", desc := "(II)I" } : Jvm.MethodName)) ∈ lw_all := lw_g (lw_at lw_m1 146 rfl) rfl
theorem q170 : (Jvm.Cond.selects "DisjunctiveTimes" ({ cls := "DisjunctiveTimes", name := "widest", desc := "(II)I" } : Jvm.MethodName) ({ cls := "DisjunctiveTimes", name := "widest", desc := "(II)I" } : Jvm.MethodName)) ∈ lw_all := lw_g (lw_at lw_m1 147 rfl) rfl
theorem q171 : (Jvm.Cond.code ({ cls := "DisjunctiveTimes", name := "widest", desc := "(II)I" } : Jvm.MethodName) prog_1_method_12_code (4 : Nat) (Option.some Jvm.ClassFile.FieldType.int)) ∈ lw_all := lw_g (lw_at lw_m1 148 rfl) rfl
theorem q173 : (Jvm.Cond.instanceMethod ({ cls := "DisjunctiveTimes", name := "next", desc := "(I)I" } : Jvm.MethodName)) ∈ lw_all := lw_g (lw_at lw_m1 150 rfl) rfl
theorem q174 : (Jvm.Cond.selects "DisjunctiveTimes" ({ cls := "DisjunctiveTimes", name := "next", desc := "(I)I" } : Jvm.MethodName) ({ cls := "DisjunctiveTimes", name := "next", desc := "(I)I" } : Jvm.MethodName)) ∈ lw_all := lw_g (lw_at lw_m1 151 rfl) rfl
theorem q175 : (Jvm.Cond.code ({ cls := "DisjunctiveTimes", name := "next", desc := "(I)I" } : Jvm.MethodName) prog_1_method_13_code (8 : Nat) (Option.some Jvm.ClassFile.FieldType.int)) ∈ lw_all := lw_g (lw_at lw_m1 152 rfl) rfl
theorem q176 : (Jvm.Cond.methodLink "DisjunctiveTimes" (81 : Nat) ({ cls := "DisjunctiveTimes", name := "firstFrom", desc := "(III)I" } : Jvm.MethodName)) ∈ lw_all := lw_g (lw_at lw_m1 153 rfl) rfl
theorem q177 : (Jvm.Cond.privateMethod ({ cls := "DisjunctiveTimes", name := "firstFrom", desc := "(III)I" } : Jvm.MethodName)) ∈ lw_tbl := lw_at lw_m1 154 rfl
theorem q178 : (Jvm.Cond.instanceMethod ({ cls := "DisjunctiveTimes", name := "firstFrom", desc := "(III)I" } : Jvm.MethodName)) ∈ lw_all := lw_g (lw_at lw_m1 155 rfl) rfl
theorem q179 : (Jvm.Cond.code ({ cls := "DisjunctiveTimes", name := "firstFrom", desc := "(III)I" } : Jvm.MethodName) prog_1_method_31_code (8 : Nat) (Option.some Jvm.ClassFile.FieldType.int)) ∈ lw_all := lw_g (lw_at lw_m1 156 rfl) rfl
theorem q180 : (Jvm.Cond.methodLink "DisjunctiveTimes" (89 : Nat) ({ cls := "DisjunctiveTimes", name := "tightenStart", desc := "(III)V" } : Jvm.MethodName)) ∈ lw_all := lw_g (lw_at lw_m1 157 rfl) rfl
theorem q181 : (Jvm.Cond.privateMethod ({ cls := "DisjunctiveTimes", name := "tightenStart", desc := "(III)V" } : Jvm.MethodName)) ∈ lw_tbl := lw_at lw_m1 158 rfl
theorem q182 : (Jvm.Cond.instanceMethod ({ cls := "DisjunctiveTimes", name := "tightenStart", desc := "(III)V" } : Jvm.MethodName)) ∈ lw_all := lw_g (lw_at lw_m1 159 rfl) rfl
theorem q183 : (Jvm.Cond.code ({ cls := "DisjunctiveTimes", name := "tightenStart", desc := "(III)V" } : Jvm.MethodName) prog_1_method_25_code (8 : Nat) (Option.none : Option Jvm.ClassFile.FieldType)) ∈ lw_all := lw_g (lw_at lw_m1 160 rfl) rfl
theorem q185 : (Jvm.Cond.instanceMethod ({ cls := "DisjunctiveTimes", name := "meets", desc := "(I)I" } : Jvm.MethodName)) ∈ lw_all := lw_g (lw_at lw_m1 162 rfl) rfl
theorem q186 : (Jvm.Cond.selects "DisjunctiveTimes" ({ cls := "DisjunctiveTimes", name := "meets", desc := "(I)I" } : Jvm.MethodName) ({ cls := "DisjunctiveTimes", name := "meets", desc := "(I)I" } : Jvm.MethodName)) ∈ lw_all := lw_g (lw_at lw_m1 163 rfl) rfl
theorem q187 : (Jvm.Cond.code ({ cls := "DisjunctiveTimes", name := "meets", desc := "(I)I" } : Jvm.MethodName) prog_1_method_14_code (5 : Nat) (Option.some Jvm.ClassFile.FieldType.int)) ∈ lw_all := lw_g (lw_at lw_m1 164 rfl) rfl
theorem q188 : (Jvm.Cond.methodLink "DisjunctiveTimes" (85 : Nat) ({ cls := "DisjunctiveTimes", name := "timeIn", desc := "(II)I" } : Jvm.MethodName)) ∈ lw_all := lw_g (lw_at lw_m1 165 rfl) rfl
theorem q189 : (Jvm.Cond.privateMethod ({ cls := "DisjunctiveTimes", name := "timeIn", desc := "(II)I" } : Jvm.MethodName)) ∈ lw_tbl := lw_at lw_m1 166 rfl
theorem q190 : (Jvm.Cond.instanceMethod ({ cls := "DisjunctiveTimes", name := "timeIn", desc := "(II)I" } : Jvm.MethodName)) ∈ lw_all := lw_g (lw_at lw_m1 167 rfl) rfl
theorem q191 : (Jvm.Cond.code ({ cls := "DisjunctiveTimes", name := "timeIn", desc := "(II)I" } : Jvm.MethodName) prog_1_method_23_code (3 : Nat) (Option.some Jvm.ClassFile.FieldType.int)) ∈ lw_all := lw_g (lw_at lw_m1 168 rfl) rfl
theorem q193 : (Jvm.Cond.instanceMethod ({ cls := "DisjunctiveTimes", name := "shortest", desc := "()I" } : Jvm.MethodName)) ∈ lw_all := lw_g (lw_at lw_m1 170 rfl) rfl
theorem q194 : (Jvm.Cond.selects "DisjunctiveTimes" ({ cls := "DisjunctiveTimes", name := "shortest", desc := "()I" } : Jvm.MethodName) ({ cls := "DisjunctiveTimes", name := "shortest", desc := "()I" } : Jvm.MethodName)) ∈ lw_all := lw_g (lw_at lw_m1 171 rfl) rfl
theorem q195 : (Jvm.Cond.code ({ cls := "DisjunctiveTimes", name := "shortest", desc := "()I" } : Jvm.MethodName) prog_1_method_15_code (3 : Nat) (Option.some Jvm.ClassFile.FieldType.int)) ∈ lw_all := lw_g (lw_at lw_m1 172 rfl) rfl
theorem q197 : (Jvm.Cond.instanceMethod ({ cls := "DisjunctiveTimes", name := "entailed", desc := "()I" } : Jvm.MethodName)) ∈ lw_all := lw_g (lw_at lw_m1 174 rfl) rfl
theorem q198 : (Jvm.Cond.selects "DisjunctiveTimes" ({ cls := "DisjunctiveTimes", name := "entailed", desc := "()I" } : Jvm.MethodName) ({ cls := "DisjunctiveTimes", name := "entailed", desc := "()I" } : Jvm.MethodName)) ∈ lw_all := lw_g (lw_at lw_m1 175 rfl) rfl
theorem q199 : (Jvm.Cond.code ({ cls := "DisjunctiveTimes", name := "entailed", desc := "()I" } : Jvm.MethodName) prog_1_method_16_code (2 : Nat) (Option.some Jvm.ClassFile.FieldType.int)) ∈ lw_all := lw_g (lw_at lw_m1 176 rfl) rfl
theorem q201 : (Jvm.Cond.instanceMethod ({ cls := "DisjunctiveTimes", name := "redundant", desc := "(I)I" } : Jvm.MethodName)) ∈ lw_all := lw_g (lw_at lw_m1 178 rfl) rfl
theorem q202 : (Jvm.Cond.selects "DisjunctiveTimes" ({ cls := "DisjunctiveTimes", name := "redundant", desc := "(I)I" } : Jvm.MethodName) ({ cls := "DisjunctiveTimes", name := "redundant", desc := "(I)I" } : Jvm.MethodName)) ∈ lw_all := lw_g (lw_at lw_m1 179 rfl) rfl
theorem q203 : (Jvm.Cond.code ({ cls := "DisjunctiveTimes", name := "redundant", desc := "(I)I" } : Jvm.MethodName) prog_1_method_17_code (3 : Nat) (Option.some Jvm.ClassFile.FieldType.int)) ∈ lw_all := lw_g (lw_at lw_m1 180 rfl) rfl
theorem q205 : (Jvm.Cond.instanceMethod ({ cls := "DisjunctiveTimes", name := "excess", desc := "()I" } : Jvm.MethodName)) ∈ lw_all := lw_g (lw_at lw_m1 182 rfl) rfl
theorem q206 : (Jvm.Cond.selects "DisjunctiveTimes" ({ cls := "DisjunctiveTimes", name := "excess", desc := "()I" } : Jvm.MethodName) ({ cls := "DisjunctiveTimes", name := "excess", desc := "()I" } : Jvm.MethodName)) ∈ lw_all := lw_g (lw_at lw_m1 183 rfl) rfl
theorem q207 : (Jvm.Cond.code ({ cls := "DisjunctiveTimes", name := "excess", desc := "()I" } : Jvm.MethodName) prog_1_method_18_code (4 : Nat) (Option.some Jvm.ClassFile.FieldType.int)) ∈ lw_all := lw_g (lw_at lw_m1 184 rfl) rfl
theorem in_X1 : ∀ w ∈ wsX10, w ∈ lw_all := lw_in wsX10 [51, 53, 55, 57, 59, 61, 63, 65, 67, 69, 71, 73, 75, 77, 79, 81, 83] (by decide +kernel) (by decide +kernel)
theorem q25 : (Jvm.Cond.initialized "DisjunctiveTimesModel") ∈ lw_all := lw_g (lw_at lw_m1 2 rfl) rfl
theorem q212 : (Jvm.Cond.instantiable "DisjunctiveTimesModel" (8 : Nat)) ∈ lw_all := lw_g (lw_at lw_m1 189 rfl) rfl
theorem q214 : (Jvm.Cond.instanceMethod ({ cls := "DisjunctiveTimesModel", name := "<init>", desc := "(I)V" } : Jvm.MethodName)) ∈ lw_all := lw_g (lw_at lw_m1 191 rfl) rfl
theorem q215 : (Jvm.Cond.code ({ cls := "DisjunctiveTimesModel", name := "<init>", desc := "(I)V" } : Jvm.MethodName) prog_3_method_1_code (2 : Nat) (Option.none : Option Jvm.ClassFile.FieldType)) ∈ lw_all := lw_g (lw_at lw_m1 192 rfl) rfl
theorem q216 : (Jvm.Cond.methodLink "DisjunctiveTimesModel" (1 : Nat) ({ cls := "java/lang/Object", name := "<init>", desc := "()V" } : Jvm.MethodName)) ∈ lw_all := lw_g (lw_at lw_m1 193 rfl) rfl
theorem q217 : (Jvm.Cond.fieldLink "DisjunctiveTimesModel" (22 : Nat) "DisjunctiveTimesModel" "n" "I") ∈ lw_all := lw_g (lw_at lw_m1 194 rfl) rfl
theorem q218 : (Jvm.Cond.fieldLink "DisjunctiveTimesModel" (26 : Nat) "DisjunctiveTimesModel" "plans" "I") ∈ lw_all := lw_g (lw_at lw_m1 195 rfl) rfl
theorem q219 : (Jvm.Cond.fieldLink "DisjunctiveTimesModel" (33 : Nat) "DisjunctiveTimesModel" "drafted" "I") ∈ lw_all := lw_g (lw_at lw_m1 196 rfl) rfl
theorem q220 : (Jvm.Cond.fieldLink "DisjunctiveTimesModel" (40 : Nat) "DisjunctiveTimesModel" "count" "I") ∈ lw_all := lw_g (lw_at lw_m1 197 rfl) rfl
theorem q221 : (Jvm.Cond.fieldLink "DisjunctiveTimesModel" (7 : Nat) "DisjunctiveTimesModel" "sizes" "[I") ∈ lw_all := lw_g (lw_at lw_m1 198 rfl) rfl
theorem q222 : (Jvm.Cond.fieldLink "DisjunctiveTimesModel" (13 : Nat) "DisjunctiveTimesModel" "left" "[I") ∈ lw_all := lw_g (lw_at lw_m1 199 rfl) rfl
theorem q223 : (Jvm.Cond.fieldLink "DisjunctiveTimesModel" (16 : Nat) "DisjunctiveTimesModel" "right" "[I") ∈ lw_all := lw_g (lw_at lw_m1 200 rfl) rfl
theorem q224 : (Jvm.Cond.fieldLink "DisjunctiveTimesModel" (19 : Nat) "DisjunctiveTimesModel" "bound" "[I") ∈ lw_all := lw_g (lw_at lw_m1 201 rfl) rfl
theorem q225 : (Jvm.Cond.lays "DisjunctiveTimesModel" "DisjunctiveTimesModel" "n" "I") ∈ lw_all := lw_g (lw_at lw_m1 202 rfl) rfl
theorem q226 : (Jvm.Cond.soleField "DisjunctiveTimesModel" "n") ∈ lw_all := lw_g (lw_at lw_m1 203 rfl) rfl
theorem q227 : (Jvm.Cond.lays "DisjunctiveTimesModel" "DisjunctiveTimesModel" "plans" "I") ∈ lw_all := lw_g (lw_at lw_m1 204 rfl) rfl
theorem q228 : (Jvm.Cond.soleField "DisjunctiveTimesModel" "plans") ∈ lw_all := lw_g (lw_at lw_m1 205 rfl) rfl
theorem q229 : (Jvm.Cond.lays "DisjunctiveTimesModel" "DisjunctiveTimesModel" "drafted" "I") ∈ lw_all := lw_g (lw_at lw_m1 206 rfl) rfl
theorem q230 : (Jvm.Cond.soleField "DisjunctiveTimesModel" "drafted") ∈ lw_all := lw_g (lw_at lw_m1 207 rfl) rfl
theorem q231 : (Jvm.Cond.lays "DisjunctiveTimesModel" "DisjunctiveTimesModel" "count" "I") ∈ lw_all := lw_g (lw_at lw_m1 208 rfl) rfl
theorem q232 : (Jvm.Cond.soleField "DisjunctiveTimesModel" "count") ∈ lw_all := lw_g (lw_at lw_m1 209 rfl) rfl
theorem q233 : (Jvm.Cond.lays "DisjunctiveTimesModel" "DisjunctiveTimesModel" "sizes" "[I") ∈ lw_all := lw_g (lw_at lw_m1 210 rfl) rfl
theorem q234 : (Jvm.Cond.soleField "DisjunctiveTimesModel" "sizes") ∈ lw_all := lw_g (lw_at lw_m1 211 rfl) rfl
theorem q235 : (Jvm.Cond.lays "DisjunctiveTimesModel" "DisjunctiveTimesModel" "left" "[I") ∈ lw_all := lw_g (lw_at lw_m1 212 rfl) rfl
theorem q236 : (Jvm.Cond.soleField "DisjunctiveTimesModel" "left") ∈ lw_all := lw_g (lw_at lw_m1 213 rfl) rfl
theorem q237 : (Jvm.Cond.lays "DisjunctiveTimesModel" "DisjunctiveTimesModel" "right" "[I") ∈ lw_all := lw_g (lw_at lw_m1 214 rfl) rfl
theorem q238 : (Jvm.Cond.soleField "DisjunctiveTimesModel" "right") ∈ lw_all := lw_g (lw_at lw_m1 215 rfl) rfl
theorem q239 : (Jvm.Cond.lays "DisjunctiveTimesModel" "DisjunctiveTimesModel" "bound" "[I") ∈ lw_all := lw_g (lw_at lw_m1 216 rfl) rfl
theorem q240 : (Jvm.Cond.soleField "DisjunctiveTimesModel" "bound") ∈ lw_all := lw_g (lw_at lw_m1 217 rfl) rfl
theorem q241 : (Jvm.Cond.superclass "DisjunctiveTimesModel" "java/lang/Object") ∈ lw_all := lw_g (lw_at lw_m1 218 rfl) rfl
theorem q243 : (Jvm.Cond.instanceMethod ({ cls := "DisjunctiveTimesModel", name := "events", desc := "()I" } : Jvm.MethodName)) ∈ lw_all := lw_g (lw_at lw_m1 220 rfl) rfl
theorem q244 : (Jvm.Cond.selects "DisjunctiveTimesModel" ({ cls := "DisjunctiveTimesModel", name := "events", desc := "()I" } : Jvm.MethodName) ({ cls := "DisjunctiveTimesModel", name := "events", desc := "()I" } : Jvm.MethodName)) ∈ lw_all := lw_g (lw_at lw_m1 221 rfl) rfl
theorem q245 : (Jvm.Cond.code ({ cls := "DisjunctiveTimesModel", name := "events", desc := "()I" } : Jvm.MethodName) prog_3_method_2_code (1 : Nat) (Option.some Jvm.ClassFile.FieldType.int)) ∈ lw_all := lw_g (lw_at lw_m1 222 rfl) rfl
theorem q247 : (Jvm.Cond.instanceMethod ({ cls := "DisjunctiveTimesModel", name := "alternative", desc := "(III)I" } : Jvm.MethodName)) ∈ lw_all := lw_g (lw_at lw_m1 224 rfl) rfl
theorem q248 : (Jvm.Cond.selects "DisjunctiveTimesModel" ({ cls := "DisjunctiveTimesModel", name := "alternative", desc := "(III)I" } : Jvm.MethodName) ({ cls := "DisjunctiveTimesModel", name := "alternative", desc := "(III)I" } : Jvm.MethodName)) ∈ lw_all := lw_g (lw_at lw_m1 225 rfl) rfl
theorem q249 : (Jvm.Cond.code ({ cls := "DisjunctiveTimesModel", name := "alternative", desc := "(III)I" } : Jvm.MethodName) prog_3_method_6_code (4 : Nat) (Option.some Jvm.ClassFile.FieldType.int)) ∈ lw_all := lw_g (lw_at lw_m1 226 rfl) rfl
theorem q250 : (Jvm.Cond.methodLink "DisjunctiveTimesModel" (29 : Nat) ({ cls := "DisjunctiveTimesModel", name := "badPoint", desc := "(I)Z" } : Jvm.MethodName)) ∈ lw_all := lw_g (lw_at lw_m1 227 rfl) rfl
theorem q251 : (Jvm.Cond.privateMethod ({ cls := "DisjunctiveTimesModel", name := "badPoint", desc := "(I)Z" } : Jvm.MethodName)) ∈ lw_tbl := lw_at lw_m1 228 rfl
theorem q252 : (Jvm.Cond.instanceMethod ({ cls := "DisjunctiveTimesModel", name := "badPoint", desc := "(I)Z" } : Jvm.MethodName)) ∈ lw_all := lw_g (lw_at lw_m1 229 rfl) rfl
theorem q253 : (Jvm.Cond.code ({ cls := "DisjunctiveTimesModel", name := "badPoint", desc := "(I)Z" } : Jvm.MethodName) prog_3_method_4_code (2 : Nat) (Option.some Jvm.ClassFile.FieldType.boolean)) ∈ lw_all := lw_g (lw_at lw_m1 230 rfl) rfl
theorem q254 : (Jvm.Cond.methodLink "DisjunctiveTimesModel" (36 : Nat) ({ cls := "DisjunctiveTimesModel", name := "compare", desc := "(IIII)V" } : Jvm.MethodName)) ∈ lw_all := lw_g (lw_at lw_m1 231 rfl) rfl
theorem q255 : (Jvm.Cond.privateMethod ({ cls := "DisjunctiveTimesModel", name := "compare", desc := "(IIII)V" } : Jvm.MethodName)) ∈ lw_tbl := lw_at lw_m1 232 rfl
theorem q256 : (Jvm.Cond.instanceMethod ({ cls := "DisjunctiveTimesModel", name := "compare", desc := "(IIII)V" } : Jvm.MethodName)) ∈ lw_all := lw_g (lw_at lw_m1 233 rfl) rfl
theorem q257 : (Jvm.Cond.code ({ cls := "DisjunctiveTimesModel", name := "compare", desc := "(IIII)V" } : Jvm.MethodName) prog_3_method_5_code (6 : Nat) (Option.none : Option Jvm.ClassFile.FieldType)) ∈ lw_all := lw_g (lw_at lw_m1 234 rfl) rfl
theorem q259 : (Jvm.Cond.instanceMethod ({ cls := "DisjunctiveTimesModel", name := "clear", desc := "()I" } : Jvm.MethodName)) ∈ lw_all := lw_g (lw_at lw_m1 236 rfl) rfl
theorem q260 : (Jvm.Cond.selects "DisjunctiveTimesModel" ({ cls := "DisjunctiveTimesModel", name := "clear", desc := "()I" } : Jvm.MethodName) ({ cls := "DisjunctiveTimesModel", name := "clear", desc := "()I" } : Jvm.MethodName)) ∈ lw_all := lw_g (lw_at lw_m1 237 rfl) rfl
theorem q261 : (Jvm.Cond.code ({ cls := "DisjunctiveTimesModel", name := "clear", desc := "()I" } : Jvm.MethodName) prog_3_method_7_code (2 : Nat) (Option.some Jvm.ClassFile.FieldType.int)) ∈ lw_all := lw_g (lw_at lw_m1 238 rfl) rfl
theorem q263 : (Jvm.Cond.instanceMethod ({ cls := "DisjunctiveTimesModel", name := "add", desc := "()I" } : Jvm.MethodName)) ∈ lw_all := lw_g (lw_at lw_m2 0 rfl) rfl
theorem q264 : (Jvm.Cond.selects "DisjunctiveTimesModel" ({ cls := "DisjunctiveTimesModel", name := "add", desc := "()I" } : Jvm.MethodName) ({ cls := "DisjunctiveTimesModel", name := "add", desc := "()I" } : Jvm.MethodName)) ∈ lw_all := lw_g (lw_at lw_m2 1 rfl) rfl
theorem q265 : (Jvm.Cond.code ({ cls := "DisjunctiveTimesModel", name := "add", desc := "()I" } : Jvm.MethodName) prog_3_method_9_code (1 : Nat) (Option.some Jvm.ClassFile.FieldType.int)) ∈ lw_all := lw_g (lw_at lw_m2 2 rfl) rfl
theorem q266 : (Jvm.Cond.methodLink "DisjunctiveTimesModel" (43 : Nat) ({ cls := "DisjunctiveTimesModel", name := "copy", desc := "(II)V" } : Jvm.MethodName)) ∈ lw_all := lw_g (lw_at lw_m2 3 rfl) rfl
theorem q267 : (Jvm.Cond.privateMethod ({ cls := "DisjunctiveTimesModel", name := "copy", desc := "(II)V" } : Jvm.MethodName)) ∈ lw_tbl := lw_at lw_m2 4 rfl
theorem q268 : (Jvm.Cond.instanceMethod ({ cls := "DisjunctiveTimesModel", name := "copy", desc := "(II)V" } : Jvm.MethodName)) ∈ lw_all := lw_g (lw_at lw_m2 5 rfl) rfl
theorem q269 : (Jvm.Cond.code ({ cls := "DisjunctiveTimesModel", name := "copy", desc := "(II)V" } : Jvm.MethodName) prog_3_method_8_code (4 : Nat) (Option.none : Option Jvm.ClassFile.FieldType)) ∈ lw_all := lw_g (lw_at lw_m2 6 rfl) rfl
theorem q271 : (Jvm.Cond.instanceMethod ({ cls := "DisjunctiveTimesModel", name := "apart", desc := "(III)I" } : Jvm.MethodName)) ∈ lw_all := lw_g (lw_at lw_m2 8 rfl) rfl
theorem q272 : (Jvm.Cond.selects "DisjunctiveTimesModel" ({ cls := "DisjunctiveTimesModel", name := "apart", desc := "(III)I" } : Jvm.MethodName) ({ cls := "DisjunctiveTimesModel", name := "apart", desc := "(III)I" } : Jvm.MethodName)) ∈ lw_all := lw_g (lw_at lw_m2 9 rfl) rfl
theorem q273 : (Jvm.Cond.code ({ cls := "DisjunctiveTimesModel", name := "apart", desc := "(III)I" } : Jvm.MethodName) prog_3_method_10_code (7 : Nat) (Option.some Jvm.ClassFile.FieldType.int)) ∈ lw_all := lw_g (lw_at lw_m2 10 rfl) rfl
theorem q274 : (Jvm.Cond.methodLink "DisjunctiveTimesModel" (47 : Nat) ({ cls := "DisjunctiveTimesModel", name := "badEvent", desc := "(I)Z" } : Jvm.MethodName)) ∈ lw_all := lw_g (lw_at lw_m2 11 rfl) rfl
theorem q275 : (Jvm.Cond.privateMethod ({ cls := "DisjunctiveTimesModel", name := "badEvent", desc := "(I)Z" } : Jvm.MethodName)) ∈ lw_tbl := lw_at lw_m2 12 rfl
theorem q276 : (Jvm.Cond.instanceMethod ({ cls := "DisjunctiveTimesModel", name := "badEvent", desc := "(I)Z" } : Jvm.MethodName)) ∈ lw_all := lw_g (lw_at lw_m2 13 rfl) rfl
theorem q277 : (Jvm.Cond.code ({ cls := "DisjunctiveTimesModel", name := "badEvent", desc := "(I)Z" } : Jvm.MethodName) prog_3_method_3_code (2 : Nat) (Option.some Jvm.ClassFile.FieldType.boolean)) ∈ lw_all := lw_g (lw_at lw_m2 14 rfl) rfl
theorem q279 : (Jvm.Cond.instanceMethod ({ cls := "DisjunctiveTimesModel", name := "remove", desc := "(I)I" } : Jvm.MethodName)) ∈ lw_all := lw_g (lw_at lw_m2 16 rfl) rfl
theorem q280 : (Jvm.Cond.selects "DisjunctiveTimesModel" ({ cls := "DisjunctiveTimesModel", name := "remove", desc := "(I)I" } : Jvm.MethodName) ({ cls := "DisjunctiveTimesModel", name := "remove", desc := "(I)I" } : Jvm.MethodName)) ∈ lw_all := lw_g (lw_at lw_m2 17 rfl) rfl
theorem q281 : (Jvm.Cond.code ({ cls := "DisjunctiveTimesModel", name := "remove", desc := "(I)I" } : Jvm.MethodName) prog_3_method_11_code (3 : Nat) (Option.some Jvm.ClassFile.FieldType.int)) ∈ lw_all := lw_g (lw_at lw_m2 18 rfl) rfl
theorem q283 : (Jvm.Cond.instanceMethod ({ cls := "DisjunctiveTimesModel", name := "size", desc := "()I" } : Jvm.MethodName)) ∈ lw_all := lw_g (lw_at lw_m2 20 rfl) rfl
theorem q284 : (Jvm.Cond.selects "DisjunctiveTimesModel" ({ cls := "DisjunctiveTimesModel", name := "size", desc := "()I" } : Jvm.MethodName) ({ cls := "DisjunctiveTimesModel", name := "size", desc := "()I" } : Jvm.MethodName)) ∈ lw_all := lw_g (lw_at lw_m2 21 rfl) rfl
theorem q285 : (Jvm.Cond.code ({ cls := "DisjunctiveTimesModel", name := "size", desc := "()I" } : Jvm.MethodName) prog_3_method_12_code (1 : Nat) (Option.some Jvm.ClassFile.FieldType.int)) ∈ lw_all := lw_g (lw_at lw_m2 22 rfl) rfl
theorem q287 : (Jvm.Cond.instanceMethod ({ cls := "DisjunctiveTimesModel", name := "solvable", desc := "()I" } : Jvm.MethodName)) ∈ lw_all := lw_g (lw_at lw_m2 24 rfl) rfl
theorem q288 : (Jvm.Cond.selects "DisjunctiveTimesModel" ({ cls := "DisjunctiveTimesModel", name := "solvable", desc := "()I" } : Jvm.MethodName) ({ cls := "DisjunctiveTimesModel", name := "solvable", desc := "()I" } : Jvm.MethodName)) ∈ lw_all := lw_g (lw_at lw_m2 25 rfl) rfl
theorem q289 : (Jvm.Cond.code ({ cls := "DisjunctiveTimesModel", name := "solvable", desc := "()I" } : Jvm.MethodName) prog_3_method_18_code (1 : Nat) (Option.some Jvm.ClassFile.FieldType.int)) ∈ lw_all := lw_g (lw_at lw_m2 26 rfl) rfl
theorem q290 : (Jvm.Cond.methodLink "DisjunctiveTimesModel" (62 : Nat) ({ cls := "DisjunctiveTimesModel", name := "possible", desc := "(I)Z" } : Jvm.MethodName)) ∈ lw_all := lw_g (lw_at lw_m2 27 rfl) rfl
theorem q291 : (Jvm.Cond.privateMethod ({ cls := "DisjunctiveTimesModel", name := "possible", desc := "(I)Z" } : Jvm.MethodName)) ∈ lw_tbl := lw_at lw_m2 28 rfl
theorem q292 : (Jvm.Cond.instanceMethod ({ cls := "DisjunctiveTimesModel", name := "possible", desc := "(I)Z" } : Jvm.MethodName)) ∈ lw_all := lw_g (lw_at lw_m2 29 rfl) rfl
theorem q293 : (Jvm.Cond.code ({ cls := "DisjunctiveTimesModel", name := "possible", desc := "(I)Z" } : Jvm.MethodName) prog_3_method_17_code (3 : Nat) (Option.some Jvm.ClassFile.FieldType.boolean)) ∈ lw_all := lw_g (lw_at lw_m2 30 rfl) rfl
theorem q294 : (Jvm.Cond.methodLink "DisjunctiveTimesModel" (58 : Nat) ({ cls := "DisjunctiveTimesModel", name := "meetsFirst", desc := "(III)Z" } : Jvm.MethodName)) ∈ lw_all := lw_g (lw_at lw_m2 31 rfl) rfl
theorem q295 : (Jvm.Cond.privateMethod ({ cls := "DisjunctiveTimesModel", name := "meetsFirst", desc := "(III)Z" } : Jvm.MethodName)) ∈ lw_tbl := lw_at lw_m2 32 rfl
theorem q296 : (Jvm.Cond.instanceMethod ({ cls := "DisjunctiveTimesModel", name := "meetsFirst", desc := "(III)Z" } : Jvm.MethodName)) ∈ lw_all := lw_g (lw_at lw_m2 33 rfl) rfl
theorem q297 : (Jvm.Cond.code ({ cls := "DisjunctiveTimesModel", name := "meetsFirst", desc := "(III)Z" } : Jvm.MethodName) prog_3_method_15_code (5 : Nat) (Option.some Jvm.ClassFile.FieldType.boolean)) ∈ lw_all := lw_g (lw_at lw_m2 34 rfl) rfl
theorem q298 : (Jvm.Cond.methodLink "DisjunctiveTimesModel" (54 : Nat) ({ cls := "DisjunctiveTimesModel", name := "met", desc := "(II)Z" } : Jvm.MethodName)) ∈ lw_all := lw_g (lw_at lw_m2 35 rfl) rfl
theorem q299 : (Jvm.Cond.privateMethod ({ cls := "DisjunctiveTimesModel", name := "met", desc := "(II)Z" } : Jvm.MethodName)) ∈ lw_tbl := lw_at lw_m2 36 rfl
theorem q300 : (Jvm.Cond.instanceMethod ({ cls := "DisjunctiveTimesModel", name := "met", desc := "(II)Z" } : Jvm.MethodName)) ∈ lw_all := lw_g (lw_at lw_m2 37 rfl) rfl
theorem q301 : (Jvm.Cond.code ({ cls := "DisjunctiveTimesModel", name := "met", desc := "(II)Z" } : Jvm.MethodName) prog_3_method_14_code (6 : Nat) (Option.some Jvm.ClassFile.FieldType.boolean)) ∈ lw_all := lw_g (lw_at lw_m2 38 rfl) rfl
theorem q302 : (Jvm.Cond.methodLink "DisjunctiveTimesModel" (50 : Nat) ({ cls := "DisjunctiveTimesModel", name := "time", desc := "(II)I" } : Jvm.MethodName)) ∈ lw_all := lw_g (lw_at lw_m2 39 rfl) rfl
theorem q303 : (Jvm.Cond.privateMethod ({ cls := "DisjunctiveTimesModel", name := "time", desc := "(II)I" } : Jvm.MethodName)) ∈ lw_tbl := lw_at lw_m2 40 rfl
theorem q304 : (Jvm.Cond.instanceMethod ({ cls := "DisjunctiveTimesModel", name := "time", desc := "(II)I" } : Jvm.MethodName)) ∈ lw_all := lw_g (lw_at lw_m2 41 rfl) rfl
theorem q305 : (Jvm.Cond.code ({ cls := "DisjunctiveTimesModel", name := "time", desc := "(II)I" } : Jvm.MethodName) prog_3_method_13_code (3 : Nat) (Option.some Jvm.ClassFile.FieldType.int)) ∈ lw_all := lw_g (lw_at lw_m2 42 rfl) rfl
theorem q307 : (Jvm.Cond.instanceMethod ({ cls := "DisjunctiveTimesModel", name := "earliest", desc := "(I)I" } : Jvm.MethodName)) ∈ lw_all := lw_g (lw_at lw_m2 44 rfl) rfl
theorem q308 : (Jvm.Cond.selects "DisjunctiveTimesModel" ({ cls := "DisjunctiveTimesModel", name := "earliest", desc := "(I)I" } : Jvm.MethodName) ({ cls := "DisjunctiveTimesModel", name := "earliest", desc := "(I)I" } : Jvm.MethodName)) ∈ lw_all := lw_g (lw_at lw_m2 45 rfl) rfl
theorem q309 : (Jvm.Cond.code ({ cls := "DisjunctiveTimesModel", name := "earliest", desc := "(I)I" } : Jvm.MethodName) prog_3_method_20_code (3 : Nat) (Option.some Jvm.ClassFile.FieldType.int)) ∈ lw_all := lw_g (lw_at lw_m2 46 rfl) rfl
theorem q310 : (Jvm.Cond.methodLink "DisjunctiveTimesModel" (68 : Nat) ({ cls := "DisjunctiveTimesModel", name := "greatest", desc := "(II)I" } : Jvm.MethodName)) ∈ lw_all := lw_g (lw_at lw_m2 47 rfl) rfl
theorem q311 : (Jvm.Cond.privateMethod ({ cls := "DisjunctiveTimesModel", name := "greatest", desc := "(II)I" } : Jvm.MethodName)) ∈ lw_tbl := lw_at lw_m2 48 rfl
theorem q312 : (Jvm.Cond.instanceMethod ({ cls := "DisjunctiveTimesModel", name := "greatest", desc := "(II)I" } : Jvm.MethodName)) ∈ lw_all := lw_g (lw_at lw_m2 49 rfl) rfl
theorem q313 : (Jvm.Cond.code ({ cls := "DisjunctiveTimesModel", name := "greatest", desc := "(II)I" } : Jvm.MethodName) prog_3_method_19_code (6 : Nat) (Option.some Jvm.ClassFile.FieldType.int)) ∈ lw_all := lw_g (lw_at lw_m2 50 rfl) rfl
theorem q314 : (Jvm.Cond.methodLink "DisjunctiveTimesModel" (65 : Nat) ({ cls := "DisjunctiveTimesModel", name := "solution", desc := "(I)Z" } : Jvm.MethodName)) ∈ lw_all := lw_g (lw_at lw_m2 51 rfl) rfl
theorem q315 : (Jvm.Cond.privateMethod ({ cls := "DisjunctiveTimesModel", name := "solution", desc := "(I)Z" } : Jvm.MethodName)) ∈ lw_tbl := lw_at lw_m2 52 rfl
theorem q316 : (Jvm.Cond.instanceMethod ({ cls := "DisjunctiveTimesModel", name := "solution", desc := "(I)Z" } : Jvm.MethodName)) ∈ lw_all := lw_g (lw_at lw_m2 53 rfl) rfl
theorem q317 : (Jvm.Cond.code ({ cls := "DisjunctiveTimesModel", name := "solution", desc := "(I)Z" } : Jvm.MethodName) prog_3_method_16_code (2 : Nat) (Option.some Jvm.ClassFile.FieldType.boolean)) ∈ lw_all := lw_g (lw_at lw_m2 54 rfl) rfl
theorem q319 : (Jvm.Cond.instanceMethod ({ cls := "DisjunctiveTimesModel", name := "latest", desc := "(I)I" } : Jvm.MethodName)) ∈ lw_all := lw_g (lw_at lw_m2 56 rfl) rfl
theorem q320 : (Jvm.Cond.selects "DisjunctiveTimesModel" ({ cls := "DisjunctiveTimesModel", name := "latest", desc := "(I)I" } : Jvm.MethodName) ({ cls := "DisjunctiveTimesModel", name := "latest", desc := "(I)I" } : Jvm.MethodName)) ∈ lw_all := lw_g (lw_at lw_m2 57 rfl) rfl
theorem q321 : (Jvm.Cond.code ({ cls := "DisjunctiveTimesModel", name := "latest", desc := "(I)I" } : Jvm.MethodName) prog_3_method_21_code (3 : Nat) (Option.some Jvm.ClassFile.FieldType.int)) ∈ lw_all := lw_g (lw_at lw_m2 58 rfl) rfl
theorem q323 : (Jvm.Cond.instanceMethod ({ cls := "DisjunctiveTimesModel", name := "widest", desc := "(II)I" } : Jvm.MethodName)) ∈ lw_all := lw_g (lw_at lw_m2 60 rfl) rfl
theorem q324 : (Jvm.Cond.selects "DisjunctiveTimesModel" ({ cls := "DisjunctiveTimesModel", name := "widest", desc := "(II)I" } : Jvm.MethodName) ({ cls := "DisjunctiveTimesModel", name := "widest", desc := "(II)I" } : Jvm.MethodName)) ∈ lw_all := lw_g (lw_at lw_m2 61 rfl) rfl
theorem q325 : (Jvm.Cond.code ({ cls := "DisjunctiveTimesModel", name := "widest", desc := "(II)I" } : Jvm.MethodName) prog_3_method_22_code (3 : Nat) (Option.some Jvm.ClassFile.FieldType.int)) ∈ lw_all := lw_g (lw_at lw_m2 62 rfl) rfl
theorem q327 : (Jvm.Cond.instanceMethod ({ cls := "DisjunctiveTimesModel", name := "next", desc := "(I)I" } : Jvm.MethodName)) ∈ lw_all := lw_g (lw_at lw_m2 64 rfl) rfl
theorem q328 : (Jvm.Cond.selects "DisjunctiveTimesModel" ({ cls := "DisjunctiveTimesModel", name := "next", desc := "(I)I" } : Jvm.MethodName) ({ cls := "DisjunctiveTimesModel", name := "next", desc := "(I)I" } : Jvm.MethodName)) ∈ lw_all := lw_g (lw_at lw_m2 65 rfl) rfl
theorem q329 : (Jvm.Cond.code ({ cls := "DisjunctiveTimesModel", name := "next", desc := "(I)I" } : Jvm.MethodName) prog_3_method_23_code (3 : Nat) (Option.some Jvm.ClassFile.FieldType.int)) ∈ lw_all := lw_g (lw_at lw_m2 66 rfl) rfl
theorem q331 : (Jvm.Cond.instanceMethod ({ cls := "DisjunctiveTimesModel", name := "meets", desc := "(I)I" } : Jvm.MethodName)) ∈ lw_all := lw_g (lw_at lw_m2 68 rfl) rfl
theorem q332 : (Jvm.Cond.selects "DisjunctiveTimesModel" ({ cls := "DisjunctiveTimesModel", name := "meets", desc := "(I)I" } : Jvm.MethodName) ({ cls := "DisjunctiveTimesModel", name := "meets", desc := "(I)I" } : Jvm.MethodName)) ∈ lw_all := lw_g (lw_at lw_m2 69 rfl) rfl
theorem q333 : (Jvm.Cond.code ({ cls := "DisjunctiveTimesModel", name := "meets", desc := "(I)I" } : Jvm.MethodName) prog_3_method_24_code (2 : Nat) (Option.some Jvm.ClassFile.FieldType.int)) ∈ lw_all := lw_g (lw_at lw_m2 70 rfl) rfl
theorem q335 : (Jvm.Cond.instanceMethod ({ cls := "DisjunctiveTimesModel", name := "shortest", desc := "()I" } : Jvm.MethodName)) ∈ lw_all := lw_g (lw_at lw_m2 72 rfl) rfl
theorem q336 : (Jvm.Cond.selects "DisjunctiveTimesModel" ({ cls := "DisjunctiveTimesModel", name := "shortest", desc := "()I" } : Jvm.MethodName) ({ cls := "DisjunctiveTimesModel", name := "shortest", desc := "()I" } : Jvm.MethodName)) ∈ lw_all := lw_g (lw_at lw_m2 73 rfl) rfl
theorem q337 : (Jvm.Cond.code ({ cls := "DisjunctiveTimesModel", name := "shortest", desc := "()I" } : Jvm.MethodName) prog_3_method_25_code (5 : Nat) (Option.some Jvm.ClassFile.FieldType.int)) ∈ lw_all := lw_g (lw_at lw_m2 74 rfl) rfl
theorem q339 : (Jvm.Cond.instanceMethod ({ cls := "DisjunctiveTimesModel", name := "entailed", desc := "()I" } : Jvm.MethodName)) ∈ lw_all := lw_g (lw_at lw_m2 76 rfl) rfl
theorem q340 : (Jvm.Cond.selects "DisjunctiveTimesModel" ({ cls := "DisjunctiveTimesModel", name := "entailed", desc := "()I" } : Jvm.MethodName) ({ cls := "DisjunctiveTimesModel", name := "entailed", desc := "()I" } : Jvm.MethodName)) ∈ lw_all := lw_g (lw_at lw_m2 77 rfl) rfl
theorem q341 : (Jvm.Cond.code ({ cls := "DisjunctiveTimesModel", name := "entailed", desc := "()I" } : Jvm.MethodName) prog_3_method_26_code (2 : Nat) (Option.some Jvm.ClassFile.FieldType.int)) ∈ lw_all := lw_g (lw_at lw_m2 78 rfl) rfl
theorem q343 : (Jvm.Cond.instanceMethod ({ cls := "DisjunctiveTimesModel", name := "redundant", desc := "(I)I" } : Jvm.MethodName)) ∈ lw_all := lw_g (lw_at lw_m2 80 rfl) rfl
theorem q344 : (Jvm.Cond.selects "DisjunctiveTimesModel" ({ cls := "DisjunctiveTimesModel", name := "redundant", desc := "(I)I" } : Jvm.MethodName) ({ cls := "DisjunctiveTimesModel", name := "redundant", desc := "(I)I" } : Jvm.MethodName)) ∈ lw_all := lw_g (lw_at lw_m2 81 rfl) rfl
theorem q345 : (Jvm.Cond.code ({ cls := "DisjunctiveTimesModel", name := "redundant", desc := "(I)I" } : Jvm.MethodName) prog_3_method_27_code (3 : Nat) (Option.some Jvm.ClassFile.FieldType.int)) ∈ lw_all := lw_g (lw_at lw_m2 82 rfl) rfl
theorem q347 : (Jvm.Cond.instanceMethod ({ cls := "DisjunctiveTimesModel", name := "excess", desc := "()I" } : Jvm.MethodName)) ∈ lw_all := lw_g (lw_at lw_m2 84 rfl) rfl
theorem q348 : (Jvm.Cond.selects "DisjunctiveTimesModel" ({ cls := "DisjunctiveTimesModel", name := "excess", desc := "()I" } : Jvm.MethodName) ({ cls := "DisjunctiveTimesModel", name := "excess", desc := "()I" } : Jvm.MethodName)) ∈ lw_all := lw_g (lw_at lw_m2 85 rfl) rfl
theorem q349 : (Jvm.Cond.code ({ cls := "DisjunctiveTimesModel", name := "excess", desc := "()I" } : Jvm.MethodName) prog_3_method_28_code (2 : Nat) (Option.some Jvm.ClassFile.FieldType.int)) ∈ lw_all := lw_g (lw_at lw_m2 86 rfl) rfl
theorem in_X2 : ∀ w ∈ wsX20, w ∈ lw_all := lw_in wsX20 [225, 227, 229, 231, 233, 235, 237, 239] (by decide +kernel) (by decide +kernel)
theorem q86 : (Jvm.Cond.arrayClass Jvm.ClassFile.FieldType.int) ∈ lw_all := lw_g (lw_at lw_m1 63 rfl) rfl
end
section
/-! BASE: numbers as Int (iI), the judgement gW (world, pc, locals, stack), one row an instruction -/
set_option maxRecDepth 100000
def iI (z : Int) : Int32 := Int32.ofInt z
theorem iI_toInt {z : Int} (h : -2147483648 ≤ z ∧ z < 2147483648) : (iI z).toInt = z := Int32.toInt_ofInt_of_le (by omega) (by omega)
theorem iI_of (x : Int32) : iI x.toInt = x := Int32.ofInt_toInt x
theorem iI_rg (x : Int32) : -2147483648 ≤ x.toInt ∧ x.toInt < 2147483648 := ⟨by have := Int32.le_toInt x; omega, by have := Int32.toInt_lt x; omega⟩
theorem iI_ex (x : Int32) : ∃ z : Int, x = iI z ∧ -2147483648 ≤ z ∧ z < 2147483648 := ⟨x.toInt, (iI_of x).symm, iI_rg x⟩
theorem iI_add (a b : Int) : iI a + iI b = iI (a + b) := (Int32.ofInt_add a b).symm
theorem iI_sub (a b : Int) : iI a - iI b = iI (a - b) := (Int32.ofInt_sub a b).symm
theorem iI_mul (a b : Int) : iI a * iI b = iI (a * b) := (Int32.ofInt_mul a b).symm
theorem iI_neg (a : Int) : -(iI a) = iI (-a) := (Int32.ofInt_neg a).symm
theorem iI_nI (n : Nat) : nI n = iI (n : Int) := Int32.ofInt_eq_ofNat.symm
theorem iI_lt {a b : Int} (ha : -2147483648 ≤ a ∧ a < 2147483648) (hb : -2147483648 ≤ b ∧ b < 2147483648) : iI a < iI b ↔ a < b := by
  rw [Int32.lt_iff_toInt_lt, iI_toInt ha, iI_toInt hb]
theorem iI_le {a b : Int} (ha : -2147483648 ≤ a ∧ a < 2147483648) (hb : -2147483648 ≤ b ∧ b < 2147483648) : iI a ≤ iI b ↔ a ≤ b := by
  rw [Int32.le_iff_toInt_le, iI_toInt ha, iI_toInt hb]
theorem iI_eq {a b : Int} (ha : -2147483648 ≤ a ∧ a < 2147483648) (hb : -2147483648 ≤ b ∧ b < 2147483648) : iI a = iI b ↔ a = b := by
  rw [← Int32.toInt_inj, iI_toInt ha, iI_toInt hb]
theorem iI_nat {z : Int} (h0 : 0 ≤ z) : ∃ n : Nat, z = (n : Int) := ⟨z.toNat, by omega⟩
theorem iI_clamp {z : Int} (h0 : 0 ≤ z) (h : z < 2147483648) : (iI z).toNatClampNeg = z.toNat := by
  obtain ⟨n, rfl⟩ := iI_nat h0
  rw [← iI_nI, nI_clamp (by omega)]
  omega
theorem iI_in {z : Int} {n : Nat} (h0 : 0 ≤ z) (h : z < n) (hn : n < 2147483648) : vp_in (iI z) n := by
  rw [vp_in_iff, iI_toInt ⟨by omega, by omega⟩]
  exact ⟨h0, h⟩
theorem iI_div {a d : Int} (ha : 0 ≤ a ∧ a < 2147483648) (hd : 0 < d ∧ d < 2147483648) : iI a / iI d = iI (a / d) := by
  obtain ⟨n, rfl⟩ := iI_nat ha.1
  obtain ⟨m, rfl⟩ := iI_nat (show 0 ≤ d by omega)
  rw [← iI_nI, ← iI_nI, pk_div (by omega) (by omega) (by omega), iI_nI]
  rfl
theorem iI_rem {a d : Int} (ha : 0 ≤ a ∧ a < 2147483648) (hd : 0 < d ∧ d < 2147483648) : iI a - iI a / iI d * iI d = iI (a % d) := by
  obtain ⟨n, rfl⟩ := iI_nat ha.1
  obtain ⟨m, rfl⟩ := iI_nat (show 0 ≤ d by omega)
  rw [← iI_nI, ← iI_nI, pk_rem (by omega) (by omega) (by omega), iI_nI]
  rfl
/-- an array's contents with one place changed -/
def iU (f : Int → Int) (i x : Int) : Int → Int := fun j => if j = i then x else f j
theorem iU_s {f : Int → Int} {i x : Int} : iU f i x i = x := if_pos rfl
theorem iU_n {f : Int → Int} {i x j : Int} (h : j ≠ i) : iU f i x j = f j := if_neg h
/-- the array's cells -/
def iA (f : Int → Int) : Nat → Int32 := fun j => iI (f (j : Int))
theorem iA_at {f : Int → Int} {i : Int} (h0 : 0 ≤ i) (h : i < 2147483648) : iA f (iI i).toNatClampNeg = iI (f i) := by
  rw [iI_clamp h0 h]
  unfold iA
  rw [show ((i.toNat : Nat) : Int) = i by omega]
theorem iA_up {f : Int → Int} {i x : Int} (h0 : 0 ≤ i) (h : i < 2147483648) : upd (iA f) (iI i).toNatClampNeg (iI x) = iA (iU f i x) := by
  rw [iI_clamp h0 h]
  funext j
  unfold upd iA iU
  by_cases hj : j = i.toNat
  · rw [if_pos hj, if_pos (by omega)]
  · rw [if_neg hj, if_neg (by omega)]
/-- an int value -/
def vI (x : Int) : Value := .int (iI x)
theorem vI_cat (x : Int) : (vI x).category = 1 := rfl
/-- the classes whose objects the worlds hold -/
abbrev clX : List vw_C := [(RX1, TX1, 17), (RX2, TX2, 8)]
/-- all that stays fixed while a method runs -/
abbrev gK : Type := Program × Launch × Env × Room × State × MethodId × Array Value × List Frame × Method × Code × Nat × Nat × (State → Prop) × va_G × (Nat → Prop) × Nat
/-- from any heap that holds the world w, at pc, with these locals and this stack, the machine comes to Q -/
def gW (k : gK) (w : va_W) (pc : Nat) (lv : List (Nat × Value)) (st : List Value) : Prop := match k with
  | (p, l, e, R, s, m, args, below, meth, c, cells, slots, Q, D, A, nL) => ∀ (ls : Array Slot) (H : Heap) (locs : List Loc), lv_has ls nL lv → va_P D clX w H → va_D A w → va_S A s.heap H locs → W p l e R s m args below meth c H locs cells slots Q (F0 m pc ls st)
/-- what is known of it: the code, the tables' words, the room left (n levels of calls), the locals' number -/
def gC (k : gK) (cc : ByteArray) (own : String) (tys : List (ClassId × FieldType)) (n L : Nat) : Prop := match k with
  | (p, l, e, R, s, m, args, below, meth, c, cells, slots, Q, D, A, nL) => p.tables.exec = Jvm.exec ∧ c.code = cc ∧ c.maxLocals = nL ∧ s.vm.findClass own = some m.cls ∧ (∀ w ∈ lw_all, w.before args s = true) ∧ va_K D clX tys s ∧ (∀ q : Nat, s.heap.size ≤ q → A q) ∧ (n ≤ R.frames ∧ 30 * n ≤ R.locals ∧ cells ≤ R.cells ∧ slots ≤ R.slots) ∧ nL = L
section
variable {k : gK} {cc : ByteArray} {own : String} {tys : List (ClassId × FieldType)} {n L : Nat} {w : va_W} {pc : Nat} {lv : List (Nat × Value)} {st : List Value}
theorem g_iconst (hC : gC k cc own tys n L) {z : Int} (hd : decode cc pc = .ok (.iconst z, 1)) (kk : gW k w (pc + 1) lv (vI z :: st)) : gW k w pc lv st := by
  obtain ⟨p, l, e, R, s, m, args, below, meth, c, cells, slots, Q, D, A, nL⟩ := k
  intro ls H locs hl hP hD hS
  exact lv_iconst hC.1 hC.2.1 hd rfl (kk ls H locs hl hP hD hS)
theorem g_bipush (hC : gC k cc own tys n L) {z : Int} (hd : decode cc pc = .ok (.bipush z, 2)) (hz : (Int8.ofInt z).toInt32 = iI z) (kk : gW k w (pc + 2) lv (vI z :: st)) : gW k w pc lv st := by
  obtain ⟨p, l, e, R, s, m, args, below, meth, c, cells, slots, Q, D, A, nL⟩ := k
  intro ls H locs hl hP hD hS
  exact lv_bipush hC.1 hC.2.1 hd hz (kk ls H locs hl hP hD hS)
theorem g_sipush (hC : gC k cc own tys n L) {z : Int} (hd : decode cc pc = .ok (.sipush z, 3)) (hz : (Int16.ofInt z).toInt32 = iI z) (kk : gW k w (pc + 3) lv (vI z :: st)) : gW k w pc lv st := by
  obtain ⟨p, l, e, R, s, m, args, below, meth, c, cells, slots, Q, D, A, nL⟩ := k
  intro ls H locs hl hP hD hS
  exact lv_sipush hC.1 hC.2.1 hd hz (kk ls H locs hl hP hD hS)
theorem g_ldc (hC : gC k cc own tys n L) {z : Int} {x : Int32} {index : Nat} (hq : Cond.constant own index x ∈ lw_all) (hx : x = iI z) (hd : decode cc pc = .ok (.ldc index, 2)) (kk : gW k w (pc + 2) lv (vI z :: st)) : gW k w pc lv st := by
  subst hx
  obtain ⟨p, l, e, R, s, m, args, below, meth, c, cells, slots, Q, D, A, nL⟩ := k
  intro ls H locs hl hP hD hS
  exact lv_ldc hC.1 hC.2.1 hC.2.2.2.1 (hC.2.2.2.2.1 _ hq) hd (kk ls H locs hl hP hD hS)
theorem g_iload_n (hC : gC k cc own tys n L) {j : Fin 4} {i : Nat} {x : Int} (hd : decode cc pc = .ok (.iload_n j, 1)) (hi : (j : Nat) = i) (q : Nat) (hq : lv[q]? = some (i, vI x)) (kk : gW k w (pc + 1) lv (vI x :: st)) : gW k w pc lv st := by
  obtain ⟨p, l, e, R, s, m, args, below, meth, c, cells, slots, Q, D, A, nL⟩ := k
  intro ls H locs hl hP hD hS
  exact lv_iload_n hC.1 hC.2.1 hd hi (lv_at hl q hq) (kk ls H locs hl hP hD hS)
theorem g_iload (hC : gC k cc own tys n L) {i : Nat} {x : Int} (hd : decode cc pc = .ok (.iload i, 2)) (q : Nat) (hq : lv[q]? = some (i, vI x)) (kk : gW k w (pc + 2) lv (vI x :: st)) : gW k w pc lv st := by
  obtain ⟨p, l, e, R, s, m, args, below, meth, c, cells, slots, Q, D, A, nL⟩ := k
  intro ls H locs hl hP hD hS
  exact lv_iload hC.1 hC.2.1 hd (lv_at hl q hq) (kk ls H locs hl hP hD hS)
theorem g_aload_n (hC : gC k cc own tys n L) {j : Fin 4} {i : Nat} {x : Nat} (hd : decode cc pc = .ok (.aload_n j, 1)) (hi : (j : Nat) = i) (q : Nat) (hq : lv[q]? = some (i, .ref x)) (kk : gW k w (pc + 1) lv (.ref x :: st)) : gW k w pc lv st := by
  obtain ⟨p, l, e, R, s, m, args, below, meth, c, cells, slots, Q, D, A, nL⟩ := k
  intro ls H locs hl hP hD hS
  exact lv_aload_n hC.1 hC.2.1 hd hi (lv_at hl q hq) (kk ls H locs hl hP hD hS)
theorem g_istore_n (hC : gC k cc own tys n L) {j : Fin 4} {i : Nat} {x : Int} (lv' : List (Nat × Value)) (hd : decode cc pc = .ok (.istore_n j, 1)) (hi : (j : Nat) = i) (hn : i < L) (hl' : (i, vI x) :: lv.filter (fun q => !(q.1 == i) && !(q.1 + 1 == i && q.2.category == 2)) = lv') (kk : gW k w (pc + 1) lv' st) : gW k w pc lv (vI x :: st) := by
  obtain ⟨p, l, e, R, s, m, args, below, meth, c, cells, slots, Q, D, A, nL⟩ := k
  intro ls H locs hl hP hD hS
  have hL : nL = L := hC.2.2.2.2.2.2.2.2
  exact lv_istore_n hC.1 hC.2.1 hd hi hl (by rw [hL]; exact hn) hl' (fun ls' hl2 => kk ls' H locs hl2 hP hD hS)
theorem g_istore (hC : gC k cc own tys n L) {i : Nat} {x : Int} (lv' : List (Nat × Value)) (hd : decode cc pc = .ok (.istore i, 2)) (hn : i < L) (hl' : (i, vI x) :: lv.filter (fun q => !(q.1 == i) && !(q.1 + 1 == i && q.2.category == 2)) = lv') (kk : gW k w (pc + 2) lv' st) : gW k w pc lv (vI x :: st) := by
  obtain ⟨p, l, e, R, s, m, args, below, meth, c, cells, slots, Q, D, A, nL⟩ := k
  intro ls H locs hl hP hD hS
  have hL : nL = L := hC.2.2.2.2.2.2.2.2
  exact lv_istore hC.1 hC.2.1 hd hl (by rw [hL]; exact hn) hl' (fun ls' hl2 => kk ls' H locs hl2 hP hD hS)
theorem g_astore_n (hC : gC k cc own tys n L) {j : Fin 4} {i : Nat} {x : Nat} (lv' : List (Nat × Value)) (hd : decode cc pc = .ok (.astore_n j, 1)) (hi : (j : Nat) = i) (hn : i < L) (hl' : (i, Value.ref x) :: lv.filter (fun q => !(q.1 == i) && !(q.1 + 1 == i && q.2.category == 2)) = lv') (kk : gW k w (pc + 1) lv' st) : gW k w pc lv (.ref x :: st) := by
  obtain ⟨p, l, e, R, s, m, args, below, meth, c, cells, slots, Q, D, A, nL⟩ := k
  intro ls H locs hl hP hD hS
  have hL : nL = L := hC.2.2.2.2.2.2.2.2
  exact lv_astore_n hC.1 hC.2.1 hd hi hl (by rw [hL]; exact hn) hl' (fun ls' hl2 => kk ls' H locs hl2 hP hD hS)
theorem g_iinc (hC : gC k cc own tys n L) {i : Nat} {z x : Int} (lv' : List (Nat × Value)) (hd : decode cc pc = .ok (.iinc i z, 3)) (q : Nat) (hq : lv[q]? = some (i, vI x)) (hn : i < L) (hl' : (i, vI (x + z)) :: lv.filter (fun q => !(q.1 == i) && !(q.1 + 1 == i && q.2.category == 2)) = lv') (kk : gW k w (pc + 3) lv' st) : gW k w pc lv st := by
  obtain ⟨p, l, e, R, s, m, args, below, meth, c, cells, slots, Q, D, A, nL⟩ := k
  intro ls H locs hl hP hD hS
  have hL : nL = L := hC.2.2.2.2.2.2.2.2
  exact lv_iinc (v := iI (x + z)) hC.1 hC.2.1 hd hl (k := q) (x := iI x) hq (iI_add x z) (by rw [hL]; exact hn) hl' (fun ls' hl2 => kk ls' H locs hl2 hP hD hS)
theorem g_iadd (hC : gC k cc own tys n L) {x y : Int} (hd : decode cc pc = .ok (.iadd, 1)) (kk : gW k w (pc + 1) lv (vI (x + y) :: st)) : gW k w pc lv (vI y :: vI x :: st) := by
  obtain ⟨p, l, e, R, s, m, args, below, meth, c, cells, slots, Q, D, A, nL⟩ := k
  intro ls H locs hl hP hD hS
  have h := kk ls H locs hl hP hD hS
  unfold vI at h ⊢
  rw [← iI_add] at h
  exact lv_iadd hC.1 hC.2.1 hd h
theorem g_isub (hC : gC k cc own tys n L) {x y : Int} (hd : decode cc pc = .ok (.isub, 1)) (kk : gW k w (pc + 1) lv (vI (x - y) :: st)) : gW k w pc lv (vI y :: vI x :: st) := by
  obtain ⟨p, l, e, R, s, m, args, below, meth, c, cells, slots, Q, D, A, nL⟩ := k
  intro ls H locs hl hP hD hS
  have h := kk ls H locs hl hP hD hS
  unfold vI at h ⊢
  rw [← iI_sub] at h
  exact lv_isub hC.1 hC.2.1 hd h
theorem g_imul (hC : gC k cc own tys n L) {x y : Int} (hd : decode cc pc = .ok (.imul, 1)) (kk : gW k w (pc + 1) lv (vI (x * y) :: st)) : gW k w pc lv (vI y :: vI x :: st) := by
  obtain ⟨p, l, e, R, s, m, args, below, meth, c, cells, slots, Q, D, A, nL⟩ := k
  intro ls H locs hl hP hD hS
  have h := kk ls H locs hl hP hD hS
  unfold vI at h ⊢
  rw [← iI_mul] at h
  exact lv_imul hC.1 hC.2.1 hd h
theorem g_ineg (hC : gC k cc own tys n L) {x : Int} (hd : decode cc pc = .ok (.ineg, 1)) (kk : gW k w (pc + 1) lv (vI (-x) :: st)) : gW k w pc lv (vI x :: st) := by
  obtain ⟨p, l, e, R, s, m, args, below, meth, c, cells, slots, Q, D, A, nL⟩ := k
  intro ls H locs hl hP hD hS
  have h := kk ls H locs hl hP hD hS
  unfold vI at h ⊢
  rw [← iI_neg] at h
  exact lv_ineg hC.1 hC.2.1 hd h
theorem g_idiv (hC : gC k cc own tys n L) {x y : Int} (hx : 0 ≤ x ∧ x < 2147483648) (hy : 0 < y ∧ y < 2147483648) (hd : decode cc pc = .ok (.idiv, 1)) (kk : gW k w (pc + 1) lv (vI (x / y) :: st)) : gW k w pc lv (vI y :: vI x :: st) := by
  obtain ⟨p, l, e, R, s, m, args, below, meth, c, cells, slots, Q, D, A, nL⟩ := k
  intro ls H locs hl hP hD hS
  have h := kk ls H locs hl hP hD hS
  have h0 : ¬ iI y = 0 := fun q => by
    have h1 : (iI y).toInt = (0 : Int32).toInt := by rw [q]
    rw [iI_toInt ⟨by omega, by omega⟩, Int32.toInt_zero] at h1
    omega
  unfold vI at h ⊢
  rw [← iI_div hx hy] at h
  exact lv_idiv hC.1 hC.2.1 hd h0 h
theorem g_irem (hC : gC k cc own tys n L) {x y : Int} (hx : 0 ≤ x ∧ x < 2147483648) (hy : 0 < y ∧ y < 2147483648) (hd : decode cc pc = .ok (.irem, 1)) (kk : gW k w (pc + 1) lv (vI (x % y) :: st)) : gW k w pc lv (vI y :: vI x :: st) := by
  obtain ⟨p, l, e, R, s, m, args, below, meth, c, cells, slots, Q, D, A, nL⟩ := k
  intro ls H locs hl hP hD hS
  have h := kk ls H locs hl hP hD hS
  have h0 : ¬ iI y = 0 := fun q => by
    have h1 : (iI y).toInt = (0 : Int32).toInt := by rw [q]
    rw [iI_toInt ⟨by omega, by omega⟩, Int32.toInt_zero] at h1
    omega
  unfold vI at h ⊢
  rw [← iI_rem hx hy] at h
  exact lv_irem hC.1 hC.2.1 hd h0 h
theorem g_dup (hC : gC k cc own tys n L) {v : Value} (hv : v.category = 1) (hd : decode cc pc = .ok (.dup, 1)) (kk : gW k w (pc + 1) lv (v :: v :: st)) : gW k w pc lv (v :: st) := by
  obtain ⟨p, l, e, R, s, m, args, below, meth, c, cells, slots, Q, D, A, nL⟩ := k
  intro ls H locs hl hP hD hS
  exact lv_dup hC.1 hC.2.1 hd hv (kk ls H locs hl hP hD hS)
theorem g_dup2 (hC : gC k cc own tys n L) {v u : Value} (hv : v.category = 1) (hu : u.category = 1) (hd : decode cc pc = .ok (.dup2, 1)) (kk : gW k w (pc + 1) lv (v :: u :: v :: u :: st)) : gW k w pc lv (v :: u :: st) := by
  obtain ⟨p, l, e, R, s, m, args, below, meth, c, cells, slots, Q, D, A, nL⟩ := k
  intro ls H locs hl hP hD hS
  exact lv_dup2_11 hC.1 hC.2.1 hd hv hu (kk ls H locs hl hP hD hS)
theorem g_goto (hC : gC k cc own tys n L) (tgt : Nat) {off : Int} (hd : decode cc pc = .ok (.goto off, 3)) (ht : (pc : Int) + off = (tgt : Int)) (kk : gW k w tgt lv st) : gW k w pc lv st := by
  obtain ⟨p, l, e, R, s, m, args, below, meth, c, cells, slots, Q, D, A, nL⟩ := k
  intro ls H locs hl hP hD hS
  exact lv_goto hC.1 hC.2.1 hd ht (kk ls H locs hl hP hD hS)
theorem g_name {x : Int} (kk : ∀ y : Int, y = x → gW k w pc lv (vI y :: st)) : gW k w pc lv (vI x :: st) := kk x rfl
theorem g_top {x y : Int} (h : x = y) (kk : gW k w pc lv (vI y :: st)) : gW k w pc lv (vI x :: st) := h ▸ kk
theorem g_lv {lv' : List (Nat × Value)} (ks : List Nat) (hl' : lv_pick lv ks = lv') (kk : gW k w pc lv' st) : gW k w pc lv st := by
  obtain ⟨p, l, e, R, s, m, args, below, meth, c, cells, slots, Q, D, A, nL⟩ := k
  intro ls H locs hl hP hD hS
  exact kk ls H locs (lv_sub hl ks hl') hP hD hS
theorem g_icmp_eq (hC : gC k cc own tys n L) {x y : Int} (tgt : Nat) {off : Int} (hd : decode cc pc = .ok (.if_icmp .eq off, 3)) (ht : (pc : Int) + off = (tgt : Int)) (hx : -2147483648 ≤ x ∧ x < 2147483648) (hy : -2147483648 ≤ y ∧ y < 2147483648) (kt : x = y → gW k w tgt lv st) (kf : ¬ x = y → gW k w (pc + 3) lv st) : gW k w pc lv (vI y :: vI x :: st) := by
  obtain ⟨p, l, e, R, s, m, args, below, meth, c, cells, slots, Q, D, A, nL⟩ := k
  intro ls H locs hl hP hD hS
  exact lv_icmp_eq hC.1 hC.2.1 hd ht (fun h => kt ((iI_eq hx hy).mp h) ls H locs hl hP hD hS) (fun h => kf (fun z => h ((iI_eq hx hy).mpr z)) ls H locs hl hP hD hS)
theorem g_if_eq (hC : gC k cc own tys n L) {x : Int} (tgt : Nat) {off : Int} (hd : decode cc pc = .ok (.ifCond .eq off, 3)) (ht : (pc : Int) + off = (tgt : Int)) (hx : -2147483648 ≤ x ∧ x < 2147483648) (kt : x = 0 → gW k w tgt lv st) (kf : ¬ x = 0 → gW k w (pc + 3) lv st) : gW k w pc lv (vI x :: st) := by
  obtain ⟨p, l, e, R, s, m, args, below, meth, c, cells, slots, Q, D, A, nL⟩ := k
  intro ls H locs hl hP hD hS
  have h0 : (-2147483648 : Int) ≤ 0 ∧ (0 : Int) < 2147483648 := by decide
  exact lv_if_eq hC.1 hC.2.1 hd ht (fun h => kt ((iI_eq hx h0).mp h) ls H locs hl hP hD hS) (fun h => kf (fun z => h ((iI_eq hx h0).mpr z)) ls H locs hl hP hD hS)
theorem g_icmp_lt (hC : gC k cc own tys n L) {x y : Int} (tgt : Nat) {off : Int} (hd : decode cc pc = .ok (.if_icmp .lt off, 3)) (ht : (pc : Int) + off = (tgt : Int)) (hx : -2147483648 ≤ x ∧ x < 2147483648) (hy : -2147483648 ≤ y ∧ y < 2147483648) (kt : x < y → gW k w tgt lv st) (kf : ¬ x < y → gW k w (pc + 3) lv st) : gW k w pc lv (vI y :: vI x :: st) := by
  obtain ⟨p, l, e, R, s, m, args, below, meth, c, cells, slots, Q, D, A, nL⟩ := k
  intro ls H locs hl hP hD hS
  exact lv_icmp_lt hC.1 hC.2.1 hd ht (fun h => kt ((iI_lt hx hy).mp h) ls H locs hl hP hD hS) (fun h => kf (fun z => h ((iI_lt hx hy).mpr z)) ls H locs hl hP hD hS)
theorem g_if_lt (hC : gC k cc own tys n L) {x : Int} (tgt : Nat) {off : Int} (hd : decode cc pc = .ok (.ifCond .lt off, 3)) (ht : (pc : Int) + off = (tgt : Int)) (hx : -2147483648 ≤ x ∧ x < 2147483648) (kt : x < 0 → gW k w tgt lv st) (kf : ¬ x < 0 → gW k w (pc + 3) lv st) : gW k w pc lv (vI x :: st) := by
  obtain ⟨p, l, e, R, s, m, args, below, meth, c, cells, slots, Q, D, A, nL⟩ := k
  intro ls H locs hl hP hD hS
  have h0 : (-2147483648 : Int) ≤ 0 ∧ (0 : Int) < 2147483648 := by decide
  exact lv_if_lt hC.1 hC.2.1 hd ht (fun h => kt ((iI_lt hx h0).mp h) ls H locs hl hP hD hS) (fun h => kf (fun z => h ((iI_lt hx h0).mpr z)) ls H locs hl hP hD hS)
theorem g_icmp_ge (hC : gC k cc own tys n L) {x y : Int} (tgt : Nat) {off : Int} (hd : decode cc pc = .ok (.if_icmp .ge off, 3)) (ht : (pc : Int) + off = (tgt : Int)) (hx : -2147483648 ≤ x ∧ x < 2147483648) (hy : -2147483648 ≤ y ∧ y < 2147483648) (kt : y ≤ x → gW k w tgt lv st) (kf : ¬ y ≤ x → gW k w (pc + 3) lv st) : gW k w pc lv (vI y :: vI x :: st) := by
  obtain ⟨p, l, e, R, s, m, args, below, meth, c, cells, slots, Q, D, A, nL⟩ := k
  intro ls H locs hl hP hD hS
  exact lv_icmp_ge hC.1 hC.2.1 hd ht (fun h => kt ((iI_le hy hx).mp h) ls H locs hl hP hD hS) (fun h => kf (fun z => h ((iI_le hy hx).mpr z)) ls H locs hl hP hD hS)
theorem g_if_ge (hC : gC k cc own tys n L) {x : Int} (tgt : Nat) {off : Int} (hd : decode cc pc = .ok (.ifCond .ge off, 3)) (ht : (pc : Int) + off = (tgt : Int)) (hx : -2147483648 ≤ x ∧ x < 2147483648) (kt : 0 ≤ x → gW k w tgt lv st) (kf : ¬ 0 ≤ x → gW k w (pc + 3) lv st) : gW k w pc lv (vI x :: st) := by
  obtain ⟨p, l, e, R, s, m, args, below, meth, c, cells, slots, Q, D, A, nL⟩ := k
  intro ls H locs hl hP hD hS
  have h0 : (-2147483648 : Int) ≤ 0 ∧ (0 : Int) < 2147483648 := by decide
  exact lv_if_ge hC.1 hC.2.1 hd ht (fun h => kt ((iI_le h0 hx).mp h) ls H locs hl hP hD hS) (fun h => kf (fun z => h ((iI_le h0 hx).mpr z)) ls H locs hl hP hD hS)
theorem g_icmp_gt (hC : gC k cc own tys n L) {x y : Int} (tgt : Nat) {off : Int} (hd : decode cc pc = .ok (.if_icmp .gt off, 3)) (ht : (pc : Int) + off = (tgt : Int)) (hx : -2147483648 ≤ x ∧ x < 2147483648) (hy : -2147483648 ≤ y ∧ y < 2147483648) (kt : y < x → gW k w tgt lv st) (kf : ¬ y < x → gW k w (pc + 3) lv st) : gW k w pc lv (vI y :: vI x :: st) := by
  obtain ⟨p, l, e, R, s, m, args, below, meth, c, cells, slots, Q, D, A, nL⟩ := k
  intro ls H locs hl hP hD hS
  exact lv_icmp_gt hC.1 hC.2.1 hd ht (fun h => kt ((iI_lt hy hx).mp h) ls H locs hl hP hD hS) (fun h => kf (fun z => h ((iI_lt hy hx).mpr z)) ls H locs hl hP hD hS)
theorem g_if_gt (hC : gC k cc own tys n L) {x : Int} (tgt : Nat) {off : Int} (hd : decode cc pc = .ok (.ifCond .gt off, 3)) (ht : (pc : Int) + off = (tgt : Int)) (hx : -2147483648 ≤ x ∧ x < 2147483648) (kt : 0 < x → gW k w tgt lv st) (kf : ¬ 0 < x → gW k w (pc + 3) lv st) : gW k w pc lv (vI x :: st) := by
  obtain ⟨p, l, e, R, s, m, args, below, meth, c, cells, slots, Q, D, A, nL⟩ := k
  intro ls H locs hl hP hD hS
  have h0 : (-2147483648 : Int) ≤ 0 ∧ (0 : Int) < 2147483648 := by decide
  exact lv_if_gt hC.1 hC.2.1 hd ht (fun h => kt ((iI_lt h0 hx).mp h) ls H locs hl hP hD hS) (fun h => kf (fun z => h ((iI_lt h0 hx).mpr z)) ls H locs hl hP hD hS)
theorem g_icmp_le (hC : gC k cc own tys n L) {x y : Int} (tgt : Nat) {off : Int} (hd : decode cc pc = .ok (.if_icmp .le off, 3)) (ht : (pc : Int) + off = (tgt : Int)) (hx : -2147483648 ≤ x ∧ x < 2147483648) (hy : -2147483648 ≤ y ∧ y < 2147483648) (kt : x ≤ y → gW k w tgt lv st) (kf : ¬ x ≤ y → gW k w (pc + 3) lv st) : gW k w pc lv (vI y :: vI x :: st) := by
  obtain ⟨p, l, e, R, s, m, args, below, meth, c, cells, slots, Q, D, A, nL⟩ := k
  intro ls H locs hl hP hD hS
  exact lv_icmp_le hC.1 hC.2.1 hd ht (fun h => kt ((iI_le hx hy).mp h) ls H locs hl hP hD hS) (fun h => kf (fun z => h ((iI_le hx hy).mpr z)) ls H locs hl hP hD hS)
theorem g_if_le (hC : gC k cc own tys n L) {x : Int} (tgt : Nat) {off : Int} (hd : decode cc pc = .ok (.ifCond .le off, 3)) (ht : (pc : Int) + off = (tgt : Int)) (hx : -2147483648 ≤ x ∧ x < 2147483648) (kt : x ≤ 0 → gW k w tgt lv st) (kf : ¬ x ≤ 0 → gW k w (pc + 3) lv st) : gW k w pc lv (vI x :: st) := by
  obtain ⟨p, l, e, R, s, m, args, below, meth, c, cells, slots, Q, D, A, nL⟩ := k
  intro ls H locs hl hP hD hS
  have h0 : (-2147483648 : Int) ≤ 0 ∧ (0 : Int) < 2147483648 := by decide
  exact lv_if_le hC.1 hC.2.1 hd ht (fun h => kt ((iI_le hx h0).mp h) ls H locs hl hP hD hS) (fun h => kf (fun z => h ((iI_le hx h0).mpr z)) ls H locs hl hP hD hS)
theorem g_icmp_ne (hC : gC k cc own tys n L) {x y : Int} (tgt : Nat) {off : Int} (hd : decode cc pc = .ok (.if_icmp .ne off, 3)) (ht : (pc : Int) + off = (tgt : Int)) (hx : -2147483648 ≤ x ∧ x < 2147483648) (hy : -2147483648 ≤ y ∧ y < 2147483648) (kt : ¬ x = y → gW k w tgt lv st) (kf : x = y → gW k w (pc + 3) lv st) : gW k w pc lv (vI y :: vI x :: st) := by
  obtain ⟨p, l, e, R, s, m, args, below, meth, c, cells, slots, Q, D, A, nL⟩ := k
  intro ls H locs hl hP hD hS
  exact lv_icmp_ne hC.1 hC.2.1 hd ht (fun h => kt (fun z => h ((iI_eq hx hy).mpr z)) ls H locs hl hP hD hS) (fun h => kf ((iI_eq hx hy).mp h) ls H locs hl hP hD hS)
theorem g_if_ne (hC : gC k cc own tys n L) {x : Int} (tgt : Nat) {off : Int} (hd : decode cc pc = .ok (.ifCond .ne off, 3)) (ht : (pc : Int) + off = (tgt : Int)) (hx : -2147483648 ≤ x ∧ x < 2147483648) (kt : ¬ x = 0 → gW k w tgt lv st) (kf : x = 0 → gW k w (pc + 3) lv st) : gW k w pc lv (vI x :: st) := by
  obtain ⟨p, l, e, R, s, m, args, below, meth, c, cells, slots, Q, D, A, nL⟩ := k
  intro ls H locs hl hP hD hS
  have h0 : (-2147483648 : Int) ≤ 0 ∧ (0 : Int) < 2147483648 := by decide
  exact lv_if_ne hC.1 hC.2.1 hd ht (fun h => kt (fun z => h ((iI_eq hx h0).mpr z)) ls H locs hl hP hD hS) (fun h => kf ((iI_eq hx h0).mp h) ls H locs hl hP hD hS)
/-- the frame rule's other half: the cells in another order, or fewer -/
theorem g_sub {w' : va_W} (is : List Nat) (h1 : va_nd is = true) (h2 : is.map (fun i => w[i]?) = w'.map some) (h3 : is.filterMap (fun i => w[i]?) = w') (kk : gW k w' pc lv st) : gW k w pc lv st := by
  obtain ⟨p, l, e, R, s, m, args, below, meth, c, cells, slots, Q, D, A, nL⟩ := k
  intro ls H locs hl hP hD hS
  exact kk ls H locs hl (hP.sub is h3) (hD.sub is h1 h2) hS
theorem g_get (hC : gC k cc own tys n L) {C : String} {T : u_T} {N ci index a : Nat} (hin : ∀ w ∈ u_ws C T N, w ∈ lw_all) (q0 : Nat) {fs : List Value} (he : w[q0]? = some (a, .inr (ci, fs))) (hc : clX[ci]? = some (C, T, N)) (j : Nat) (hj : j < N) (hlink : Cond.fieldLink own index (T j).1 (T j).2.1 (T j).2.2.1 ∈ lw_all) {v : Value} (hv : fs[j]? = some v) (hd : decode cc pc = .ok (.getfield index, 3)) (kk : gW k w (pc + 3) lv (v :: st)) : gW k w pc lv (.ref a :: st) := by
  obtain ⟨p, l, e, R, s, m, args, below, meth, c, cells, slots, Q, D, A, nL⟩ := k
  intro ls H locs hl hP hD hS
  exact va_get hC.1 hC.2.1 hC.2.2.2.2.1 hin hC.2.2.2.1 hC.2.2.2.2.2.1 hP q0 he hc j hj (hC.2.2.2.2.1 _ hlink) (fun _ h => h) hv hd (kk ls H locs hl hP hD hS)
theorem g_put (hC : gC k cc own tys n L) {C : String} {T : u_T} {N ci index a : Nat} (hin : ∀ w ∈ u_ws C T N, w ∈ lw_all) (ty0 : Nat → FieldType) (hty : ∀ k, k < N → parseFieldDescriptor (T k).2.2.1 = some (ty0 k)) (hnm : ∀ a, a < N → ∀ b, b < N → a ≠ b → (T a).2.1 ≠ (T b).2.1) (q0 : Nat) {fs : List Value} (he : w[q0]? = some (a, .inr (ci, fs))) (hc : clX[ci]? = some (C, T, N)) (j : Nat) (hj : j < N) (hlink : Cond.fieldLink own index (T j).1 (T j).2.1 (T j).2.2.1 ∈ lw_all) (hfin : (T j).2.2.2 = false) {ty : FieldType} {v : Value} (hd0 : parseFieldDescriptor (T j).2.2.1 = some ty) (hn : narrow ty v = v) (hfit : fits ty v = true) (hl0 : j < fs.length) (hd : decode cc pc = .ok (.putfield index, 3)) (kk : gW k (w.set q0 (a, .inr (ci, fs.set j v))) (pc + 3) lv st) : gW k w pc lv (v :: .ref a :: st) := by
  obtain ⟨p, l, e, R, s, m, args, below, meth, c, cells, slots, Q, D, A, nL⟩ := k
  intro ls H locs hl hP hD hS
  exact va_put hC.1 hC.2.1 hC.2.2.2.2.1 hin ty0 hty hnm hC.2.2.2.1 hC.2.2.2.2.2.1 hP hD hS q0 he hc j hj (hC.2.2.2.2.1 _ hlink) (fun _ h => h) hfin hd0 hn hfit hl0 hd (fun H1 locs1 hP1 hD1 hS1 => kk ls H1 locs1 hl hP1 hD1 hS1)
theorem g_iald (hC : gC k cc own tys n L) (q0 t0 : Nat) {cA : ClassId} {a N : Nat} {f : Int → Int} (ha : w[q0]? = some (a, .inl (cA, N, .inl (iA f)))) (ht : tys[t0]? = some (cA, .int)) {i : Int} (hN : N < 2147483648) (hi : 0 ≤ i ∧ i < N) (hd : decode cc pc = .ok (.iaload, 1)) (kk : gW k w (pc + 1) lv (vI (f i) :: st)) : gW k w pc lv (vI i :: .ref a :: st) := by
  obtain ⟨p, l, e, R, s, m, args, below, meth, c, cells, slots, Q, D, A, nL⟩ := k
  intro ls H locs hl hP hD hS
  have h := kk ls H locs hl hP hD hS
  unfold vI at h ⊢
  rw [← iA_at (f := f) hi.1 (by omega)] at h
  exact va_iald hC.1 hC.2.1 hC.2.2.2.2.2.1 hP q0 t0 ha ht (iI_in hi.1 hi.2 hN) hd h
theorem g_iast (hC : gC k cc own tys n L) (q0 t0 : Nat) {cA : ClassId} {a N : Nat} {f : Int → Int} (ha : w[q0]? = some (a, .inl (cA, N, .inl (iA f)))) (ht : tys[t0]? = some (cA, .int)) {i x : Int} (hN : N < 2147483648) (hi : 0 ≤ i ∧ i < N) (hd : decode cc pc = .ok (.iastore, 1)) (kk : gW k (w.set q0 (a, .inl (cA, N, .inl (iA (iU f i x))))) (pc + 1) lv st) : gW k w pc lv (vI x :: vI i :: .ref a :: st) := by
  obtain ⟨p, l, e, R, s, m, args, below, meth, c, cells, slots, Q, D, A, nL⟩ := k
  intro ls H locs hl hP hD hS
  refine va_iast hC.1 hC.2.1 hC.2.2.2.2.2.1 hP hD hS q0 t0 ha ht (iI_in hi.1 hi.2 hN) hd (fun H1 locs1 hP1 hD1 hS1 => ?_)
  rw [iA_up hi.1 (by omega)] at hP1 hD1
  exact kk ls H1 locs1 hl hP1 hD1 hS1
end
end
section
/-! ROWS: shifts; the rule of a method, the rule of a call; the two classes' worlds and their rows -/
set_option maxRecDepth 100000
def p8 (e : Int) : Int := (8 : Int) ^ e.toNat
theorem p8_sh : ∀ e : Nat, e ≤ 10 → ((iI (3 * (e : Int)) &&& 31).toBitVec.smod 32).toNat = 3 * e := by decide +kernel
theorem p8_shl : ∀ e : Nat, e ≤ 10 → iI 1 <<< (iI (3 * (e : Int)) &&& 31) = iI (p8 (e : Int)) := by decide +kernel
theorem p8_rg : ∀ e : Nat, e ≤ 10 → 1 ≤ p8 (e : Int) ∧ p8 (e : Int) < 2147483648 ∧ ((2 : Int) ^ (3 * e)) = p8 (e : Int) := by decide +kernel
theorem p8_pos {e : Int} (he : 0 ≤ e ∧ e ≤ 10) : 1 ≤ p8 e ∧ p8 e < 2147483648 := by
  obtain ⟨m, rfl⟩ := iI_nat he.1
  exact ⟨(p8_rg m (by omega)).1, (p8_rg m (by omega)).2.1⟩
theorem div_rg {x d : Int} (hd : 1 ≤ d) (hx : -2147483648 ≤ x ∧ x < 2147483648) : -2147483648 ≤ x / d ∧ x / d < 2147483648 := by
  have h1 := Int.emod_nonneg x (show d ≠ 0 by omega)
  have h2 := Int.mul_ediv_add_emod x d
  constructor
  · by_cases h : 0 ≤ x
    · have := Int.ediv_nonneg h (show 0 ≤ d by omega)
      omega
    · exact Int.le_ediv_of_mul_le (by omega) (by
        omega)
  · by_cases h : 0 ≤ x
    · have := Int.ediv_le_self d h
      omega
    · have : x / d < 0 := Int.ediv_neg_of_neg_of_pos (by omega) (by omega)
      omega
theorem iI_shr {x e : Int} (he : 0 ≤ e ∧ e ≤ 10) (hx : -2147483648 ≤ x ∧ x < 2147483648) : iI x >>> (iI (3 * e) &&& 31) = iI (x / p8 e) := by
  obtain ⟨m, rfl⟩ := iI_nat he.1
  have hm : m ≤ 10 := by omega
  apply Int32.toInt_inj.mp
  obtain ⟨h1, h2, h3⟩ := p8_rg m hm
  rw [pk_shr _ _ (3 * m) (p8_sh m hm), iI_toInt hx, iI_toInt (div_rg h1 hx), Int.shiftRight_eq_div_pow]
  rw [← h3]
  simp
theorem iI_bv (x : Int) : ((iI x).toBitVec.toNat : Int) = x % 4294967296 := by
  show ((BitVec.ofInt 32 x).toNat : Int) = _
  rw [BitVec.toNat_ofInt]
  have : 0 ≤ x % 4294967296 := Int.emod_nonneg _ (by decide)
  omega
theorem iI_and7 (x : Int) : iI x &&& iI 7 = iI (x % 8) := by
  rw [pk_and (iI x) (m := iI 7) 3 (by decide +kernel), iI_nI]
  have := iI_bv x
  congr 1
  omega
theorem iI_and31 (x : Int) : iI x &&& iI 31 = iI (x % 32) := by
  rw [pk_and (iI x) (m := iI 31) 5 (by decide +kernel), iI_nI]
  have := iI_bv x
  congr 1
  omega
section
variable {k : gK} {cc : ByteArray} {own : String} {tys : List (ClassId × FieldType)} {n L : Nat} {w : va_W} {pc : Nat} {lv : List (Nat × Value)} {st : List Value}
theorem g_ishr (hC : gC k cc own tys n L) {x s : Int} (e : Int) (hs : s = 3 * e) (he : 0 ≤ e ∧ e ≤ 10) (hx : -2147483648 ≤ x ∧ x < 2147483648) (hd : decode cc pc = .ok (.ishr, 1)) (kk : gW k w (pc + 1) lv (vI (x / p8 e) :: st)) : gW k w pc lv (vI s :: vI x :: st) := by
  subst hs
  obtain ⟨p, l, e0, R, s, m, args, below, meth, c, cells, slots, Q, D, A, nL⟩ := k
  intro ls H locs hl hP hD hS
  have h := kk ls H locs hl hP hD hS
  unfold vI at h ⊢
  rw [← iI_shr he hx] at h
  exact lv_ishr hC.1 hC.2.1 hd h
theorem g_ishl1 (hC : gC k cc own tys n L) {s : Int} (e : Int) (hs : s = 3 * e) (he : 0 ≤ e ∧ e ≤ 10) (hd : decode cc pc = .ok (.ishl, 1)) (kk : gW k w (pc + 1) lv (vI (p8 e) :: st)) : gW k w pc lv (vI s :: vI 1 :: st) := by
  subst hs
  obtain ⟨m0, rfl⟩ := iI_nat he.1
  obtain ⟨p, l, e0, R, s, m, args, below, meth, c, cells, slots, Q, D, A, nL⟩ := k
  intro ls H locs hl hP hD hS
  have h := kk ls H locs hl hP hD hS
  unfold vI at h ⊢
  rw [← p8_shl m0 (by omega)] at h
  exact lv_ishl hC.1 hC.2.1 hd h
theorem g_iand7 (hC : gC k cc own tys n L) {x : Int} (hd : decode cc pc = .ok (.iand, 1)) (kk : gW k w (pc + 1) lv (vI (x % 8) :: st)) : gW k w pc lv (vI 7 :: vI x :: st) := by
  obtain ⟨p, l, e0, R, s, m, args, below, meth, c, cells, slots, Q, D, A, nL⟩ := k
  intro ls H locs hl hP hD hS
  have h := kk ls H locs hl hP hD hS
  unfold vI at h ⊢
  rw [← iI_and7] at h
  exact lv_iand hC.1 hC.2.1 hd h
theorem g_iand31 (hC : gC k cc own tys n L) {x : Int} (hd : decode cc pc = .ok (.iand, 1)) (kk : gW k w (pc + 1) lv (vI (x % 32) :: st)) : gW k w pc lv (vI 31 :: vI x :: st) := by
  obtain ⟨p, l, e0, R, s, m, args, below, meth, c, cells, slots, Q, D, A, nL⟩ := k
  intro ls H locs hl hP hD hS
  have h := kk ls H locs hl hP hD hS
  unfold vI at h ⊢
  rw [← iI_and31] at h
  exact lv_iand hC.1 hC.2.1 hd h
end
/-- the room of a method that calls n levels deep and makes nothing -/
def rmL (n : Nat) : Room := { frames := n, cells := 0, slots := 0, locals := 30 * n }
/-- a method's start: the world w, the arguments av -/
def gPre (D : va_G) (tys : List (ClassId × FieldType)) (w : va_W) (av : List Value) (sz : Nat) : Array Value → State → Prop := va_Pc av (fun U => U.heap.size = sz ∧ va_P D clX w U.heap ∧ va_K D clX tys U ∧ va_D (fun _ => True) w)
def gB (D : va_G) (tys : List (ClassId × FieldType)) (A : Nat → Prop) {S : Type} (g : S → va_W) (u : S) (t : State) : Prop := va_P D clX (g u) t.heap ∧ va_K D clX tys t ∧ va_D A (g u)
/-- its end, with an int (or boolean) answer z and the world g u -/
def gQi (D : va_G) (tys : List (ClassId × FieldType)) {S : Type} (w : va_W) (sz : Nat) (post : Int → S → Prop) (g : S → va_W) : Array Value → State → Outcome → State → Prop := va_Qi (fun r u => ∃ z : Int, r = iI z ∧ (-2147483648 ≤ z ∧ z < 2147483648) ∧ post z u) (gB D tys (va_A w sz) g) (va_A w sz)
def gQv (D : va_G) (tys : List (ClassId × FieldType)) {S : Type} (w : va_W) (sz : Nat) (post : S → Prop) (g : S → va_W) : Array Value → State → Outcome → State → Prop := va_Qv post (gB D tys (va_A w sz) g) (va_A w sz)
/-- CONTRACT of a method with an int answer: from the world w with arguments av it returns z with 'post z u' and the world g u -/
def gMetI (l : Launch) (y : MethodName) (cc : ByteArray) (L : Nat) (ty : FieldType) (n : Nat) (D : va_G) (tys : List (ClassId × FieldType)) {S : Type} (w : va_W) (av : List Value) (post : Int → S → Prop) (g : S → va_W) : Prop := ∀ sz : Nat, Met l y (ws_ y cc L (some ty)) (rmL n) (gPre D tys w av sz) (gQi D tys w sz post g) 0 0 (va_A w sz)
def gMetV (l : Launch) (y : MethodName) (cc : ByteArray) (L : Nat) (n : Nat) (D : va_G) (tys : List (ClassId × FieldType)) {S : Type} (w : va_W) (av : List Value) (post : S → Prop) (g : S → va_W) : Prop := ∀ sz : Nat, Met l y (ws_ y cc L none) (rmL n) (gPre D tys w av sz) (gQv D tys w sz post g) 0 0 (va_A w sz)
theorem g_metI {l : Launch} {y : MethodName} {cc : ByteArray} {L : Nat} {ty : FieldType} {n : Nat} {D : va_G} {tys : List (ClassId × FieldType)} {S : Type} {w : va_W} {av : List Value} {post : Int → S → Prop} {g : S → va_W} (hy : plainName y.cls = true) (hlen : (lg_sl av).length ≤ L)
    (body : ∀ k : gK, gC k cc y.cls tys n L → (∀ (pc : Nat) (lv : List (Nat × Value)) (z : Int) (u : S), decode cc pc = .ok (.ireturn, 1) → narrow ty (vI z) = vI z → (-2147483648 ≤ z ∧ z < 2147483648) → post z u → gW k (g u) pc lv [vI z]) → gW k w 0 (lv_args 0 av) []) : gMetI l y cc L ty n D tys w av post g := by
  intro sz
  refine Met.ofW (cc := cc) (maxL := L) (ret := some ty) hy rfl ?_
  intro p e s m args below meth c s₁ B hml hv
  obtain ⟨rfl, hsz, hP, hK, hD0⟩ := hv
  have hts := atoms_spec (ws := ws_ y cc L (some ty)) B.pre
  have hts : ∀ w ∈ lw_all, w.before _ s = true := fun w h => hts w (List.mem_cons_of_mem _ h)
  have hown : s.vm.findClass y.cls = some m.cls := findClass_of_methodNamed B.named
  have hlocks := B.notSynchronized
  subst hsz
  have hD := hD0.self (sz := s.heap.size)
  have hl := lv_entry av (n := L) hlen
  rw [lg_entry_eq]
  refine body (p, l, e, (headSpec (ws_ y cc L (some ty)) (rmL n)).room, s, m, av.toArray, below, meth, c, 0, 0, MQ below (gQi D tys w s.heap.size post g) av.toArray s 0 0 (va_A w s.heap.size), D, va_A w s.heap.size, L) ⟨B.exec, B.bytes, hml, hown, hts, hK, fun q h => Or.inr h, ⟨Nat.le_refl n, Nat.le_refl (30 * n), Nat.le_refl 0, Nat.le_refl 0⟩, rfl⟩ ?_ _ s.heap [] hl hP hD va_S.rf
  intro pc lv z u hd hn hz hp ls H locs hl hP hD hS
  exact W.zret B.exec B.bytes B.returns hn (fun t ht hW => ⟨⟨iI z, u, rfl, ⟨z, rfl, hz, hp⟩, by rw [ht]; exact hP, va_K.moved hW.alike hK, hD⟩, hS.F ht⟩) hS.2.2 hd
theorem g_metV {l : Launch} {y : MethodName} {cc : ByteArray} {L : Nat} {n : Nat} {D : va_G} {tys : List (ClassId × FieldType)} {S : Type} {w : va_W} {av : List Value} {post : S → Prop} {g : S → va_W} (hy : plainName y.cls = true) (hlen : (lg_sl av).length ≤ L)
    (body : ∀ k : gK, gC k cc y.cls tys n L → (∀ (pc : Nat) (lv : List (Nat × Value)) (u : S), decode cc pc = .ok (.return_, 1) → post u → gW k (g u) pc lv []) → gW k w 0 (lv_args 0 av) []) : gMetV l y cc L n D tys w av post g := by
  intro sz
  refine Met.ofW (cc := cc) (maxL := L) (ret := none) hy rfl ?_
  intro p e s m args below meth c s₁ B hml hv
  obtain ⟨rfl, hsz, hP, hK, hD0⟩ := hv
  have hts := atoms_spec (ws := ws_ y cc L none) B.pre
  have hts : ∀ w ∈ lw_all, w.before _ s = true := fun w h => hts w (List.mem_cons_of_mem _ h)
  have hown : s.vm.findClass y.cls = some m.cls := findClass_of_methodNamed B.named
  have hlocks := B.notSynchronized
  subst hsz
  have hD := hD0.self (sz := s.heap.size)
  have hl := lv_entry av (n := L) hlen
  rw [lg_entry_eq]
  refine body (p, l, e, (headSpec (ws_ y cc L none) (rmL n)).room, s, m, av.toArray, below, meth, c, 0, 0, MQ below (gQv D tys w s.heap.size post g) av.toArray s 0 0 (va_A w s.heap.size), D, va_A w s.heap.size, L) ⟨B.exec, B.bytes, hml, hown, hts, hK, fun q h => Or.inr h, ⟨Nat.le_refl n, Nat.le_refl (30 * n), Nat.le_refl 0, Nat.le_refl 0⟩, rfl⟩ ?_ _ s.heap [] hl hP hD va_S.rf
  intro pc lv u hd hp ls H locs hl hP hD hS
  exact W.vret B.exec B.bytes B.returns (fun t ht hW => ⟨⟨u, rfl, hp, by rw [ht]; exact hP, va_K.moved hW.alike hK, hD⟩, hS.F ht⟩) hS.2.2 hd
/-- a method as a callee: its words -/
def gI (y : MethodName) (C : String) (b : ByteArray) (L : Nat) (r : Option FieldType) (na : Nat) : Prop := Cond.instanceMethod y ∈ lw_all ∧ Cond.selects C y y ∈ lw_all ∧ Cond.initialized C ∈ lw_all ∧ Cond.code y b L r ∈ lw_all ∧ L ≤ 11 ∧ (y.cls = C ∧ y.cls ≠ "java/lang/invoke/MethodHandle" ∧ y.cls ≠ "java/lang/invoke/VarHandle" ∧ (parseMethodDescriptor y.desc).map (fun d => d.parameters.length) = some na)
/-- the launch and the classes of a run -/
def gL (k : gK) : Launch := match k with
  | (p, l, e, R, s, m, args, below, meth, c, cells, slots, Q, D, A, nL) => l
def gD (k : gK) : va_G := match k with
  | (p, l, e, R, s, m, args, below, meth, c, cells, slots, Q, D, A, nL) => D
/-- how the caller's cells w fall into the callee's wc and the rest wr -/
def gSp (w wc wr : va_W) (isC isR : List Nat) : Prop := isC.map (fun i => w[i]?) = wc.map some ∧ isC.filterMap (fun i => w[i]?) = wc ∧ va_nd isC = true ∧ isR.map (fun i => w[i]?) = wr.map some ∧ va_nd isR = true ∧ ∀ i ∈ isR, i ∉ isC
section
variable {k : gK} {cc : ByteArray} {own : String} {tys : List (ClassId × FieldType)} {n L : Nat} {w : va_W} {pc : Nat} {lv : List (Nat × Value)}
theorem g_callI {S : Type} {post : Int → S → Prop} {g : S → va_W} {y : MethodName} {C : String} {cb : ByteArray} {Lb nb na idx a ci : Nat} {ty : FieldType} {As rest st0 : List Value} {wc wr : va_W} {tysC : List (ClassId × FieldType)} {r : vw_C} {fs : List Value} (isC isR isT : List Nat)
    (hC : gC k cc own tys n L) (hI : gI y C cb Lb (some ty) na) (hlk : Cond.methodLink own idx y ∈ lw_all) (hM : gMetI (gL k) y cb Lb ty nb (gD k) tysC wc (.ref a :: As) post g) (hn : nb + 1 ≤ n) (hna : As.length = na)
    (hsp : gSp w wc wr isC isR) (hT : isT.filterMap (fun i => tys[i]?) = tysC) (hr : wc[0]? = some (a, .inr (ci, fs))) (hci : clX[ci]? = some r) (hrC : r.1 = C) (hst : st0 = As.reverse ++ .ref a :: rest) (hrest : (rest.map fun v => v.category).sum ≤ 8) (hd : decode cc pc = .ok (.invokevirtual idx, 3))
    (kk : ∀ (z : Int) (u : S), (-2147483648 ≤ z ∧ z < 2147483648) → post z u → gW k (wr ++ g u) (pc + 3) lv (vI z :: rest)) : gW k w pc lv st0 := by
  subst hst
  subst hrC
  obtain ⟨p, l, e, R, s, m, args, below, meth, c, cells, slots, Q, D, A, nL⟩ := k
  intro ls H locs hl hP hD hS
  obtain ⟨hx, hb, hml, hown, hts, hK, hA, hrm, hLL⟩ := hC
  obtain ⟨hI1, hI2, hI3, hI4, hI5, hI6⟩ := hI
  obtain ⟨s1, s2, s3, s4, s5, s6⟩ := hsp
  have hPc := hP.sub isC s2
  have hDc := hD.sub isC s3 s1
  have hKc := hK.sub isT hT
  have hFc := va_free (wc := wc) hD hS hA isC s1
  have hM1 : Met l y (ws_ y cb Lb (some ty)) (rmL nb) (gPre D tysC wc (.ref a :: As) H.size) (gQi D tysC wc H.size post g) 0 0 (va_A wc H.size) := hM H.size
  have hroom : (rmL nb).frames + 1 ≤ R.frames ∧ 8 + (Lb + 11) + (rmL nb).locals ≤ R.locals := by
    obtain ⟨r1, r2, -, -⟩ := hrm
    simp only [rmL]
    omega
  refine va_calli (va_runV (As := As) (rest := rest) ⟨hx, hb, hml, hown, hts⟩ hM1 (cwV na hts (lw_V hlk hI1 hI2 hI3 hI4) rfl rfl rfl hI6 hroom) ⟨fun a U g mk q => by obtain ⟨q0, q1, qP, qK, qD⟩ := q; exact ⟨q0, q1, qP, va_K.moved (u := U) (U := U.calling g mk a) (Vm.Alike.refl U.vm) qK, qD⟩, va_recv hKc hPc (ci := ci) (q0 := 0) hci hr, fun U hU hW => ⟨rfl, by rw [hU], by rw [hU]; exact hPc, va_K.moved hW.alike hKc, hDc.weaken (fun _ _ _ _ => trivial)⟩⟩ rfl hna hl.1 rfl (lv_room hrest) hd ⟨hrm.2.2.1, hrm.2.2.2⟩) hS (fun q _ h => hFc q h) hFc (fun r u t H1 locs1 ht hvm hw hB hz1 hk1 hS1 => ?_)
  obtain ⟨z, rfl, hz, hp⟩ := hw
  obtain ⟨hP1, hK1, hD1⟩ := hB
  rw [ht] at hP1
  obtain ⟨hP2, hD2⟩ := va_join (wr := wr) (w1 := g u) hP hD isC isR s1 s4 s5 s6 hk1 hFc hP1 hD1
  exact kk z u hz hp ls H1 locs1 hl hP2 hD2 hS1
theorem g_callV {S : Type} {post : S → Prop} {g : S → va_W} {y : MethodName} {C : String} {cb : ByteArray} {Lb nb na idx a ci : Nat} {As rest st0 : List Value} {wc wr : va_W} {tysC : List (ClassId × FieldType)} {r : vw_C} {fs : List Value} (isC isR isT : List Nat)
    (hC : gC k cc own tys n L) (hI : gI y C cb Lb none na) (hlk : Cond.methodLink own idx y ∈ lw_all) (hM : gMetV (gL k) y cb Lb nb (gD k) tysC wc (.ref a :: As) post g) (hn : nb + 1 ≤ n) (hna : As.length = na)
    (hsp : gSp w wc wr isC isR) (hT : isT.filterMap (fun i => tys[i]?) = tysC) (hr : wc[0]? = some (a, .inr (ci, fs))) (hci : clX[ci]? = some r) (hrC : r.1 = C) (hst : st0 = As.reverse ++ .ref a :: rest) (hrest : (rest.map fun v => v.category).sum ≤ 8) (hd : decode cc pc = .ok (.invokevirtual idx, 3))
    (kk : ∀ (u : S), post u → gW k (wr ++ g u) (pc + 3) lv rest) : gW k w pc lv st0 := by
  subst hst
  subst hrC
  obtain ⟨p, l, e, R, s, m, args, below, meth, c, cells, slots, Q, D, A, nL⟩ := k
  intro ls H locs hl hP hD hS
  obtain ⟨hx, hb, hml, hown, hts, hK, hA, hrm, hLL⟩ := hC
  obtain ⟨hI1, hI2, hI3, hI4, hI5, hI6⟩ := hI
  obtain ⟨s1, s2, s3, s4, s5, s6⟩ := hsp
  have hPc := hP.sub isC s2
  have hDc := hD.sub isC s3 s1
  have hKc := hK.sub isT hT
  have hFc := va_free (wc := wc) hD hS hA isC s1
  have hM1 : Met l y (ws_ y cb Lb none) (rmL nb) (gPre D tysC wc (.ref a :: As) H.size) (gQv D tysC wc H.size post g) 0 0 (va_A wc H.size) := hM H.size
  have hroom : (rmL nb).frames + 1 ≤ R.frames ∧ 8 + (Lb + 11) + (rmL nb).locals ≤ R.locals := by
    obtain ⟨r1, r2, -, -⟩ := hrm
    simp only [rmL]
    omega
  refine va_callv (va_runV (As := As) (rest := rest) ⟨hx, hb, hml, hown, hts⟩ hM1 (cwV na hts (lw_V hlk hI1 hI2 hI3 hI4) rfl rfl rfl hI6 hroom) ⟨fun a U g mk q => by obtain ⟨q0, q1, qP, qK, qD⟩ := q; exact ⟨q0, q1, qP, va_K.moved (u := U) (U := U.calling g mk a) (Vm.Alike.refl U.vm) qK, qD⟩, va_recv hKc hPc (ci := ci) (q0 := 0) hci hr, fun U hU hW => ⟨rfl, by rw [hU], by rw [hU]; exact hPc, va_K.moved hW.alike hKc, hDc.weaken (fun _ _ _ _ => trivial)⟩⟩ rfl hna hl.1 rfl (lv_room hrest) hd ⟨hrm.2.2.1, hrm.2.2.2⟩) hS (fun q _ h => hFc q h) hFc (fun u t H1 locs1 ht hvm hw hB hz1 hk1 hS1 => ?_)
  obtain ⟨hP1, hK1, hD1⟩ := hB
  rw [ht] at hP1
  obtain ⟨hP2, hD2⟩ := va_join (wr := wr) (w1 := g u) hP hD isC isR s1 s4 s5 s6 hk1 hFc hP1 hD1
  exact kk u hw ls H1 locs1 hl hP2 hD2 hS1
end
/-- an object: the number of int[]'s class, its address, its arrays' addresses -/
abbrev gO : Type := ClassId × Nat × (Nat → Nat)
abbrev XS : Type := (Int → Int) × (Int → Int) × (Int → Int) × (Int → Int) × (Int → Int) × (Int → Int) × (Int → Int) × (Int → Int) × (Int → Int) × (Int → Int) × Int × Int × Int × Int × Int × Int × Int
/-- the cells of an object of this kind -/
def wX (o : gO) (S : XS) : va_W := match S with
  | (a0, a1, a2, a3, a4, a5, a6, a7, a8, a9, v0, v1, v2, v3, v4, v5, v6) => [(o.2.1, .inr (0, [Value.ref (o.2.2 0), Value.ref (o.2.2 1), Value.ref (o.2.2 2), Value.ref (o.2.2 3), Value.ref (o.2.2 4), Value.ref (o.2.2 5), Value.ref (o.2.2 6), Value.ref (o.2.2 7), Value.ref (o.2.2 8), Value.ref (o.2.2 9), vI v0, vI v1, vI v2, vI v3, vI v4, vI v5, vI v6])), (o.2.2 0, .inl (o.1, 24, .inl (iA a0))), (o.2.2 1, .inl (o.1, 24, .inl (iA a1))), (o.2.2 2, .inl (o.1, 24, .inl (iA a2))), (o.2.2 3, .inl (o.1, 8, .inl (iA a3))), (o.2.2 4, .inl (o.1, 3, .inl (iA a4))), (o.2.2 5, .inl (o.1, 3, .inl (iA a5))), (o.2.2 6, .inl (o.1, 3, .inl (iA a6))), (o.2.2 7, .inl (o.1, 25, .inl (iA a7))), (o.2.2 8, .inl (o.1, 225, .inl (iA a8))), (o.2.2 9, .inl (o.1, 9, .inl (iA a9)))]
section
variable {k : gK} {cc : ByteArray} {n L : Nat} {o : gO} {pc : Nat} {lv : List (Nat × Value)} {st : List Value} {a0 a1 a2 a3 a4 a5 a6 a7 a8 a9 : Int → Int} {v0 v1 v2 v3 v4 v5 v6 : Int}
theorem x_get_ends (hC : gC k cc RX1 [(o.1, .int)] n L) (hd : decode cc pc = .ok (.getfield 7, 3)) (kk : gW k (wX o (a0, a1, a2, a3, a4, a5, a6, a7, a8, a9, v0, v1, v2, v3, v4, v5, v6)) (pc + 3) lv (.ref (o.2.2 0) :: st)) : gW k (wX o (a0, a1, a2, a3, a4, a5, a6, a7, a8, a9, v0, v1, v2, v3, v4, v5, v6)) pc lv (.ref o.2.1 :: st) := g_get hC in_X1 0 rfl rfl 0 (by decide) q34 rfl hd kk
theorem x_ld_ends (hC : gC k cc RX1 [(o.1, .int)] n L) {i : Int} (hi : 0 ≤ i ∧ i < 24) (hd : decode cc pc = .ok (.iaload, 1)) (kk : gW k (wX o (a0, a1, a2, a3, a4, a5, a6, a7, a8, a9, v0, v1, v2, v3, v4, v5, v6)) (pc + 1) lv (vI (a0 i) :: st)) : gW k (wX o (a0, a1, a2, a3, a4, a5, a6, a7, a8, a9, v0, v1, v2, v3, v4, v5, v6)) pc lv (vI i :: .ref (o.2.2 0) :: st) := g_iald hC 1 0 rfl rfl (by decide) hi hd kk
theorem x_st_ends (hC : gC k cc RX1 [(o.1, .int)] n L) {i x : Int} (hi : 0 ≤ i ∧ i < 24) (hd : decode cc pc = .ok (.iastore, 1)) (kk : ∀ f : Int → Int, f = iU a0 i x → gW k (wX o (f, a1, a2, a3, a4, a5, a6, a7, a8, a9, v0, v1, v2, v3, v4, v5, v6)) (pc + 1) lv st) : gW k (wX o (a0, a1, a2, a3, a4, a5, a6, a7, a8, a9, v0, v1, v2, v3, v4, v5, v6)) pc lv (vI x :: vI i :: .ref (o.2.2 0) :: st) := g_iast hC 1 0 rfl rfl (by decide) hi hd (kk _ rfl)
theorem x_get_begins (hC : gC k cc RX1 [(o.1, .int)] n L) (hd : decode cc pc = .ok (.getfield 13, 3)) (kk : gW k (wX o (a0, a1, a2, a3, a4, a5, a6, a7, a8, a9, v0, v1, v2, v3, v4, v5, v6)) (pc + 3) lv (.ref (o.2.2 1) :: st)) : gW k (wX o (a0, a1, a2, a3, a4, a5, a6, a7, a8, a9, v0, v1, v2, v3, v4, v5, v6)) pc lv (.ref o.2.1 :: st) := g_get hC in_X1 0 rfl rfl 1 (by decide) q35 rfl hd kk
theorem x_ld_begins (hC : gC k cc RX1 [(o.1, .int)] n L) {i : Int} (hi : 0 ≤ i ∧ i < 24) (hd : decode cc pc = .ok (.iaload, 1)) (kk : gW k (wX o (a0, a1, a2, a3, a4, a5, a6, a7, a8, a9, v0, v1, v2, v3, v4, v5, v6)) (pc + 1) lv (vI (a1 i) :: st)) : gW k (wX o (a0, a1, a2, a3, a4, a5, a6, a7, a8, a9, v0, v1, v2, v3, v4, v5, v6)) pc lv (vI i :: .ref (o.2.2 1) :: st) := g_iald hC 2 0 rfl rfl (by decide) hi hd kk
theorem x_st_begins (hC : gC k cc RX1 [(o.1, .int)] n L) {i x : Int} (hi : 0 ≤ i ∧ i < 24) (hd : decode cc pc = .ok (.iastore, 1)) (kk : ∀ f : Int → Int, f = iU a1 i x → gW k (wX o (a0, f, a2, a3, a4, a5, a6, a7, a8, a9, v0, v1, v2, v3, v4, v5, v6)) (pc + 1) lv st) : gW k (wX o (a0, a1, a2, a3, a4, a5, a6, a7, a8, a9, v0, v1, v2, v3, v4, v5, v6)) pc lv (vI x :: vI i :: .ref (o.2.2 1) :: st) := g_iast hC 2 0 rfl rfl (by decide) hi hd (kk _ rfl)
theorem x_get_limits (hC : gC k cc RX1 [(o.1, .int)] n L) (hd : decode cc pc = .ok (.getfield 16, 3)) (kk : gW k (wX o (a0, a1, a2, a3, a4, a5, a6, a7, a8, a9, v0, v1, v2, v3, v4, v5, v6)) (pc + 3) lv (.ref (o.2.2 2) :: st)) : gW k (wX o (a0, a1, a2, a3, a4, a5, a6, a7, a8, a9, v0, v1, v2, v3, v4, v5, v6)) pc lv (.ref o.2.1 :: st) := g_get hC in_X1 0 rfl rfl 2 (by decide) q36 rfl hd kk
theorem x_ld_limits (hC : gC k cc RX1 [(o.1, .int)] n L) {i : Int} (hi : 0 ≤ i ∧ i < 24) (hd : decode cc pc = .ok (.iaload, 1)) (kk : gW k (wX o (a0, a1, a2, a3, a4, a5, a6, a7, a8, a9, v0, v1, v2, v3, v4, v5, v6)) (pc + 1) lv (vI (a2 i) :: st)) : gW k (wX o (a0, a1, a2, a3, a4, a5, a6, a7, a8, a9, v0, v1, v2, v3, v4, v5, v6)) pc lv (vI i :: .ref (o.2.2 2) :: st) := g_iald hC 3 0 rfl rfl (by decide) hi hd kk
theorem x_st_limits (hC : gC k cc RX1 [(o.1, .int)] n L) {i x : Int} (hi : 0 ≤ i ∧ i < 24) (hd : decode cc pc = .ok (.iastore, 1)) (kk : ∀ f : Int → Int, f = iU a2 i x → gW k (wX o (a0, a1, f, a3, a4, a5, a6, a7, a8, a9, v0, v1, v2, v3, v4, v5, v6)) (pc + 1) lv st) : gW k (wX o (a0, a1, a2, a3, a4, a5, a6, a7, a8, a9, v0, v1, v2, v3, v4, v5, v6)) pc lv (vI x :: vI i :: .ref (o.2.2 2) :: st) := g_iast hC 3 0 rfl rfl (by decide) hi hd (kk _ rfl)
theorem x_get_sizes (hC : gC k cc RX1 [(o.1, .int)] n L) (hd : decode cc pc = .ok (.getfield 19, 3)) (kk : gW k (wX o (a0, a1, a2, a3, a4, a5, a6, a7, a8, a9, v0, v1, v2, v3, v4, v5, v6)) (pc + 3) lv (.ref (o.2.2 3) :: st)) : gW k (wX o (a0, a1, a2, a3, a4, a5, a6, a7, a8, a9, v0, v1, v2, v3, v4, v5, v6)) pc lv (.ref o.2.1 :: st) := g_get hC in_X1 0 rfl rfl 3 (by decide) q37 rfl hd kk
theorem x_ld_sizes (hC : gC k cc RX1 [(o.1, .int)] n L) {i : Int} (hi : 0 ≤ i ∧ i < 8) (hd : decode cc pc = .ok (.iaload, 1)) (kk : gW k (wX o (a0, a1, a2, a3, a4, a5, a6, a7, a8, a9, v0, v1, v2, v3, v4, v5, v6)) (pc + 1) lv (vI (a3 i) :: st)) : gW k (wX o (a0, a1, a2, a3, a4, a5, a6, a7, a8, a9, v0, v1, v2, v3, v4, v5, v6)) pc lv (vI i :: .ref (o.2.2 3) :: st) := g_iald hC 4 0 rfl rfl (by decide) hi hd kk
theorem x_st_sizes (hC : gC k cc RX1 [(o.1, .int)] n L) {i x : Int} (hi : 0 ≤ i ∧ i < 8) (hd : decode cc pc = .ok (.iastore, 1)) (kk : ∀ f : Int → Int, f = iU a3 i x → gW k (wX o (a0, a1, a2, f, a4, a5, a6, a7, a8, a9, v0, v1, v2, v3, v4, v5, v6)) (pc + 1) lv st) : gW k (wX o (a0, a1, a2, a3, a4, a5, a6, a7, a8, a9, v0, v1, v2, v3, v4, v5, v6)) pc lv (vI x :: vI i :: .ref (o.2.2 3) :: st) := g_iast hC 4 0 rfl rfl (by decide) hi hd (kk _ rfl)
theorem x_get_draftEnd (hC : gC k cc RX1 [(o.1, .int)] n L) (hd : decode cc pc = .ok (.getfield 22, 3)) (kk : gW k (wX o (a0, a1, a2, a3, a4, a5, a6, a7, a8, a9, v0, v1, v2, v3, v4, v5, v6)) (pc + 3) lv (.ref (o.2.2 4) :: st)) : gW k (wX o (a0, a1, a2, a3, a4, a5, a6, a7, a8, a9, v0, v1, v2, v3, v4, v5, v6)) pc lv (.ref o.2.1 :: st) := g_get hC in_X1 0 rfl rfl 4 (by decide) q38 rfl hd kk
theorem x_ld_draftEnd (hC : gC k cc RX1 [(o.1, .int)] n L) {i : Int} (hi : 0 ≤ i ∧ i < 3) (hd : decode cc pc = .ok (.iaload, 1)) (kk : gW k (wX o (a0, a1, a2, a3, a4, a5, a6, a7, a8, a9, v0, v1, v2, v3, v4, v5, v6)) (pc + 1) lv (vI (a4 i) :: st)) : gW k (wX o (a0, a1, a2, a3, a4, a5, a6, a7, a8, a9, v0, v1, v2, v3, v4, v5, v6)) pc lv (vI i :: .ref (o.2.2 4) :: st) := g_iald hC 5 0 rfl rfl (by decide) hi hd kk
theorem x_st_draftEnd (hC : gC k cc RX1 [(o.1, .int)] n L) {i x : Int} (hi : 0 ≤ i ∧ i < 3) (hd : decode cc pc = .ok (.iastore, 1)) (kk : ∀ f : Int → Int, f = iU a4 i x → gW k (wX o (a0, a1, a2, a3, f, a5, a6, a7, a8, a9, v0, v1, v2, v3, v4, v5, v6)) (pc + 1) lv st) : gW k (wX o (a0, a1, a2, a3, a4, a5, a6, a7, a8, a9, v0, v1, v2, v3, v4, v5, v6)) pc lv (vI x :: vI i :: .ref (o.2.2 4) :: st) := g_iast hC 5 0 rfl rfl (by decide) hi hd (kk _ rfl)
theorem x_get_draftBegin (hC : gC k cc RX1 [(o.1, .int)] n L) (hd : decode cc pc = .ok (.getfield 25, 3)) (kk : gW k (wX o (a0, a1, a2, a3, a4, a5, a6, a7, a8, a9, v0, v1, v2, v3, v4, v5, v6)) (pc + 3) lv (.ref (o.2.2 5) :: st)) : gW k (wX o (a0, a1, a2, a3, a4, a5, a6, a7, a8, a9, v0, v1, v2, v3, v4, v5, v6)) pc lv (.ref o.2.1 :: st) := g_get hC in_X1 0 rfl rfl 5 (by decide) q39 rfl hd kk
theorem x_ld_draftBegin (hC : gC k cc RX1 [(o.1, .int)] n L) {i : Int} (hi : 0 ≤ i ∧ i < 3) (hd : decode cc pc = .ok (.iaload, 1)) (kk : gW k (wX o (a0, a1, a2, a3, a4, a5, a6, a7, a8, a9, v0, v1, v2, v3, v4, v5, v6)) (pc + 1) lv (vI (a5 i) :: st)) : gW k (wX o (a0, a1, a2, a3, a4, a5, a6, a7, a8, a9, v0, v1, v2, v3, v4, v5, v6)) pc lv (vI i :: .ref (o.2.2 5) :: st) := g_iald hC 6 0 rfl rfl (by decide) hi hd kk
theorem x_st_draftBegin (hC : gC k cc RX1 [(o.1, .int)] n L) {i x : Int} (hi : 0 ≤ i ∧ i < 3) (hd : decode cc pc = .ok (.iastore, 1)) (kk : ∀ f : Int → Int, f = iU a5 i x → gW k (wX o (a0, a1, a2, a3, a4, f, a6, a7, a8, a9, v0, v1, v2, v3, v4, v5, v6)) (pc + 1) lv st) : gW k (wX o (a0, a1, a2, a3, a4, a5, a6, a7, a8, a9, v0, v1, v2, v3, v4, v5, v6)) pc lv (vI x :: vI i :: .ref (o.2.2 5) :: st) := g_iast hC 6 0 rfl rfl (by decide) hi hd (kk _ rfl)
theorem x_get_draftLimit (hC : gC k cc RX1 [(o.1, .int)] n L) (hd : decode cc pc = .ok (.getfield 28, 3)) (kk : gW k (wX o (a0, a1, a2, a3, a4, a5, a6, a7, a8, a9, v0, v1, v2, v3, v4, v5, v6)) (pc + 3) lv (.ref (o.2.2 6) :: st)) : gW k (wX o (a0, a1, a2, a3, a4, a5, a6, a7, a8, a9, v0, v1, v2, v3, v4, v5, v6)) pc lv (.ref o.2.1 :: st) := g_get hC in_X1 0 rfl rfl 6 (by decide) q40 rfl hd kk
theorem x_ld_draftLimit (hC : gC k cc RX1 [(o.1, .int)] n L) {i : Int} (hi : 0 ≤ i ∧ i < 3) (hd : decode cc pc = .ok (.iaload, 1)) (kk : gW k (wX o (a0, a1, a2, a3, a4, a5, a6, a7, a8, a9, v0, v1, v2, v3, v4, v5, v6)) (pc + 1) lv (vI (a6 i) :: st)) : gW k (wX o (a0, a1, a2, a3, a4, a5, a6, a7, a8, a9, v0, v1, v2, v3, v4, v5, v6)) pc lv (vI i :: .ref (o.2.2 6) :: st) := g_iald hC 7 0 rfl rfl (by decide) hi hd kk
theorem x_st_draftLimit (hC : gC k cc RX1 [(o.1, .int)] n L) {i x : Int} (hi : 0 ≤ i ∧ i < 3) (hd : decode cc pc = .ok (.iastore, 1)) (kk : ∀ f : Int → Int, f = iU a6 i x → gW k (wX o (a0, a1, a2, a3, a4, a5, f, a7, a8, a9, v0, v1, v2, v3, v4, v5, v6)) (pc + 1) lv st) : gW k (wX o (a0, a1, a2, a3, a4, a5, a6, a7, a8, a9, v0, v1, v2, v3, v4, v5, v6)) pc lv (vI x :: vI i :: .ref (o.2.2 6) :: st) := g_iast hC 7 0 rfl rfl (by decide) hi hd (kk _ rfl)
theorem x_get_start (hC : gC k cc RX1 [(o.1, .int)] n L) (hd : decode cc pc = .ok (.getfield 31, 3)) (kk : gW k (wX o (a0, a1, a2, a3, a4, a5, a6, a7, a8, a9, v0, v1, v2, v3, v4, v5, v6)) (pc + 3) lv (.ref (o.2.2 7) :: st)) : gW k (wX o (a0, a1, a2, a3, a4, a5, a6, a7, a8, a9, v0, v1, v2, v3, v4, v5, v6)) pc lv (.ref o.2.1 :: st) := g_get hC in_X1 0 rfl rfl 7 (by decide) q41 rfl hd kk
theorem x_ld_start (hC : gC k cc RX1 [(o.1, .int)] n L) {i : Int} (hi : 0 ≤ i ∧ i < 25) (hd : decode cc pc = .ok (.iaload, 1)) (kk : gW k (wX o (a0, a1, a2, a3, a4, a5, a6, a7, a8, a9, v0, v1, v2, v3, v4, v5, v6)) (pc + 1) lv (vI (a7 i) :: st)) : gW k (wX o (a0, a1, a2, a3, a4, a5, a6, a7, a8, a9, v0, v1, v2, v3, v4, v5, v6)) pc lv (vI i :: .ref (o.2.2 7) :: st) := g_iald hC 8 0 rfl rfl (by decide) hi hd kk
theorem x_st_start (hC : gC k cc RX1 [(o.1, .int)] n L) {i x : Int} (hi : 0 ≤ i ∧ i < 25) (hd : decode cc pc = .ok (.iastore, 1)) (kk : ∀ f : Int → Int, f = iU a7 i x → gW k (wX o (a0, a1, a2, a3, a4, a5, a6, f, a8, a9, v0, v1, v2, v3, v4, v5, v6)) (pc + 1) lv st) : gW k (wX o (a0, a1, a2, a3, a4, a5, a6, a7, a8, a9, v0, v1, v2, v3, v4, v5, v6)) pc lv (vI x :: vI i :: .ref (o.2.2 7) :: st) := g_iast hC 8 0 rfl rfl (by decide) hi hd (kk _ rfl)
theorem x_get_matrix (hC : gC k cc RX1 [(o.1, .int)] n L) (hd : decode cc pc = .ok (.getfield 34, 3)) (kk : gW k (wX o (a0, a1, a2, a3, a4, a5, a6, a7, a8, a9, v0, v1, v2, v3, v4, v5, v6)) (pc + 3) lv (.ref (o.2.2 8) :: st)) : gW k (wX o (a0, a1, a2, a3, a4, a5, a6, a7, a8, a9, v0, v1, v2, v3, v4, v5, v6)) pc lv (.ref o.2.1 :: st) := g_get hC in_X1 0 rfl rfl 8 (by decide) q42 rfl hd kk
theorem x_ld_matrix (hC : gC k cc RX1 [(o.1, .int)] n L) {i : Int} (hi : 0 ≤ i ∧ i < 225) (hd : decode cc pc = .ok (.iaload, 1)) (kk : gW k (wX o (a0, a1, a2, a3, a4, a5, a6, a7, a8, a9, v0, v1, v2, v3, v4, v5, v6)) (pc + 1) lv (vI (a8 i) :: st)) : gW k (wX o (a0, a1, a2, a3, a4, a5, a6, a7, a8, a9, v0, v1, v2, v3, v4, v5, v6)) pc lv (vI i :: .ref (o.2.2 8) :: st) := g_iald hC 9 0 rfl rfl (by decide) hi hd kk
theorem x_st_matrix (hC : gC k cc RX1 [(o.1, .int)] n L) {i x : Int} (hi : 0 ≤ i ∧ i < 225) (hd : decode cc pc = .ok (.iastore, 1)) (kk : ∀ f : Int → Int, f = iU a8 i x → gW k (wX o (a0, a1, a2, a3, a4, a5, a6, a7, f, a9, v0, v1, v2, v3, v4, v5, v6)) (pc + 1) lv st) : gW k (wX o (a0, a1, a2, a3, a4, a5, a6, a7, a8, a9, v0, v1, v2, v3, v4, v5, v6)) pc lv (vI x :: vI i :: .ref (o.2.2 8) :: st) := g_iast hC 9 0 rfl rfl (by decide) hi hd (kk _ rfl)
theorem x_get_turn (hC : gC k cc RX1 [(o.1, .int)] n L) (hd : decode cc pc = .ok (.getfield 37, 3)) (kk : gW k (wX o (a0, a1, a2, a3, a4, a5, a6, a7, a8, a9, v0, v1, v2, v3, v4, v5, v6)) (pc + 3) lv (.ref (o.2.2 9) :: st)) : gW k (wX o (a0, a1, a2, a3, a4, a5, a6, a7, a8, a9, v0, v1, v2, v3, v4, v5, v6)) pc lv (.ref o.2.1 :: st) := g_get hC in_X1 0 rfl rfl 9 (by decide) q43 rfl hd kk
theorem x_ld_turn (hC : gC k cc RX1 [(o.1, .int)] n L) {i : Int} (hi : 0 ≤ i ∧ i < 9) (hd : decode cc pc = .ok (.iaload, 1)) (kk : gW k (wX o (a0, a1, a2, a3, a4, a5, a6, a7, a8, a9, v0, v1, v2, v3, v4, v5, v6)) (pc + 1) lv (vI (a9 i) :: st)) : gW k (wX o (a0, a1, a2, a3, a4, a5, a6, a7, a8, a9, v0, v1, v2, v3, v4, v5, v6)) pc lv (vI i :: .ref (o.2.2 9) :: st) := g_iald hC 10 0 rfl rfl (by decide) hi hd kk
theorem x_st_turn (hC : gC k cc RX1 [(o.1, .int)] n L) {i x : Int} (hi : 0 ≤ i ∧ i < 9) (hd : decode cc pc = .ok (.iastore, 1)) (kk : ∀ f : Int → Int, f = iU a9 i x → gW k (wX o (a0, a1, a2, a3, a4, a5, a6, a7, a8, f, v0, v1, v2, v3, v4, v5, v6)) (pc + 1) lv st) : gW k (wX o (a0, a1, a2, a3, a4, a5, a6, a7, a8, a9, v0, v1, v2, v3, v4, v5, v6)) pc lv (vI x :: vI i :: .ref (o.2.2 9) :: st) := g_iast hC 10 0 rfl rfl (by decide) hi hd (kk _ rfl)
theorem x_get_n (hC : gC k cc RX1 [(o.1, .int)] n L) (hd : decode cc pc = .ok (.getfield 40, 3)) (kk : gW k (wX o (a0, a1, a2, a3, a4, a5, a6, a7, a8, a9, v0, v1, v2, v3, v4, v5, v6)) (pc + 3) lv (vI v0 :: st)) : gW k (wX o (a0, a1, a2, a3, a4, a5, a6, a7, a8, a9, v0, v1, v2, v3, v4, v5, v6)) pc lv (.ref o.2.1 :: st) := g_get hC in_X1 0 rfl rfl 10 (by decide) q44 rfl hd kk
theorem x_put_n (hC : gC k cc RX1 [(o.1, .int)] n L) {x : Int} (hd : decode cc pc = .ok (.putfield 40, 3)) (kk : gW k (wX o (a0, a1, a2, a3, a4, a5, a6, a7, a8, a9, x, v1, v2, v3, v4, v5, v6)) (pc + 3) lv st) : gW k (wX o (a0, a1, a2, a3, a4, a5, a6, a7, a8, a9, v0, v1, v2, v3, v4, v5, v6)) pc lv (vI x :: .ref o.2.1 :: st) := by
  refine g_put hC in_X1 tyX1 tyX1_ok nmX1 0 (ci := 0) (fs := [Value.ref (o.2.2 0), Value.ref (o.2.2 1), Value.ref (o.2.2 2), Value.ref (o.2.2 3), Value.ref (o.2.2 4), Value.ref (o.2.2 5), Value.ref (o.2.2 6), Value.ref (o.2.2 7), Value.ref (o.2.2 8), Value.ref (o.2.2 9), vI v0, vI v1, vI v2, vI v3, vI v4, vI v5, vI v6]) rfl rfl 10 (by decide) q44 rfl (ty := .int) rfl rfl rfl (Nat.le_of_ble_eq_true rfl) hd ?_
  exact kk
theorem x_get_count (hC : gC k cc RX1 [(o.1, .int)] n L) (hd : decode cc pc = .ok (.getfield 54, 3)) (kk : gW k (wX o (a0, a1, a2, a3, a4, a5, a6, a7, a8, a9, v0, v1, v2, v3, v4, v5, v6)) (pc + 3) lv (vI v1 :: st)) : gW k (wX o (a0, a1, a2, a3, a4, a5, a6, a7, a8, a9, v0, v1, v2, v3, v4, v5, v6)) pc lv (.ref o.2.1 :: st) := g_get hC in_X1 0 rfl rfl 11 (by decide) q45 rfl hd kk
theorem x_put_count (hC : gC k cc RX1 [(o.1, .int)] n L) {x : Int} (hd : decode cc pc = .ok (.putfield 54, 3)) (kk : gW k (wX o (a0, a1, a2, a3, a4, a5, a6, a7, a8, a9, v0, x, v2, v3, v4, v5, v6)) (pc + 3) lv st) : gW k (wX o (a0, a1, a2, a3, a4, a5, a6, a7, a8, a9, v0, v1, v2, v3, v4, v5, v6)) pc lv (vI x :: .ref o.2.1 :: st) := by
  refine g_put hC in_X1 tyX1 tyX1_ok nmX1 0 (ci := 0) (fs := [Value.ref (o.2.2 0), Value.ref (o.2.2 1), Value.ref (o.2.2 2), Value.ref (o.2.2 3), Value.ref (o.2.2 4), Value.ref (o.2.2 5), Value.ref (o.2.2 6), Value.ref (o.2.2 7), Value.ref (o.2.2 8), Value.ref (o.2.2 9), vI v0, vI v1, vI v2, vI v3, vI v4, vI v5, vI v6]) rfl rfl 11 (by decide) q45 rfl (ty := .int) rfl rfl rfl (Nat.le_of_ble_eq_true rfl) hd ?_
  exact kk
theorem x_get_draftSize (hC : gC k cc RX1 [(o.1, .int)] n L) (hd : decode cc pc = .ok (.getfield 51, 3)) (kk : gW k (wX o (a0, a1, a2, a3, a4, a5, a6, a7, a8, a9, v0, v1, v2, v3, v4, v5, v6)) (pc + 3) lv (vI v2 :: st)) : gW k (wX o (a0, a1, a2, a3, a4, a5, a6, a7, a8, a9, v0, v1, v2, v3, v4, v5, v6)) pc lv (.ref o.2.1 :: st) := g_get hC in_X1 0 rfl rfl 12 (by decide) q46 rfl hd kk
theorem x_put_draftSize (hC : gC k cc RX1 [(o.1, .int)] n L) {x : Int} (hd : decode cc pc = .ok (.putfield 51, 3)) (kk : gW k (wX o (a0, a1, a2, a3, a4, a5, a6, a7, a8, a9, v0, v1, x, v3, v4, v5, v6)) (pc + 3) lv st) : gW k (wX o (a0, a1, a2, a3, a4, a5, a6, a7, a8, a9, v0, v1, v2, v3, v4, v5, v6)) pc lv (vI x :: .ref o.2.1 :: st) := by
  refine g_put hC in_X1 tyX1 tyX1_ok nmX1 0 (ci := 0) (fs := [Value.ref (o.2.2 0), Value.ref (o.2.2 1), Value.ref (o.2.2 2), Value.ref (o.2.2 3), Value.ref (o.2.2 4), Value.ref (o.2.2 5), Value.ref (o.2.2 6), Value.ref (o.2.2 7), Value.ref (o.2.2 8), Value.ref (o.2.2 9), vI v0, vI v1, vI v2, vI v3, vI v4, vI v5, vI v6]) rfl rfl 12 (by decide) q46 rfl (ty := .int) rfl rfl rfl (Nat.le_of_ble_eq_true rfl) hd ?_
  exact kk
theorem x_get_active (hC : gC k cc RX1 [(o.1, .int)] n L) (hd : decode cc pc = .ok (.getfield 96, 3)) (kk : gW k (wX o (a0, a1, a2, a3, a4, a5, a6, a7, a8, a9, v0, v1, v2, v3, v4, v5, v6)) (pc + 3) lv (vI v3 :: st)) : gW k (wX o (a0, a1, a2, a3, a4, a5, a6, a7, a8, a9, v0, v1, v2, v3, v4, v5, v6)) pc lv (.ref o.2.1 :: st) := g_get hC in_X1 0 rfl rfl 13 (by decide) q47 rfl hd kk
theorem x_put_active (hC : gC k cc RX1 [(o.1, .int)] n L) {x : Int} (hd : decode cc pc = .ok (.putfield 96, 3)) (kk : gW k (wX o (a0, a1, a2, a3, a4, a5, a6, a7, a8, a9, v0, v1, v2, x, v4, v5, v6)) (pc + 3) lv st) : gW k (wX o (a0, a1, a2, a3, a4, a5, a6, a7, a8, a9, v0, v1, v2, v3, v4, v5, v6)) pc lv (vI x :: .ref o.2.1 :: st) := by
  refine g_put hC in_X1 tyX1 tyX1_ok nmX1 0 (ci := 0) (fs := [Value.ref (o.2.2 0), Value.ref (o.2.2 1), Value.ref (o.2.2 2), Value.ref (o.2.2 3), Value.ref (o.2.2 4), Value.ref (o.2.2 5), Value.ref (o.2.2 6), Value.ref (o.2.2 7), Value.ref (o.2.2 8), Value.ref (o.2.2 9), vI v0, vI v1, vI v2, vI v3, vI v4, vI v5, vI v6]) rfl rfl 13 (by decide) q47 rfl (ty := .int) rfl rfl rfl (Nat.le_of_ble_eq_true rfl) hd ?_
  exact kk
theorem x_get_skipped (hC : gC k cc RX1 [(o.1, .int)] n L) (hd : decode cc pc = .ok (.getfield 44, 3)) (kk : gW k (wX o (a0, a1, a2, a3, a4, a5, a6, a7, a8, a9, v0, v1, v2, v3, v4, v5, v6)) (pc + 3) lv (vI v4 :: st)) : gW k (wX o (a0, a1, a2, a3, a4, a5, a6, a7, a8, a9, v0, v1, v2, v3, v4, v5, v6)) pc lv (.ref o.2.1 :: st) := g_get hC in_X1 0 rfl rfl 14 (by decide) q48 rfl hd kk
theorem x_put_skipped (hC : gC k cc RX1 [(o.1, .int)] n L) {x : Int} (hd : decode cc pc = .ok (.putfield 44, 3)) (kk : gW k (wX o (a0, a1, a2, a3, a4, a5, a6, a7, a8, a9, v0, v1, v2, v3, x, v5, v6)) (pc + 3) lv st) : gW k (wX o (a0, a1, a2, a3, a4, a5, a6, a7, a8, a9, v0, v1, v2, v3, v4, v5, v6)) pc lv (vI x :: .ref o.2.1 :: st) := by
  refine g_put hC in_X1 tyX1 tyX1_ok nmX1 0 (ci := 0) (fs := [Value.ref (o.2.2 0), Value.ref (o.2.2 1), Value.ref (o.2.2 2), Value.ref (o.2.2 3), Value.ref (o.2.2 4), Value.ref (o.2.2 5), Value.ref (o.2.2 6), Value.ref (o.2.2 7), Value.ref (o.2.2 8), Value.ref (o.2.2 9), vI v0, vI v1, vI v2, vI v3, vI v4, vI v5, vI v6]) rfl rfl 14 (by decide) q48 rfl (ty := .int) rfl rfl rfl (Nat.le_of_ble_eq_true rfl) hd ?_
  exact kk
theorem x_get_startBad (hC : gC k cc RX1 [(o.1, .int)] n L) (hd : decode cc pc = .ok (.getfield 92, 3)) (kk : gW k (wX o (a0, a1, a2, a3, a4, a5, a6, a7, a8, a9, v0, v1, v2, v3, v4, v5, v6)) (pc + 3) lv (vI v5 :: st)) : gW k (wX o (a0, a1, a2, a3, a4, a5, a6, a7, a8, a9, v0, v1, v2, v3, v4, v5, v6)) pc lv (.ref o.2.1 :: st) := g_get hC in_X1 0 rfl rfl 15 (by decide) q49 rfl hd kk
theorem x_put_startBad (hC : gC k cc RX1 [(o.1, .int)] n L) {x : Int} (hn : narrow .boolean (vI x) = vI x) (hf : fits .boolean (vI x) = true) (hd : decode cc pc = .ok (.putfield 92, 3)) (kk : gW k (wX o (a0, a1, a2, a3, a4, a5, a6, a7, a8, a9, v0, v1, v2, v3, v4, x, v6)) (pc + 3) lv st) : gW k (wX o (a0, a1, a2, a3, a4, a5, a6, a7, a8, a9, v0, v1, v2, v3, v4, v5, v6)) pc lv (vI x :: .ref o.2.1 :: st) := by
  refine g_put hC in_X1 tyX1 tyX1_ok nmX1 0 (ci := 0) (fs := [Value.ref (o.2.2 0), Value.ref (o.2.2 1), Value.ref (o.2.2 2), Value.ref (o.2.2 3), Value.ref (o.2.2 4), Value.ref (o.2.2 5), Value.ref (o.2.2 6), Value.ref (o.2.2 7), Value.ref (o.2.2 8), Value.ref (o.2.2 9), vI v0, vI v1, vI v2, vI v3, vI v4, vI v5, vI v6]) rfl rfl 15 (by decide) q49 rfl (ty := .boolean) rfl hn hf (Nat.le_of_ble_eq_true rfl) hd ?_
  exact kk
theorem x_get_best (hC : gC k cc RX1 [(o.1, .int)] n L) (hd : decode cc pc = .ok (.getfield 78, 3)) (kk : gW k (wX o (a0, a1, a2, a3, a4, a5, a6, a7, a8, a9, v0, v1, v2, v3, v4, v5, v6)) (pc + 3) lv (vI v6 :: st)) : gW k (wX o (a0, a1, a2, a3, a4, a5, a6, a7, a8, a9, v0, v1, v2, v3, v4, v5, v6)) pc lv (.ref o.2.1 :: st) := g_get hC in_X1 0 rfl rfl 16 (by decide) q50 rfl hd kk
theorem x_put_best (hC : gC k cc RX1 [(o.1, .int)] n L) {x : Int} (hd : decode cc pc = .ok (.putfield 78, 3)) (kk : gW k (wX o (a0, a1, a2, a3, a4, a5, a6, a7, a8, a9, v0, v1, v2, v3, v4, v5, x)) (pc + 3) lv st) : gW k (wX o (a0, a1, a2, a3, a4, a5, a6, a7, a8, a9, v0, v1, v2, v3, v4, v5, v6)) pc lv (vI x :: .ref o.2.1 :: st) := by
  refine g_put hC in_X1 tyX1 tyX1_ok nmX1 0 (ci := 0) (fs := [Value.ref (o.2.2 0), Value.ref (o.2.2 1), Value.ref (o.2.2 2), Value.ref (o.2.2 3), Value.ref (o.2.2 4), Value.ref (o.2.2 5), Value.ref (o.2.2 6), Value.ref (o.2.2 7), Value.ref (o.2.2 8), Value.ref (o.2.2 9), vI v0, vI v1, vI v2, vI v3, vI v4, vI v5, vI v6]) rfl rfl 16 (by decide) q50 rfl (ty := .int) rfl rfl rfl (Nat.le_of_ble_eq_true rfl) hd ?_
  exact kk
theorem x_sp : gSp (wX o (a0, a1, a2, a3, a4, a5, a6, a7, a8, a9, v0, v1, v2, v3, v4, v5, v6)) (wX o (a0, a1, a2, a3, a4, a5, a6, a7, a8, a9, v0, v1, v2, v3, v4, v5, v6)) [] [0, 1, 2, 3, 4, 5, 6, 7, 8, 9, 10] [] := ⟨rfl, rfl, rfl, rfl, rfl, by decide⟩
theorem x_callI {S : Type} {post : Int → S → Prop} {g : S → va_W} {y : MethodName} {cb : ByteArray} {Lb nb na idx : Nat} {ty : FieldType} {As rest st0 : List Value} (hC : gC k cc RX1 [(o.1, .int)] n L) (hI : gI y RX1 cb Lb (some ty) na) (hlk : Cond.methodLink RX1 idx y ∈ lw_all) (hM : gMetI (gL k) y cb Lb ty nb (gD k) [(o.1, .int)] (wX o (a0, a1, a2, a3, a4, a5, a6, a7, a8, a9, v0, v1, v2, v3, v4, v5, v6)) (.ref o.2.1 :: As) post g) (hn : nb + 1 ≤ n) (hna : As.length = na) (hst : st0 = As.reverse ++ .ref o.2.1 :: rest) (hrest : (rest.map fun v => v.category).sum ≤ 8) (hd : decode cc pc = .ok (.invokevirtual idx, 3)) (kk : ∀ (z : Int) (u : S), (-2147483648 ≤ z ∧ z < 2147483648) → post z u → gW k (g u) (pc + 3) lv (vI z :: rest)) : gW k (wX o (a0, a1, a2, a3, a4, a5, a6, a7, a8, a9, v0, v1, v2, v3, v4, v5, v6)) pc lv st0 := g_callI [0, 1, 2, 3, 4, 5, 6, 7, 8, 9, 10] [] [0] hC hI hlk hM hn hna x_sp rfl rfl (ci := 0) rfl rfl hst hrest hd kk
theorem x_callV {S : Type} {post : S → Prop} {g : S → va_W} {y : MethodName} {cb : ByteArray} {Lb nb na idx : Nat} {As rest st0 : List Value} (hC : gC k cc RX1 [(o.1, .int)] n L) (hI : gI y RX1 cb Lb none na) (hlk : Cond.methodLink RX1 idx y ∈ lw_all) (hM : gMetV (gL k) y cb Lb nb (gD k) [(o.1, .int)] (wX o (a0, a1, a2, a3, a4, a5, a6, a7, a8, a9, v0, v1, v2, v3, v4, v5, v6)) (.ref o.2.1 :: As) post g) (hn : nb + 1 ≤ n) (hna : As.length = na) (hst : st0 = As.reverse ++ .ref o.2.1 :: rest) (hrest : (rest.map fun v => v.category).sum ≤ 8) (hd : decode cc pc = .ok (.invokevirtual idx, 3)) (kk : ∀ (u : S), post u → gW k (g u) (pc + 3) lv rest) : gW k (wX o (a0, a1, a2, a3, a4, a5, a6, a7, a8, a9, v0, v1, v2, v3, v4, v5, v6)) pc lv st0 := g_callV [0, 1, 2, 3, 4, 5, 6, 7, 8, 9, 10] [] [0] hC hI hlk hM hn hna x_sp rfl rfl (ci := 0) rfl rfl hst hrest hd kk
end
abbrev MS : Type := (Int → Int) × (Int → Int) × (Int → Int) × (Int → Int) × Int × Int × Int × Int
/-- the cells of an object of this kind -/
def wM (o : gO) (S : MS) : va_W := match S with
  | (a0, a1, a2, a3, v0, v1, v2, v3) => [(o.2.1, .inr (1, [vI v0, vI v1, vI v2, vI v3, Value.ref (o.2.2 0), Value.ref (o.2.2 1), Value.ref (o.2.2 2), Value.ref (o.2.2 3)])), (o.2.2 0, .inl (o.1, 9, .inl (iA a0))), (o.2.2 1, .inl (o.1, 27, .inl (iA a1))), (o.2.2 2, .inl (o.1, 27, .inl (iA a2))), (o.2.2 3, .inl (o.1, 27, .inl (iA a3)))]
section
variable {k : gK} {cc : ByteArray} {n L : Nat} {o : gO} {pc : Nat} {lv : List (Nat × Value)} {st : List Value} {a0 a1 a2 a3 : Int → Int} {v0 v1 v2 v3 : Int}
theorem m_get_n (hC : gC k cc RX2 [(o.1, .int)] n L) (hd : decode cc pc = .ok (.getfield 22, 3)) (kk : gW k (wM o (a0, a1, a2, a3, v0, v1, v2, v3)) (pc + 3) lv (vI v0 :: st)) : gW k (wM o (a0, a1, a2, a3, v0, v1, v2, v3)) pc lv (.ref o.2.1 :: st) := g_get hC in_X2 0 rfl rfl 0 (by decide) q217 rfl hd kk
theorem m_put_n (hC : gC k cc RX2 [(o.1, .int)] n L) {x : Int} (hd : decode cc pc = .ok (.putfield 22, 3)) (kk : gW k (wM o (a0, a1, a2, a3, x, v1, v2, v3)) (pc + 3) lv st) : gW k (wM o (a0, a1, a2, a3, v0, v1, v2, v3)) pc lv (vI x :: .ref o.2.1 :: st) := by
  refine g_put hC in_X2 tyX2 tyX2_ok nmX2 0 (ci := 1) (fs := [vI v0, vI v1, vI v2, vI v3, Value.ref (o.2.2 0), Value.ref (o.2.2 1), Value.ref (o.2.2 2), Value.ref (o.2.2 3)]) rfl rfl 0 (by decide) q217 rfl (ty := .int) rfl rfl rfl (Nat.le_of_ble_eq_true rfl) hd ?_
  exact kk
theorem m_get_plans (hC : gC k cc RX2 [(o.1, .int)] n L) (hd : decode cc pc = .ok (.getfield 26, 3)) (kk : gW k (wM o (a0, a1, a2, a3, v0, v1, v2, v3)) (pc + 3) lv (vI v1 :: st)) : gW k (wM o (a0, a1, a2, a3, v0, v1, v2, v3)) pc lv (.ref o.2.1 :: st) := g_get hC in_X2 0 rfl rfl 1 (by decide) q218 rfl hd kk
theorem m_put_plans (hC : gC k cc RX2 [(o.1, .int)] n L) {x : Int} (hd : decode cc pc = .ok (.putfield 26, 3)) (kk : gW k (wM o (a0, a1, a2, a3, v0, x, v2, v3)) (pc + 3) lv st) : gW k (wM o (a0, a1, a2, a3, v0, v1, v2, v3)) pc lv (vI x :: .ref o.2.1 :: st) := by
  refine g_put hC in_X2 tyX2 tyX2_ok nmX2 0 (ci := 1) (fs := [vI v0, vI v1, vI v2, vI v3, Value.ref (o.2.2 0), Value.ref (o.2.2 1), Value.ref (o.2.2 2), Value.ref (o.2.2 3)]) rfl rfl 1 (by decide) q218 rfl (ty := .int) rfl rfl rfl (Nat.le_of_ble_eq_true rfl) hd ?_
  exact kk
theorem m_get_drafted (hC : gC k cc RX2 [(o.1, .int)] n L) (hd : decode cc pc = .ok (.getfield 33, 3)) (kk : gW k (wM o (a0, a1, a2, a3, v0, v1, v2, v3)) (pc + 3) lv (vI v2 :: st)) : gW k (wM o (a0, a1, a2, a3, v0, v1, v2, v3)) pc lv (.ref o.2.1 :: st) := g_get hC in_X2 0 rfl rfl 2 (by decide) q219 rfl hd kk
theorem m_put_drafted (hC : gC k cc RX2 [(o.1, .int)] n L) {x : Int} (hd : decode cc pc = .ok (.putfield 33, 3)) (kk : gW k (wM o (a0, a1, a2, a3, v0, v1, x, v3)) (pc + 3) lv st) : gW k (wM o (a0, a1, a2, a3, v0, v1, v2, v3)) pc lv (vI x :: .ref o.2.1 :: st) := by
  refine g_put hC in_X2 tyX2 tyX2_ok nmX2 0 (ci := 1) (fs := [vI v0, vI v1, vI v2, vI v3, Value.ref (o.2.2 0), Value.ref (o.2.2 1), Value.ref (o.2.2 2), Value.ref (o.2.2 3)]) rfl rfl 2 (by decide) q219 rfl (ty := .int) rfl rfl rfl (Nat.le_of_ble_eq_true rfl) hd ?_
  exact kk
theorem m_get_count (hC : gC k cc RX2 [(o.1, .int)] n L) (hd : decode cc pc = .ok (.getfield 40, 3)) (kk : gW k (wM o (a0, a1, a2, a3, v0, v1, v2, v3)) (pc + 3) lv (vI v3 :: st)) : gW k (wM o (a0, a1, a2, a3, v0, v1, v2, v3)) pc lv (.ref o.2.1 :: st) := g_get hC in_X2 0 rfl rfl 3 (by decide) q220 rfl hd kk
theorem m_put_count (hC : gC k cc RX2 [(o.1, .int)] n L) {x : Int} (hd : decode cc pc = .ok (.putfield 40, 3)) (kk : gW k (wM o (a0, a1, a2, a3, v0, v1, v2, x)) (pc + 3) lv st) : gW k (wM o (a0, a1, a2, a3, v0, v1, v2, v3)) pc lv (vI x :: .ref o.2.1 :: st) := by
  refine g_put hC in_X2 tyX2 tyX2_ok nmX2 0 (ci := 1) (fs := [vI v0, vI v1, vI v2, vI v3, Value.ref (o.2.2 0), Value.ref (o.2.2 1), Value.ref (o.2.2 2), Value.ref (o.2.2 3)]) rfl rfl 3 (by decide) q220 rfl (ty := .int) rfl rfl rfl (Nat.le_of_ble_eq_true rfl) hd ?_
  exact kk
theorem m_get_sizes (hC : gC k cc RX2 [(o.1, .int)] n L) (hd : decode cc pc = .ok (.getfield 7, 3)) (kk : gW k (wM o (a0, a1, a2, a3, v0, v1, v2, v3)) (pc + 3) lv (.ref (o.2.2 0) :: st)) : gW k (wM o (a0, a1, a2, a3, v0, v1, v2, v3)) pc lv (.ref o.2.1 :: st) := g_get hC in_X2 0 rfl rfl 4 (by decide) q221 rfl hd kk
theorem m_ld_sizes (hC : gC k cc RX2 [(o.1, .int)] n L) {i : Int} (hi : 0 ≤ i ∧ i < 9) (hd : decode cc pc = .ok (.iaload, 1)) (kk : gW k (wM o (a0, a1, a2, a3, v0, v1, v2, v3)) (pc + 1) lv (vI (a0 i) :: st)) : gW k (wM o (a0, a1, a2, a3, v0, v1, v2, v3)) pc lv (vI i :: .ref (o.2.2 0) :: st) := g_iald hC 1 0 rfl rfl (by decide) hi hd kk
theorem m_st_sizes (hC : gC k cc RX2 [(o.1, .int)] n L) {i x : Int} (hi : 0 ≤ i ∧ i < 9) (hd : decode cc pc = .ok (.iastore, 1)) (kk : ∀ f : Int → Int, f = iU a0 i x → gW k (wM o (f, a1, a2, a3, v0, v1, v2, v3)) (pc + 1) lv st) : gW k (wM o (a0, a1, a2, a3, v0, v1, v2, v3)) pc lv (vI x :: vI i :: .ref (o.2.2 0) :: st) := g_iast hC 1 0 rfl rfl (by decide) hi hd (kk _ rfl)
theorem m_get_left (hC : gC k cc RX2 [(o.1, .int)] n L) (hd : decode cc pc = .ok (.getfield 13, 3)) (kk : gW k (wM o (a0, a1, a2, a3, v0, v1, v2, v3)) (pc + 3) lv (.ref (o.2.2 1) :: st)) : gW k (wM o (a0, a1, a2, a3, v0, v1, v2, v3)) pc lv (.ref o.2.1 :: st) := g_get hC in_X2 0 rfl rfl 5 (by decide) q222 rfl hd kk
theorem m_ld_left (hC : gC k cc RX2 [(o.1, .int)] n L) {i : Int} (hi : 0 ≤ i ∧ i < 27) (hd : decode cc pc = .ok (.iaload, 1)) (kk : gW k (wM o (a0, a1, a2, a3, v0, v1, v2, v3)) (pc + 1) lv (vI (a1 i) :: st)) : gW k (wM o (a0, a1, a2, a3, v0, v1, v2, v3)) pc lv (vI i :: .ref (o.2.2 1) :: st) := g_iald hC 2 0 rfl rfl (by decide) hi hd kk
theorem m_st_left (hC : gC k cc RX2 [(o.1, .int)] n L) {i x : Int} (hi : 0 ≤ i ∧ i < 27) (hd : decode cc pc = .ok (.iastore, 1)) (kk : ∀ f : Int → Int, f = iU a1 i x → gW k (wM o (a0, f, a2, a3, v0, v1, v2, v3)) (pc + 1) lv st) : gW k (wM o (a0, a1, a2, a3, v0, v1, v2, v3)) pc lv (vI x :: vI i :: .ref (o.2.2 1) :: st) := g_iast hC 2 0 rfl rfl (by decide) hi hd (kk _ rfl)
theorem m_get_right (hC : gC k cc RX2 [(o.1, .int)] n L) (hd : decode cc pc = .ok (.getfield 16, 3)) (kk : gW k (wM o (a0, a1, a2, a3, v0, v1, v2, v3)) (pc + 3) lv (.ref (o.2.2 2) :: st)) : gW k (wM o (a0, a1, a2, a3, v0, v1, v2, v3)) pc lv (.ref o.2.1 :: st) := g_get hC in_X2 0 rfl rfl 6 (by decide) q223 rfl hd kk
theorem m_ld_right (hC : gC k cc RX2 [(o.1, .int)] n L) {i : Int} (hi : 0 ≤ i ∧ i < 27) (hd : decode cc pc = .ok (.iaload, 1)) (kk : gW k (wM o (a0, a1, a2, a3, v0, v1, v2, v3)) (pc + 1) lv (vI (a2 i) :: st)) : gW k (wM o (a0, a1, a2, a3, v0, v1, v2, v3)) pc lv (vI i :: .ref (o.2.2 2) :: st) := g_iald hC 3 0 rfl rfl (by decide) hi hd kk
theorem m_st_right (hC : gC k cc RX2 [(o.1, .int)] n L) {i x : Int} (hi : 0 ≤ i ∧ i < 27) (hd : decode cc pc = .ok (.iastore, 1)) (kk : ∀ f : Int → Int, f = iU a2 i x → gW k (wM o (a0, a1, f, a3, v0, v1, v2, v3)) (pc + 1) lv st) : gW k (wM o (a0, a1, a2, a3, v0, v1, v2, v3)) pc lv (vI x :: vI i :: .ref (o.2.2 2) :: st) := g_iast hC 3 0 rfl rfl (by decide) hi hd (kk _ rfl)
theorem m_get_bound (hC : gC k cc RX2 [(o.1, .int)] n L) (hd : decode cc pc = .ok (.getfield 19, 3)) (kk : gW k (wM o (a0, a1, a2, a3, v0, v1, v2, v3)) (pc + 3) lv (.ref (o.2.2 3) :: st)) : gW k (wM o (a0, a1, a2, a3, v0, v1, v2, v3)) pc lv (.ref o.2.1 :: st) := g_get hC in_X2 0 rfl rfl 7 (by decide) q224 rfl hd kk
theorem m_ld_bound (hC : gC k cc RX2 [(o.1, .int)] n L) {i : Int} (hi : 0 ≤ i ∧ i < 27) (hd : decode cc pc = .ok (.iaload, 1)) (kk : gW k (wM o (a0, a1, a2, a3, v0, v1, v2, v3)) (pc + 1) lv (vI (a3 i) :: st)) : gW k (wM o (a0, a1, a2, a3, v0, v1, v2, v3)) pc lv (vI i :: .ref (o.2.2 3) :: st) := g_iald hC 4 0 rfl rfl (by decide) hi hd kk
theorem m_st_bound (hC : gC k cc RX2 [(o.1, .int)] n L) {i x : Int} (hi : 0 ≤ i ∧ i < 27) (hd : decode cc pc = .ok (.iastore, 1)) (kk : ∀ f : Int → Int, f = iU a3 i x → gW k (wM o (a0, a1, a2, f, v0, v1, v2, v3)) (pc + 1) lv st) : gW k (wM o (a0, a1, a2, a3, v0, v1, v2, v3)) pc lv (vI x :: vI i :: .ref (o.2.2 3) :: st) := g_iast hC 4 0 rfl rfl (by decide) hi hd (kk _ rfl)
theorem m_sp : gSp (wM o (a0, a1, a2, a3, v0, v1, v2, v3)) (wM o (a0, a1, a2, a3, v0, v1, v2, v3)) [] [0, 1, 2, 3, 4] [] := ⟨rfl, rfl, rfl, rfl, rfl, by decide⟩
theorem m_callI {S : Type} {post : Int → S → Prop} {g : S → va_W} {y : MethodName} {cb : ByteArray} {Lb nb na idx : Nat} {ty : FieldType} {As rest st0 : List Value} (hC : gC k cc RX2 [(o.1, .int)] n L) (hI : gI y RX2 cb Lb (some ty) na) (hlk : Cond.methodLink RX2 idx y ∈ lw_all) (hM : gMetI (gL k) y cb Lb ty nb (gD k) [(o.1, .int)] (wM o (a0, a1, a2, a3, v0, v1, v2, v3)) (.ref o.2.1 :: As) post g) (hn : nb + 1 ≤ n) (hna : As.length = na) (hst : st0 = As.reverse ++ .ref o.2.1 :: rest) (hrest : (rest.map fun v => v.category).sum ≤ 8) (hd : decode cc pc = .ok (.invokevirtual idx, 3)) (kk : ∀ (z : Int) (u : S), (-2147483648 ≤ z ∧ z < 2147483648) → post z u → gW k (g u) (pc + 3) lv (vI z :: rest)) : gW k (wM o (a0, a1, a2, a3, v0, v1, v2, v3)) pc lv st0 := g_callI [0, 1, 2, 3, 4] [] [0] hC hI hlk hM hn hna m_sp rfl rfl (ci := 1) rfl rfl hst hrest hd kk
theorem m_callV {S : Type} {post : S → Prop} {g : S → va_W} {y : MethodName} {cb : ByteArray} {Lb nb na idx : Nat} {As rest st0 : List Value} (hC : gC k cc RX2 [(o.1, .int)] n L) (hI : gI y RX2 cb Lb none na) (hlk : Cond.methodLink RX2 idx y ∈ lw_all) (hM : gMetV (gL k) y cb Lb nb (gD k) [(o.1, .int)] (wM o (a0, a1, a2, a3, v0, v1, v2, v3)) (.ref o.2.1 :: As) post g) (hn : nb + 1 ≤ n) (hna : As.length = na) (hst : st0 = As.reverse ++ .ref o.2.1 :: rest) (hrest : (rest.map fun v => v.category).sum ≤ 8) (hd : decode cc pc = .ok (.invokevirtual idx, 3)) (kk : ∀ (u : S), post u → gW k (g u) (pc + 3) lv rest) : gW k (wM o (a0, a1, a2, a3, v0, v1, v2, v3)) pc lv st0 := g_callV [0, 1, 2, 3, 4] [] [0] hC hI hlk hM hn hna m_sp rfl rfl (ci := 1) rfl rfl hst hrest hd kk
end
end
section
set_option maxRecDepth 100000
abbrev cJ0_init : ByteArray := object_method_1_code
def yJ0_init : MethodName := ⟨RJ0, "<init>", "()V"⟩
theorem dJ0_init_0 : decode cJ0_init 0 = .ok (.return_, 1) := by decide +kernel
end
section
set_option maxRecDepth 100000
abbrev cX0_cell : ByteArray := method_2_code
def yX0_cell : MethodName := ⟨RX0, "cell", "([II)I"⟩
theorem dX0_cell_0 : decode cX0_cell 0 = .ok (.iload_n 1, 1) := by decide +kernel
theorem dX0_cell_1 : decode cX0_cell 1 = .ok (.aload_n 0, 1) := by decide +kernel
theorem dX0_cell_2 : decode cX0_cell 2 = .ok (.arraylength, 1) := by decide +kernel
theorem dX0_cell_3 : decode cX0_cell 3 = .ok (.if_icmp .ge 9, 3) := by decide +kernel
theorem dX0_cell_6 : decode cX0_cell 6 = .ok (.aload_n 0, 1) := by decide +kernel
theorem dX0_cell_7 : decode cX0_cell 7 = .ok (.iload_n 1, 1) := by decide +kernel
theorem dX0_cell_8 : decode cX0_cell 8 = .ok (.iaload, 1) := by decide +kernel
theorem dX0_cell_9 : decode cX0_cell 9 = .ok (.goto 4, 3) := by decide +kernel
theorem dX0_cell_12 : decode cX0_cell 12 = .ok (.iconst 0, 1) := by decide +kernel
theorem dX0_cell_13 : decode cX0_cell 13 = .ok (.ireturn, 1) := by decide +kernel
end
section
set_option maxRecDepth 100000
abbrev cX1_init : ByteArray := prog_1_method_1_code
def yX1_init : MethodName := ⟨RX1, "<init>", "(I)V"⟩
theorem dX1_init_0 : decode cX1_init 0 = .ok (.aload_n 0, 1) := by decide +kernel
theorem dX1_init_1 : decode cX1_init 1 = .ok (.invokespecial 1, 3) := by decide +kernel
theorem dX1_init_4 : decode cX1_init 4 = .ok (.aload_n 0, 1) := by decide +kernel
theorem dX1_init_5 : decode cX1_init 5 = .ok (.bipush 24, 2) := by decide +kernel
theorem dX1_init_7 : decode cX1_init 7 = .ok (.newarray .int, 2) := by decide +kernel
theorem dX1_init_9 : decode cX1_init 9 = .ok (.putfield 7, 3) := by decide +kernel
theorem dX1_init_12 : decode cX1_init 12 = .ok (.aload_n 0, 1) := by decide +kernel
theorem dX1_init_13 : decode cX1_init 13 = .ok (.bipush 24, 2) := by decide +kernel
theorem dX1_init_15 : decode cX1_init 15 = .ok (.newarray .int, 2) := by decide +kernel
theorem dX1_init_17 : decode cX1_init 17 = .ok (.putfield 13, 3) := by decide +kernel
theorem dX1_init_20 : decode cX1_init 20 = .ok (.aload_n 0, 1) := by decide +kernel
theorem dX1_init_21 : decode cX1_init 21 = .ok (.bipush 24, 2) := by decide +kernel
theorem dX1_init_23 : decode cX1_init 23 = .ok (.newarray .int, 2) := by decide +kernel
theorem dX1_init_25 : decode cX1_init 25 = .ok (.putfield 16, 3) := by decide +kernel
theorem dX1_init_28 : decode cX1_init 28 = .ok (.aload_n 0, 1) := by decide +kernel
theorem dX1_init_29 : decode cX1_init 29 = .ok (.bipush 8, 2) := by decide +kernel
theorem dX1_init_31 : decode cX1_init 31 = .ok (.newarray .int, 2) := by decide +kernel
theorem dX1_init_33 : decode cX1_init 33 = .ok (.putfield 19, 3) := by decide +kernel
theorem dX1_init_36 : decode cX1_init 36 = .ok (.aload_n 0, 1) := by decide +kernel
theorem dX1_init_37 : decode cX1_init 37 = .ok (.iconst 3, 1) := by decide +kernel
theorem dX1_init_38 : decode cX1_init 38 = .ok (.newarray .int, 2) := by decide +kernel
theorem dX1_init_40 : decode cX1_init 40 = .ok (.putfield 22, 3) := by decide +kernel
theorem dX1_init_43 : decode cX1_init 43 = .ok (.aload_n 0, 1) := by decide +kernel
theorem dX1_init_44 : decode cX1_init 44 = .ok (.iconst 3, 1) := by decide +kernel
theorem dX1_init_45 : decode cX1_init 45 = .ok (.newarray .int, 2) := by decide +kernel
theorem dX1_init_47 : decode cX1_init 47 = .ok (.putfield 25, 3) := by decide +kernel
theorem dX1_init_50 : decode cX1_init 50 = .ok (.aload_n 0, 1) := by decide +kernel
theorem dX1_init_51 : decode cX1_init 51 = .ok (.iconst 3, 1) := by decide +kernel
theorem dX1_init_52 : decode cX1_init 52 = .ok (.newarray .int, 2) := by decide +kernel
theorem dX1_init_54 : decode cX1_init 54 = .ok (.putfield 28, 3) := by decide +kernel
theorem dX1_init_57 : decode cX1_init 57 = .ok (.aload_n 0, 1) := by decide +kernel
theorem dX1_init_58 : decode cX1_init 58 = .ok (.bipush 25, 2) := by decide +kernel
theorem dX1_init_60 : decode cX1_init 60 = .ok (.newarray .int, 2) := by decide +kernel
theorem dX1_init_62 : decode cX1_init 62 = .ok (.putfield 31, 3) := by decide +kernel
theorem dX1_init_65 : decode cX1_init 65 = .ok (.aload_n 0, 1) := by decide +kernel
theorem dX1_init_66 : decode cX1_init 66 = .ok (.sipush 225, 3) := by decide +kernel
theorem dX1_init_69 : decode cX1_init 69 = .ok (.newarray .int, 2) := by decide +kernel
theorem dX1_init_71 : decode cX1_init 71 = .ok (.putfield 34, 3) := by decide +kernel
theorem dX1_init_74 : decode cX1_init 74 = .ok (.aload_n 0, 1) := by decide +kernel
theorem dX1_init_75 : decode cX1_init 75 = .ok (.bipush 9, 2) := by decide +kernel
theorem dX1_init_77 : decode cX1_init 77 = .ok (.newarray .int, 2) := by decide +kernel
theorem dX1_init_79 : decode cX1_init 79 = .ok (.putfield 37, 3) := by decide +kernel
theorem dX1_init_82 : decode cX1_init 82 = .ok (.aload_n 0, 1) := by decide +kernel
theorem dX1_init_83 : decode cX1_init 83 = .ok (.iload_n 1, 1) := by decide +kernel
theorem dX1_init_84 : decode cX1_init 84 = .ok (.iconst 2, 1) := by decide +kernel
theorem dX1_init_85 : decode cX1_init 85 = .ok (.if_icmp .ge 7, 3) := by decide +kernel
theorem dX1_init_88 : decode cX1_init 88 = .ok (.iconst 2, 1) := by decide +kernel
theorem dX1_init_89 : decode cX1_init 89 = .ok (.goto 4, 3) := by decide +kernel
theorem dX1_init_92 : decode cX1_init 92 = .ok (.iload_n 1, 1) := by decide +kernel
theorem dX1_init_93 : decode cX1_init 93 = .ok (.putfield 40, 3) := by decide +kernel
theorem dX1_init_96 : decode cX1_init 96 = .ok (.aload_n 0, 1) := by decide +kernel
theorem dX1_init_97 : decode cX1_init 97 = .ok (.getfield 40, 3) := by decide +kernel
theorem dX1_init_100 : decode cX1_init 100 = .ok (.iconst 4, 1) := by decide +kernel
theorem dX1_init_101 : decode cX1_init 101 = .ok (.if_icmp .le 8, 3) := by decide +kernel
theorem dX1_init_104 : decode cX1_init 104 = .ok (.aload_n 0, 1) := by decide +kernel
theorem dX1_init_105 : decode cX1_init 105 = .ok (.iconst 4, 1) := by decide +kernel
theorem dX1_init_106 : decode cX1_init 106 = .ok (.putfield 40, 3) := by decide +kernel
theorem dX1_init_109 : decode cX1_init 109 = .ok (.aload_n 0, 1) := by decide +kernel
theorem dX1_init_110 : decode cX1_init 110 = .ok (.iconst (-1), 1) := by decide +kernel
theorem dX1_init_111 : decode cX1_init 111 = .ok (.putfield 44, 3) := by decide +kernel
theorem dX1_init_114 : decode cX1_init 114 = .ok (.return_, 1) := by decide +kernel
abbrev cX1_events : ByteArray := prog_1_method_2_code
def yX1_events : MethodName := ⟨RX1, "events", "()I"⟩
theorem dX1_events_0 : decode cX1_events 0 = .ok (.aload_n 0, 1) := by decide +kernel
theorem dX1_events_1 : decode cX1_events 1 = .ok (.getfield 40, 3) := by decide +kernel
theorem dX1_events_4 : decode cX1_events 4 = .ok (.ireturn, 1) := by decide +kernel
abbrev cX1_alternative : ByteArray := prog_1_method_3_code
def yX1_alternative : MethodName := ⟨RX1, "alternative", "(III)I"⟩
theorem dX1_alternative_0 : decode cX1_alternative 0 = .ok (.aload_n 0, 1) := by decide +kernel
theorem dX1_alternative_1 : decode cX1_alternative 1 = .ok (.iload_n 1, 1) := by decide +kernel
theorem dX1_alternative_2 : decode cX1_alternative 2 = .ok (.invokevirtual 47, 3) := by decide +kernel
theorem dX1_alternative_5 : decode cX1_alternative 5 = .ok (.ifCond .eq 11, 3) := by decide +kernel
theorem dX1_alternative_8 : decode cX1_alternative 8 = .ok (.aload_n 0, 1) := by decide +kernel
theorem dX1_alternative_9 : decode cX1_alternative 9 = .ok (.iload_n 2, 1) := by decide +kernel
theorem dX1_alternative_10 : decode cX1_alternative 10 = .ok (.invokevirtual 47, 3) := by decide +kernel
theorem dX1_alternative_13 : decode cX1_alternative 13 = .ok (.ifCond .ne 5, 3) := by decide +kernel
theorem dX1_alternative_16 : decode cX1_alternative 16 = .ok (.iconst (-1), 1) := by decide +kernel
theorem dX1_alternative_17 : decode cX1_alternative 17 = .ok (.ireturn, 1) := by decide +kernel
theorem dX1_alternative_18 : decode cX1_alternative 18 = .ok (.iload_n 1, 1) := by decide +kernel
theorem dX1_alternative_19 : decode cX1_alternative 19 = .ok (.iload_n 2, 1) := by decide +kernel
theorem dX1_alternative_20 : decode cX1_alternative 20 = .ok (.if_icmp .ne 6, 3) := by decide +kernel
theorem dX1_alternative_23 : decode cX1_alternative 23 = .ok (.bipush (-2), 2) := by decide +kernel
theorem dX1_alternative_25 : decode cX1_alternative 25 = .ok (.ireturn, 1) := by decide +kernel
theorem dX1_alternative_26 : decode cX1_alternative 26 = .ok (.iload_n 3, 1) := by decide +kernel
theorem dX1_alternative_27 : decode cX1_alternative 27 = .ok (.bipush (-10), 2) := by decide +kernel
theorem dX1_alternative_29 : decode cX1_alternative 29 = .ok (.if_icmp .lt 9, 3) := by decide +kernel
theorem dX1_alternative_32 : decode cX1_alternative 32 = .ok (.iload_n 3, 1) := by decide +kernel
theorem dX1_alternative_33 : decode cX1_alternative 33 = .ok (.bipush 10, 2) := by decide +kernel
theorem dX1_alternative_35 : decode cX1_alternative 35 = .ok (.if_icmp .le 6, 3) := by decide +kernel
theorem dX1_alternative_38 : decode cX1_alternative 38 = .ok (.bipush (-3), 2) := by decide +kernel
theorem dX1_alternative_40 : decode cX1_alternative 40 = .ok (.ireturn, 1) := by decide +kernel
theorem dX1_alternative_41 : decode cX1_alternative 41 = .ok (.aload_n 0, 1) := by decide +kernel
theorem dX1_alternative_42 : decode cX1_alternative 42 = .ok (.getfield 51, 3) := by decide +kernel
theorem dX1_alternative_45 : decode cX1_alternative 45 = .ok (.iconst 3, 1) := by decide +kernel
theorem dX1_alternative_46 : decode cX1_alternative 46 = .ok (.if_icmp .ne 6, 3) := by decide +kernel
theorem dX1_alternative_49 : decode cX1_alternative 49 = .ok (.bipush (-4), 2) := by decide +kernel
theorem dX1_alternative_51 : decode cX1_alternative 51 = .ok (.ireturn, 1) := by decide +kernel
theorem dX1_alternative_52 : decode cX1_alternative 52 = .ok (.aload_n 0, 1) := by decide +kernel
theorem dX1_alternative_53 : decode cX1_alternative 53 = .ok (.getfield 22, 3) := by decide +kernel
theorem dX1_alternative_56 : decode cX1_alternative 56 = .ok (.aload_n 0, 1) := by decide +kernel
theorem dX1_alternative_57 : decode cX1_alternative 57 = .ok (.getfield 51, 3) := by decide +kernel
theorem dX1_alternative_60 : decode cX1_alternative 60 = .ok (.iload_n 1, 1) := by decide +kernel
theorem dX1_alternative_61 : decode cX1_alternative 61 = .ok (.iastore, 1) := by decide +kernel
theorem dX1_alternative_62 : decode cX1_alternative 62 = .ok (.aload_n 0, 1) := by decide +kernel
theorem dX1_alternative_63 : decode cX1_alternative 63 = .ok (.getfield 25, 3) := by decide +kernel
theorem dX1_alternative_66 : decode cX1_alternative 66 = .ok (.aload_n 0, 1) := by decide +kernel
theorem dX1_alternative_67 : decode cX1_alternative 67 = .ok (.getfield 51, 3) := by decide +kernel
theorem dX1_alternative_70 : decode cX1_alternative 70 = .ok (.iload_n 2, 1) := by decide +kernel
theorem dX1_alternative_71 : decode cX1_alternative 71 = .ok (.iastore, 1) := by decide +kernel
theorem dX1_alternative_72 : decode cX1_alternative 72 = .ok (.aload_n 0, 1) := by decide +kernel
theorem dX1_alternative_73 : decode cX1_alternative 73 = .ok (.getfield 28, 3) := by decide +kernel
theorem dX1_alternative_76 : decode cX1_alternative 76 = .ok (.aload_n 0, 1) := by decide +kernel
theorem dX1_alternative_77 : decode cX1_alternative 77 = .ok (.getfield 51, 3) := by decide +kernel
theorem dX1_alternative_80 : decode cX1_alternative 80 = .ok (.iload_n 3, 1) := by decide +kernel
theorem dX1_alternative_81 : decode cX1_alternative 81 = .ok (.iastore, 1) := by decide +kernel
theorem dX1_alternative_82 : decode cX1_alternative 82 = .ok (.aload_n 0, 1) := by decide +kernel
theorem dX1_alternative_83 : decode cX1_alternative 83 = .ok (.dup, 1) := by decide +kernel
theorem dX1_alternative_84 : decode cX1_alternative 84 = .ok (.getfield 51, 3) := by decide +kernel
theorem dX1_alternative_87 : decode cX1_alternative 87 = .ok (.iconst 1, 1) := by decide +kernel
theorem dX1_alternative_88 : decode cX1_alternative 88 = .ok (.iadd, 1) := by decide +kernel
theorem dX1_alternative_89 : decode cX1_alternative 89 = .ok (.putfield 51, 3) := by decide +kernel
theorem dX1_alternative_92 : decode cX1_alternative 92 = .ok (.aload_n 0, 1) := by decide +kernel
theorem dX1_alternative_93 : decode cX1_alternative 93 = .ok (.getfield 51, 3) := by decide +kernel
theorem dX1_alternative_96 : decode cX1_alternative 96 = .ok (.ireturn, 1) := by decide +kernel
abbrev cX1_isPoint : ByteArray := prog_1_method_20_code
def yX1_isPoint : MethodName := ⟨RX1, "isPoint", "(I)Z"⟩
theorem dX1_isPoint_0 : decode cX1_isPoint 0 = .ok (.iload_n 1, 1) := by decide +kernel
theorem dX1_isPoint_1 : decode cX1_isPoint 1 = .ok (.ifCond .lt 15, 3) := by decide +kernel
theorem dX1_isPoint_4 : decode cX1_isPoint 4 = .ok (.iload_n 1, 1) := by decide +kernel
theorem dX1_isPoint_5 : decode cX1_isPoint 5 = .ok (.aload_n 0, 1) := by decide +kernel
theorem dX1_isPoint_6 : decode cX1_isPoint 6 = .ok (.getfield 40, 3) := by decide +kernel
theorem dX1_isPoint_9 : decode cX1_isPoint 9 = .ok (.if_icmp .gt 7, 3) := by decide +kernel
theorem dX1_isPoint_12 : decode cX1_isPoint 12 = .ok (.iconst 1, 1) := by decide +kernel
theorem dX1_isPoint_13 : decode cX1_isPoint 13 = .ok (.goto 4, 3) := by decide +kernel
theorem dX1_isPoint_16 : decode cX1_isPoint 16 = .ok (.iconst 0, 1) := by decide +kernel
theorem dX1_isPoint_17 : decode cX1_isPoint 17 = .ok (.ireturn, 1) := by decide +kernel
abbrev cX1_clear : ByteArray := prog_1_method_4_code
def yX1_clear : MethodName := ⟨RX1, "clear", "()I"⟩
theorem dX1_clear_0 : decode cX1_clear 0 = .ok (.aload_n 0, 1) := by decide +kernel
theorem dX1_clear_1 : decode cX1_clear 1 = .ok (.getfield 51, 3) := by decide +kernel
theorem dX1_clear_4 : decode cX1_clear 4 = .ok (.istore_n 1, 1) := by decide +kernel
theorem dX1_clear_5 : decode cX1_clear 5 = .ok (.aload_n 0, 1) := by decide +kernel
theorem dX1_clear_6 : decode cX1_clear 6 = .ok (.iconst 0, 1) := by decide +kernel
theorem dX1_clear_7 : decode cX1_clear 7 = .ok (.putfield 51, 3) := by decide +kernel
theorem dX1_clear_10 : decode cX1_clear 10 = .ok (.iload_n 1, 1) := by decide +kernel
theorem dX1_clear_11 : decode cX1_clear 11 = .ok (.ireturn, 1) := by decide +kernel
abbrev cX1_add : ByteArray := prog_1_method_5_code
def yX1_add : MethodName := ⟨RX1, "add", "()I"⟩
theorem dX1_add_0 : decode cX1_add 0 = .ok (.aload_n 0, 1) := by decide +kernel
theorem dX1_add_1 : decode cX1_add 1 = .ok (.getfield 51, 3) := by decide +kernel
theorem dX1_add_4 : decode cX1_add 4 = .ok (.ifCond .ne 5, 3) := by decide +kernel
theorem dX1_add_7 : decode cX1_add 7 = .ok (.iconst (-1), 1) := by decide +kernel
theorem dX1_add_8 : decode cX1_add 8 = .ok (.ireturn, 1) := by decide +kernel
theorem dX1_add_9 : decode cX1_add 9 = .ok (.aload_n 0, 1) := by decide +kernel
theorem dX1_add_10 : decode cX1_add 10 = .ok (.getfield 54, 3) := by decide +kernel
theorem dX1_add_13 : decode cX1_add 13 = .ok (.bipush 8, 2) := by decide +kernel
theorem dX1_add_15 : decode cX1_add 15 = .ok (.if_icmp .ne 6, 3) := by decide +kernel
theorem dX1_add_18 : decode cX1_add 18 = .ok (.bipush (-2), 2) := by decide +kernel
theorem dX1_add_20 : decode cX1_add 20 = .ok (.ireturn, 1) := by decide +kernel
theorem dX1_add_21 : decode cX1_add 21 = .ok (.aload_n 0, 1) := by decide +kernel
theorem dX1_add_22 : decode cX1_add 22 = .ok (.getfield 19, 3) := by decide +kernel
theorem dX1_add_25 : decode cX1_add 25 = .ok (.aload_n 0, 1) := by decide +kernel
theorem dX1_add_26 : decode cX1_add 26 = .ok (.getfield 54, 3) := by decide +kernel
theorem dX1_add_29 : decode cX1_add 29 = .ok (.iconst 0, 1) := by decide +kernel
theorem dX1_add_30 : decode cX1_add 30 = .ok (.iastore, 1) := by decide +kernel
theorem dX1_add_31 : decode cX1_add 31 = .ok (.iconst 0, 1) := by decide +kernel
theorem dX1_add_32 : decode cX1_add 32 = .ok (.istore_n 1, 1) := by decide +kernel
theorem dX1_add_33 : decode cX1_add 33 = .ok (.iload_n 1, 1) := by decide +kernel
theorem dX1_add_34 : decode cX1_add 34 = .ok (.aload_n 0, 1) := by decide +kernel
theorem dX1_add_35 : decode cX1_add 35 = .ok (.getfield 51, 3) := by decide +kernel
theorem dX1_add_38 : decode cX1_add 38 = .ok (.if_icmp .ge 31, 3) := by decide +kernel
theorem dX1_add_41 : decode cX1_add 41 = .ok (.aload_n 0, 1) := by decide +kernel
theorem dX1_add_42 : decode cX1_add 42 = .ok (.aload_n 0, 1) := by decide +kernel
theorem dX1_add_43 : decode cX1_add 43 = .ok (.getfield 22, 3) := by decide +kernel
theorem dX1_add_46 : decode cX1_add 46 = .ok (.iload_n 1, 1) := by decide +kernel
theorem dX1_add_47 : decode cX1_add 47 = .ok (.iaload, 1) := by decide +kernel
theorem dX1_add_48 : decode cX1_add 48 = .ok (.aload_n 0, 1) := by decide +kernel
theorem dX1_add_49 : decode cX1_add 49 = .ok (.getfield 25, 3) := by decide +kernel
theorem dX1_add_52 : decode cX1_add 52 = .ok (.iload_n 1, 1) := by decide +kernel
theorem dX1_add_53 : decode cX1_add 53 = .ok (.iaload, 1) := by decide +kernel
theorem dX1_add_54 : decode cX1_add 54 = .ok (.aload_n 0, 1) := by decide +kernel
theorem dX1_add_55 : decode cX1_add 55 = .ok (.getfield 28, 3) := by decide +kernel
theorem dX1_add_58 : decode cX1_add 58 = .ok (.iload_n 1, 1) := by decide +kernel
theorem dX1_add_59 : decode cX1_add 59 = .ok (.iaload, 1) := by decide +kernel
theorem dX1_add_60 : decode cX1_add 60 = .ok (.invokevirtual 57, 3) := by decide +kernel
theorem dX1_add_63 : decode cX1_add 63 = .ok (.iinc 1 1, 3) := by decide +kernel
theorem dX1_add_66 : decode cX1_add 66 = .ok (.goto (-33), 3) := by decide +kernel
theorem dX1_add_69 : decode cX1_add 69 = .ok (.aload_n 0, 1) := by decide +kernel
theorem dX1_add_70 : decode cX1_add 70 = .ok (.iconst 0, 1) := by decide +kernel
theorem dX1_add_71 : decode cX1_add 71 = .ok (.putfield 51, 3) := by decide +kernel
theorem dX1_add_74 : decode cX1_add 74 = .ok (.aload_n 0, 1) := by decide +kernel
theorem dX1_add_75 : decode cX1_add 75 = .ok (.dup, 1) := by decide +kernel
theorem dX1_add_76 : decode cX1_add 76 = .ok (.getfield 54, 3) := by decide +kernel
theorem dX1_add_79 : decode cX1_add 79 = .ok (.iconst 1, 1) := by decide +kernel
theorem dX1_add_80 : decode cX1_add 80 = .ok (.iadd, 1) := by decide +kernel
theorem dX1_add_81 : decode cX1_add 81 = .ok (.putfield 54, 3) := by decide +kernel
theorem dX1_add_84 : decode cX1_add 84 = .ok (.aload_n 0, 1) := by decide +kernel
theorem dX1_add_85 : decode cX1_add 85 = .ok (.getfield 54, 3) := by decide +kernel
theorem dX1_add_88 : decode cX1_add 88 = .ok (.ireturn, 1) := by decide +kernel
abbrev cX1_offer : ByteArray := prog_1_method_22_code
def yX1_offer : MethodName := ⟨RX1, "offer", "(III)V"⟩
theorem dX1_offer_0 : decode cX1_offer 0 = .ok (.iconst 3, 1) := by decide +kernel
theorem dX1_offer_1 : decode cX1_offer 1 = .ok (.aload_n 0, 1) := by decide +kernel
theorem dX1_offer_2 : decode cX1_offer 2 = .ok (.getfield 54, 3) := by decide +kernel
theorem dX1_offer_5 : decode cX1_offer 5 = .ok (.imul, 1) := by decide +kernel
theorem dX1_offer_6 : decode cX1_offer 6 = .ok (.aload_n 0, 1) := by decide +kernel
theorem dX1_offer_7 : decode cX1_offer 7 = .ok (.getfield 19, 3) := by decide +kernel
theorem dX1_offer_10 : decode cX1_offer 10 = .ok (.aload_n 0, 1) := by decide +kernel
theorem dX1_offer_11 : decode cX1_offer 11 = .ok (.getfield 54, 3) := by decide +kernel
theorem dX1_offer_14 : decode cX1_offer 14 = .ok (.iaload, 1) := by decide +kernel
theorem dX1_offer_15 : decode cX1_offer 15 = .ok (.iadd, 1) := by decide +kernel
theorem dX1_offer_16 : decode cX1_offer 16 = .ok (.istore 4, 2) := by decide +kernel
theorem dX1_offer_18 : decode cX1_offer 18 = .ok (.aload_n 0, 1) := by decide +kernel
theorem dX1_offer_19 : decode cX1_offer 19 = .ok (.getfield 7, 3) := by decide +kernel
theorem dX1_offer_22 : decode cX1_offer 22 = .ok (.iload 4, 2) := by decide +kernel
theorem dX1_offer_24 : decode cX1_offer 24 = .ok (.iload_n 1, 1) := by decide +kernel
theorem dX1_offer_25 : decode cX1_offer 25 = .ok (.iastore, 1) := by decide +kernel
theorem dX1_offer_26 : decode cX1_offer 26 = .ok (.aload_n 0, 1) := by decide +kernel
theorem dX1_offer_27 : decode cX1_offer 27 = .ok (.getfield 13, 3) := by decide +kernel
theorem dX1_offer_30 : decode cX1_offer 30 = .ok (.iload 4, 2) := by decide +kernel
theorem dX1_offer_32 : decode cX1_offer 32 = .ok (.iload_n 2, 1) := by decide +kernel
theorem dX1_offer_33 : decode cX1_offer 33 = .ok (.iastore, 1) := by decide +kernel
theorem dX1_offer_34 : decode cX1_offer 34 = .ok (.aload_n 0, 1) := by decide +kernel
theorem dX1_offer_35 : decode cX1_offer 35 = .ok (.getfield 16, 3) := by decide +kernel
theorem dX1_offer_38 : decode cX1_offer 38 = .ok (.iload 4, 2) := by decide +kernel
theorem dX1_offer_40 : decode cX1_offer 40 = .ok (.iload_n 3, 1) := by decide +kernel
theorem dX1_offer_41 : decode cX1_offer 41 = .ok (.iastore, 1) := by decide +kernel
theorem dX1_offer_42 : decode cX1_offer 42 = .ok (.aload_n 0, 1) := by decide +kernel
theorem dX1_offer_43 : decode cX1_offer 43 = .ok (.getfield 19, 3) := by decide +kernel
theorem dX1_offer_46 : decode cX1_offer 46 = .ok (.aload_n 0, 1) := by decide +kernel
theorem dX1_offer_47 : decode cX1_offer 47 = .ok (.getfield 54, 3) := by decide +kernel
theorem dX1_offer_50 : decode cX1_offer 50 = .ok (.dup2, 1) := by decide +kernel
theorem dX1_offer_51 : decode cX1_offer 51 = .ok (.iaload, 1) := by decide +kernel
theorem dX1_offer_52 : decode cX1_offer 52 = .ok (.iconst 1, 1) := by decide +kernel
theorem dX1_offer_53 : decode cX1_offer 53 = .ok (.iadd, 1) := by decide +kernel
theorem dX1_offer_54 : decode cX1_offer 54 = .ok (.iastore, 1) := by decide +kernel
theorem dX1_offer_55 : decode cX1_offer 55 = .ok (.return_, 1) := by decide +kernel
abbrev cX1_apart : ByteArray := prog_1_method_6_code
def yX1_apart : MethodName := ⟨RX1, "apart", "(III)I"⟩
theorem dX1_apart_0 : decode cX1_apart 0 = .ok (.iload_n 1, 1) := by decide +kernel
theorem dX1_apart_1 : decode cX1_apart 1 = .ok (.iconst 3, 1) := by decide +kernel
theorem dX1_apart_2 : decode cX1_apart 2 = .ok (.ishr, 1) := by decide +kernel
theorem dX1_apart_3 : decode cX1_apart 3 = .ok (.istore 4, 2) := by decide +kernel
theorem dX1_apart_5 : decode cX1_apart 5 = .ok (.iload_n 1, 1) := by decide +kernel
theorem dX1_apart_6 : decode cX1_apart 6 = .ok (.bipush 7, 2) := by decide +kernel
theorem dX1_apart_8 : decode cX1_apart 8 = .ok (.iand, 1) := by decide +kernel
theorem dX1_apart_9 : decode cX1_apart 9 = .ok (.istore 5, 2) := by decide +kernel
theorem dX1_apart_11 : decode cX1_apart 11 = .ok (.iload_n 1, 1) := by decide +kernel
theorem dX1_apart_12 : decode cX1_apart 12 = .ok (.ifCond .lt 21, 3) := by decide +kernel
theorem dX1_apart_15 : decode cX1_apart 15 = .ok (.aload_n 0, 1) := by decide +kernel
theorem dX1_apart_16 : decode cX1_apart 16 = .ok (.iload 4, 2) := by decide +kernel
theorem dX1_apart_18 : decode cX1_apart 18 = .ok (.invokevirtual 61, 3) := by decide +kernel
theorem dX1_apart_21 : decode cX1_apart 21 = .ok (.ifCond .eq 12, 3) := by decide +kernel
theorem dX1_apart_24 : decode cX1_apart 24 = .ok (.aload_n 0, 1) := by decide +kernel
theorem dX1_apart_25 : decode cX1_apart 25 = .ok (.iload 5, 2) := by decide +kernel
theorem dX1_apart_27 : decode cX1_apart 27 = .ok (.invokevirtual 61, 3) := by decide +kernel
theorem dX1_apart_30 : decode cX1_apart 30 = .ok (.ifCond .ne 5, 3) := by decide +kernel
theorem dX1_apart_33 : decode cX1_apart 33 = .ok (.iconst (-1), 1) := by decide +kernel
theorem dX1_apart_34 : decode cX1_apart 34 = .ok (.ireturn, 1) := by decide +kernel
theorem dX1_apart_35 : decode cX1_apart 35 = .ok (.iload 4, 2) := by decide +kernel
theorem dX1_apart_37 : decode cX1_apart 37 = .ok (.iload 5, 2) := by decide +kernel
theorem dX1_apart_39 : decode cX1_apart 39 = .ok (.if_icmp .ne 6, 3) := by decide +kernel
theorem dX1_apart_42 : decode cX1_apart 42 = .ok (.bipush (-2), 2) := by decide +kernel
theorem dX1_apart_44 : decode cX1_apart 44 = .ok (.ireturn, 1) := by decide +kernel
theorem dX1_apart_45 : decode cX1_apart 45 = .ok (.iload_n 2, 1) := by decide +kernel
theorem dX1_apart_46 : decode cX1_apart 46 = .ok (.ifCond .lt 9, 3) := by decide +kernel
theorem dX1_apart_49 : decode cX1_apart 49 = .ok (.iload_n 2, 1) := by decide +kernel
theorem dX1_apart_50 : decode cX1_apart 50 = .ok (.bipush 7, 2) := by decide +kernel
theorem dX1_apart_52 : decode cX1_apart 52 = .ok (.if_icmp .le 6, 3) := by decide +kernel
theorem dX1_apart_55 : decode cX1_apart 55 = .ok (.bipush (-3), 2) := by decide +kernel
theorem dX1_apart_57 : decode cX1_apart 57 = .ok (.ireturn, 1) := by decide +kernel
theorem dX1_apart_58 : decode cX1_apart 58 = .ok (.iload_n 3, 1) := by decide +kernel
theorem dX1_apart_59 : decode cX1_apart 59 = .ok (.ifCond .lt 9, 3) := by decide +kernel
theorem dX1_apart_62 : decode cX1_apart 62 = .ok (.iload_n 3, 1) := by decide +kernel
theorem dX1_apart_63 : decode cX1_apart 63 = .ok (.bipush 7, 2) := by decide +kernel
theorem dX1_apart_65 : decode cX1_apart 65 = .ok (.if_icmp .le 6, 3) := by decide +kernel
theorem dX1_apart_68 : decode cX1_apart 68 = .ok (.bipush (-4), 2) := by decide +kernel
theorem dX1_apart_70 : decode cX1_apart 70 = .ok (.ireturn, 1) := by decide +kernel
theorem dX1_apart_71 : decode cX1_apart 71 = .ok (.aload_n 0, 1) := by decide +kernel
theorem dX1_apart_72 : decode cX1_apart 72 = .ok (.getfield 54, 3) := by decide +kernel
theorem dX1_apart_75 : decode cX1_apart 75 = .ok (.iconst 3, 1) := by decide +kernel
theorem dX1_apart_76 : decode cX1_apart 76 = .ok (.iadd, 1) := by decide +kernel
theorem dX1_apart_77 : decode cX1_apart 77 = .ok (.bipush 8, 2) := by decide +kernel
theorem dX1_apart_79 : decode cX1_apart 79 = .ok (.if_icmp .le 6, 3) := by decide +kernel
theorem dX1_apart_82 : decode cX1_apart 82 = .ok (.bipush (-5), 2) := by decide +kernel
theorem dX1_apart_84 : decode cX1_apart 84 = .ok (.ireturn, 1) := by decide +kernel
theorem dX1_apart_85 : decode cX1_apart 85 = .ok (.aload_n 0, 1) := by decide +kernel
theorem dX1_apart_86 : decode cX1_apart 86 = .ok (.getfield 19, 3) := by decide +kernel
theorem dX1_apart_89 : decode cX1_apart 89 = .ok (.aload_n 0, 1) := by decide +kernel
theorem dX1_apart_90 : decode cX1_apart 90 = .ok (.getfield 54, 3) := by decide +kernel
theorem dX1_apart_93 : decode cX1_apart 93 = .ok (.iconst 0, 1) := by decide +kernel
theorem dX1_apart_94 : decode cX1_apart 94 = .ok (.iastore, 1) := by decide +kernel
theorem dX1_apart_95 : decode cX1_apart 95 = .ok (.aload_n 0, 1) := by decide +kernel
theorem dX1_apart_96 : decode cX1_apart 96 = .ok (.iload 4, 2) := by decide +kernel
theorem dX1_apart_98 : decode cX1_apart 98 = .ok (.iload 5, 2) := by decide +kernel
theorem dX1_apart_100 : decode cX1_apart 100 = .ok (.iload_n 2, 1) := by decide +kernel
theorem dX1_apart_101 : decode cX1_apart 101 = .ok (.ineg, 1) := by decide +kernel
theorem dX1_apart_102 : decode cX1_apart 102 = .ok (.invokevirtual 57, 3) := by decide +kernel
theorem dX1_apart_105 : decode cX1_apart 105 = .ok (.aload_n 0, 1) := by decide +kernel
theorem dX1_apart_106 : decode cX1_apart 106 = .ok (.iload 5, 2) := by decide +kernel
theorem dX1_apart_108 : decode cX1_apart 108 = .ok (.iload 4, 2) := by decide +kernel
theorem dX1_apart_110 : decode cX1_apart 110 = .ok (.iload_n 2, 1) := by decide +kernel
theorem dX1_apart_111 : decode cX1_apart 111 = .ok (.ineg, 1) := by decide +kernel
theorem dX1_apart_112 : decode cX1_apart 112 = .ok (.invokevirtual 57, 3) := by decide +kernel
theorem dX1_apart_115 : decode cX1_apart 115 = .ok (.aload_n 0, 1) := by decide +kernel
theorem dX1_apart_116 : decode cX1_apart 116 = .ok (.dup, 1) := by decide +kernel
theorem dX1_apart_117 : decode cX1_apart 117 = .ok (.getfield 54, 3) := by decide +kernel
theorem dX1_apart_120 : decode cX1_apart 120 = .ok (.iconst 1, 1) := by decide +kernel
theorem dX1_apart_121 : decode cX1_apart 121 = .ok (.iadd, 1) := by decide +kernel
theorem dX1_apart_122 : decode cX1_apart 122 = .ok (.putfield 54, 3) := by decide +kernel
theorem dX1_apart_125 : decode cX1_apart 125 = .ok (.aload_n 0, 1) := by decide +kernel
theorem dX1_apart_126 : decode cX1_apart 126 = .ok (.getfield 19, 3) := by decide +kernel
theorem dX1_apart_129 : decode cX1_apart 129 = .ok (.aload_n 0, 1) := by decide +kernel
theorem dX1_apart_130 : decode cX1_apart 130 = .ok (.getfield 54, 3) := by decide +kernel
theorem dX1_apart_133 : decode cX1_apart 133 = .ok (.iconst 0, 1) := by decide +kernel
theorem dX1_apart_134 : decode cX1_apart 134 = .ok (.iastore, 1) := by decide +kernel
theorem dX1_apart_135 : decode cX1_apart 135 = .ok (.aload_n 0, 1) := by decide +kernel
theorem dX1_apart_136 : decode cX1_apart 136 = .ok (.iload 4, 2) := by decide +kernel
theorem dX1_apart_138 : decode cX1_apart 138 = .ok (.iload 5, 2) := by decide +kernel
theorem dX1_apart_140 : decode cX1_apart 140 = .ok (.iload_n 3, 1) := by decide +kernel
theorem dX1_apart_141 : decode cX1_apart 141 = .ok (.invokevirtual 57, 3) := by decide +kernel
theorem dX1_apart_144 : decode cX1_apart 144 = .ok (.aload_n 0, 1) := by decide +kernel
theorem dX1_apart_145 : decode cX1_apart 145 = .ok (.dup, 1) := by decide +kernel
theorem dX1_apart_146 : decode cX1_apart 146 = .ok (.getfield 54, 3) := by decide +kernel
theorem dX1_apart_149 : decode cX1_apart 149 = .ok (.iconst 1, 1) := by decide +kernel
theorem dX1_apart_150 : decode cX1_apart 150 = .ok (.iadd, 1) := by decide +kernel
theorem dX1_apart_151 : decode cX1_apart 151 = .ok (.putfield 54, 3) := by decide +kernel
theorem dX1_apart_154 : decode cX1_apart 154 = .ok (.aload_n 0, 1) := by decide +kernel
theorem dX1_apart_155 : decode cX1_apart 155 = .ok (.getfield 19, 3) := by decide +kernel
theorem dX1_apart_158 : decode cX1_apart 158 = .ok (.aload_n 0, 1) := by decide +kernel
theorem dX1_apart_159 : decode cX1_apart 159 = .ok (.getfield 54, 3) := by decide +kernel
theorem dX1_apart_162 : decode cX1_apart 162 = .ok (.iconst 0, 1) := by decide +kernel
theorem dX1_apart_163 : decode cX1_apart 163 = .ok (.iastore, 1) := by decide +kernel
theorem dX1_apart_164 : decode cX1_apart 164 = .ok (.aload_n 0, 1) := by decide +kernel
theorem dX1_apart_165 : decode cX1_apart 165 = .ok (.iload 5, 2) := by decide +kernel
theorem dX1_apart_167 : decode cX1_apart 167 = .ok (.iload 4, 2) := by decide +kernel
theorem dX1_apart_169 : decode cX1_apart 169 = .ok (.iload_n 3, 1) := by decide +kernel
theorem dX1_apart_170 : decode cX1_apart 170 = .ok (.invokevirtual 57, 3) := by decide +kernel
theorem dX1_apart_173 : decode cX1_apart 173 = .ok (.aload_n 0, 1) := by decide +kernel
theorem dX1_apart_174 : decode cX1_apart 174 = .ok (.dup, 1) := by decide +kernel
theorem dX1_apart_175 : decode cX1_apart 175 = .ok (.getfield 54, 3) := by decide +kernel
theorem dX1_apart_178 : decode cX1_apart 178 = .ok (.iconst 1, 1) := by decide +kernel
theorem dX1_apart_179 : decode cX1_apart 179 = .ok (.iadd, 1) := by decide +kernel
theorem dX1_apart_180 : decode cX1_apart 180 = .ok (.putfield 54, 3) := by decide +kernel
theorem dX1_apart_183 : decode cX1_apart 183 = .ok (.aload_n 0, 1) := by decide +kernel
theorem dX1_apart_184 : decode cX1_apart 184 = .ok (.getfield 54, 3) := by decide +kernel
theorem dX1_apart_187 : decode cX1_apart 187 = .ok (.ireturn, 1) := by decide +kernel
abbrev cX1_isEvent : ByteArray := prog_1_method_19_code
def yX1_isEvent : MethodName := ⟨RX1, "isEvent", "(I)Z"⟩
theorem dX1_isEvent_0 : decode cX1_isEvent 0 = .ok (.iload_n 1, 1) := by decide +kernel
theorem dX1_isEvent_1 : decode cX1_isEvent 1 = .ok (.ifCond .lt 15, 3) := by decide +kernel
theorem dX1_isEvent_4 : decode cX1_isEvent 4 = .ok (.iload_n 1, 1) := by decide +kernel
theorem dX1_isEvent_5 : decode cX1_isEvent 5 = .ok (.aload_n 0, 1) := by decide +kernel
theorem dX1_isEvent_6 : decode cX1_isEvent 6 = .ok (.getfield 40, 3) := by decide +kernel
theorem dX1_isEvent_9 : decode cX1_isEvent 9 = .ok (.if_icmp .ge 7, 3) := by decide +kernel
theorem dX1_isEvent_12 : decode cX1_isEvent 12 = .ok (.iconst 1, 1) := by decide +kernel
theorem dX1_isEvent_13 : decode cX1_isEvent 13 = .ok (.goto 4, 3) := by decide +kernel
theorem dX1_isEvent_16 : decode cX1_isEvent 16 = .ok (.iconst 0, 1) := by decide +kernel
theorem dX1_isEvent_17 : decode cX1_isEvent 17 = .ok (.ireturn, 1) := by decide +kernel
abbrev cX1_remove : ByteArray := prog_1_method_7_code
def yX1_remove : MethodName := ⟨RX1, "remove", "(I)I"⟩
theorem dX1_remove_0 : decode cX1_remove 0 = .ok (.aload_n 0, 1) := by decide +kernel
theorem dX1_remove_1 : decode cX1_remove 1 = .ok (.iload_n 1, 1) := by decide +kernel
theorem dX1_remove_2 : decode cX1_remove 2 = .ok (.invokevirtual 64, 3) := by decide +kernel
theorem dX1_remove_5 : decode cX1_remove 5 = .ok (.ifCond .ne 5, 3) := by decide +kernel
theorem dX1_remove_8 : decode cX1_remove 8 = .ok (.iconst (-1), 1) := by decide +kernel
theorem dX1_remove_9 : decode cX1_remove 9 = .ok (.ireturn, 1) := by decide +kernel
theorem dX1_remove_10 : decode cX1_remove 10 = .ok (.iload_n 1, 1) := by decide +kernel
theorem dX1_remove_11 : decode cX1_remove 11 = .ok (.iconst 1, 1) := by decide +kernel
theorem dX1_remove_12 : decode cX1_remove 12 = .ok (.iadd, 1) := by decide +kernel
theorem dX1_remove_13 : decode cX1_remove 13 = .ok (.istore_n 2, 1) := by decide +kernel
theorem dX1_remove_14 : decode cX1_remove 14 = .ok (.iload_n 2, 1) := by decide +kernel
theorem dX1_remove_15 : decode cX1_remove 15 = .ok (.aload_n 0, 1) := by decide +kernel
theorem dX1_remove_16 : decode cX1_remove 16 = .ok (.getfield 54, 3) := by decide +kernel
theorem dX1_remove_19 : decode cX1_remove 19 = .ok (.if_icmp .ge 102, 3) := by decide +kernel
theorem dX1_remove_22 : decode cX1_remove 22 = .ok (.aload_n 0, 1) := by decide +kernel
theorem dX1_remove_23 : decode cX1_remove 23 = .ok (.getfield 19, 3) := by decide +kernel
theorem dX1_remove_26 : decode cX1_remove 26 = .ok (.iload_n 2, 1) := by decide +kernel
theorem dX1_remove_27 : decode cX1_remove 27 = .ok (.iconst 1, 1) := by decide +kernel
theorem dX1_remove_28 : decode cX1_remove 28 = .ok (.isub, 1) := by decide +kernel
theorem dX1_remove_29 : decode cX1_remove 29 = .ok (.aload_n 0, 1) := by decide +kernel
theorem dX1_remove_30 : decode cX1_remove 30 = .ok (.getfield 19, 3) := by decide +kernel
theorem dX1_remove_33 : decode cX1_remove 33 = .ok (.iload_n 2, 1) := by decide +kernel
theorem dX1_remove_34 : decode cX1_remove 34 = .ok (.iaload, 1) := by decide +kernel
theorem dX1_remove_35 : decode cX1_remove 35 = .ok (.iastore, 1) := by decide +kernel
theorem dX1_remove_36 : decode cX1_remove 36 = .ok (.iconst 0, 1) := by decide +kernel
theorem dX1_remove_37 : decode cX1_remove 37 = .ok (.istore_n 3, 1) := by decide +kernel
theorem dX1_remove_38 : decode cX1_remove 38 = .ok (.iload_n 3, 1) := by decide +kernel
theorem dX1_remove_39 : decode cX1_remove 39 = .ok (.iconst 3, 1) := by decide +kernel
theorem dX1_remove_40 : decode cX1_remove 40 = .ok (.if_icmp .ge 75, 3) := by decide +kernel
theorem dX1_remove_43 : decode cX1_remove 43 = .ok (.aload_n 0, 1) := by decide +kernel
theorem dX1_remove_44 : decode cX1_remove 44 = .ok (.getfield 7, 3) := by decide +kernel
theorem dX1_remove_47 : decode cX1_remove 47 = .ok (.iconst 3, 1) := by decide +kernel
theorem dX1_remove_48 : decode cX1_remove 48 = .ok (.iload_n 2, 1) := by decide +kernel
theorem dX1_remove_49 : decode cX1_remove 49 = .ok (.imul, 1) := by decide +kernel
theorem dX1_remove_50 : decode cX1_remove 50 = .ok (.iconst 3, 1) := by decide +kernel
theorem dX1_remove_51 : decode cX1_remove 51 = .ok (.isub, 1) := by decide +kernel
theorem dX1_remove_52 : decode cX1_remove 52 = .ok (.iload_n 3, 1) := by decide +kernel
theorem dX1_remove_53 : decode cX1_remove 53 = .ok (.iadd, 1) := by decide +kernel
theorem dX1_remove_54 : decode cX1_remove 54 = .ok (.aload_n 0, 1) := by decide +kernel
theorem dX1_remove_55 : decode cX1_remove 55 = .ok (.getfield 7, 3) := by decide +kernel
theorem dX1_remove_58 : decode cX1_remove 58 = .ok (.iconst 3, 1) := by decide +kernel
theorem dX1_remove_59 : decode cX1_remove 59 = .ok (.iload_n 2, 1) := by decide +kernel
theorem dX1_remove_60 : decode cX1_remove 60 = .ok (.imul, 1) := by decide +kernel
theorem dX1_remove_61 : decode cX1_remove 61 = .ok (.iload_n 3, 1) := by decide +kernel
theorem dX1_remove_62 : decode cX1_remove 62 = .ok (.iadd, 1) := by decide +kernel
theorem dX1_remove_63 : decode cX1_remove 63 = .ok (.iaload, 1) := by decide +kernel
theorem dX1_remove_64 : decode cX1_remove 64 = .ok (.iastore, 1) := by decide +kernel
theorem dX1_remove_65 : decode cX1_remove 65 = .ok (.aload_n 0, 1) := by decide +kernel
theorem dX1_remove_66 : decode cX1_remove 66 = .ok (.getfield 13, 3) := by decide +kernel
theorem dX1_remove_69 : decode cX1_remove 69 = .ok (.iconst 3, 1) := by decide +kernel
theorem dX1_remove_70 : decode cX1_remove 70 = .ok (.iload_n 2, 1) := by decide +kernel
theorem dX1_remove_71 : decode cX1_remove 71 = .ok (.imul, 1) := by decide +kernel
theorem dX1_remove_72 : decode cX1_remove 72 = .ok (.iconst 3, 1) := by decide +kernel
theorem dX1_remove_73 : decode cX1_remove 73 = .ok (.isub, 1) := by decide +kernel
theorem dX1_remove_74 : decode cX1_remove 74 = .ok (.iload_n 3, 1) := by decide +kernel
theorem dX1_remove_75 : decode cX1_remove 75 = .ok (.iadd, 1) := by decide +kernel
theorem dX1_remove_76 : decode cX1_remove 76 = .ok (.aload_n 0, 1) := by decide +kernel
theorem dX1_remove_77 : decode cX1_remove 77 = .ok (.getfield 13, 3) := by decide +kernel
theorem dX1_remove_80 : decode cX1_remove 80 = .ok (.iconst 3, 1) := by decide +kernel
theorem dX1_remove_81 : decode cX1_remove 81 = .ok (.iload_n 2, 1) := by decide +kernel
theorem dX1_remove_82 : decode cX1_remove 82 = .ok (.imul, 1) := by decide +kernel
theorem dX1_remove_83 : decode cX1_remove 83 = .ok (.iload_n 3, 1) := by decide +kernel
theorem dX1_remove_84 : decode cX1_remove 84 = .ok (.iadd, 1) := by decide +kernel
theorem dX1_remove_85 : decode cX1_remove 85 = .ok (.iaload, 1) := by decide +kernel
theorem dX1_remove_86 : decode cX1_remove 86 = .ok (.iastore, 1) := by decide +kernel
theorem dX1_remove_87 : decode cX1_remove 87 = .ok (.aload_n 0, 1) := by decide +kernel
theorem dX1_remove_88 : decode cX1_remove 88 = .ok (.getfield 16, 3) := by decide +kernel
theorem dX1_remove_91 : decode cX1_remove 91 = .ok (.iconst 3, 1) := by decide +kernel
theorem dX1_remove_92 : decode cX1_remove 92 = .ok (.iload_n 2, 1) := by decide +kernel
theorem dX1_remove_93 : decode cX1_remove 93 = .ok (.imul, 1) := by decide +kernel
theorem dX1_remove_94 : decode cX1_remove 94 = .ok (.iconst 3, 1) := by decide +kernel
theorem dX1_remove_95 : decode cX1_remove 95 = .ok (.isub, 1) := by decide +kernel
theorem dX1_remove_96 : decode cX1_remove 96 = .ok (.iload_n 3, 1) := by decide +kernel
theorem dX1_remove_97 : decode cX1_remove 97 = .ok (.iadd, 1) := by decide +kernel
theorem dX1_remove_98 : decode cX1_remove 98 = .ok (.aload_n 0, 1) := by decide +kernel
theorem dX1_remove_99 : decode cX1_remove 99 = .ok (.getfield 16, 3) := by decide +kernel
theorem dX1_remove_102 : decode cX1_remove 102 = .ok (.iconst 3, 1) := by decide +kernel
theorem dX1_remove_103 : decode cX1_remove 103 = .ok (.iload_n 2, 1) := by decide +kernel
theorem dX1_remove_104 : decode cX1_remove 104 = .ok (.imul, 1) := by decide +kernel
theorem dX1_remove_105 : decode cX1_remove 105 = .ok (.iload_n 3, 1) := by decide +kernel
theorem dX1_remove_106 : decode cX1_remove 106 = .ok (.iadd, 1) := by decide +kernel
theorem dX1_remove_107 : decode cX1_remove 107 = .ok (.iaload, 1) := by decide +kernel
theorem dX1_remove_108 : decode cX1_remove 108 = .ok (.iastore, 1) := by decide +kernel
theorem dX1_remove_109 : decode cX1_remove 109 = .ok (.iinc 3 1, 3) := by decide +kernel
theorem dX1_remove_112 : decode cX1_remove 112 = .ok (.goto (-74), 3) := by decide +kernel
theorem dX1_remove_115 : decode cX1_remove 115 = .ok (.iinc 2 1, 3) := by decide +kernel
theorem dX1_remove_118 : decode cX1_remove 118 = .ok (.goto (-104), 3) := by decide +kernel
theorem dX1_remove_121 : decode cX1_remove 121 = .ok (.aload_n 0, 1) := by decide +kernel
theorem dX1_remove_122 : decode cX1_remove 122 = .ok (.dup, 1) := by decide +kernel
theorem dX1_remove_123 : decode cX1_remove 123 = .ok (.getfield 54, 3) := by decide +kernel
theorem dX1_remove_126 : decode cX1_remove 126 = .ok (.iconst 1, 1) := by decide +kernel
theorem dX1_remove_127 : decode cX1_remove 127 = .ok (.isub, 1) := by decide +kernel
theorem dX1_remove_128 : decode cX1_remove 128 = .ok (.putfield 54, 3) := by decide +kernel
theorem dX1_remove_131 : decode cX1_remove 131 = .ok (.aload_n 0, 1) := by decide +kernel
theorem dX1_remove_132 : decode cX1_remove 132 = .ok (.getfield 54, 3) := by decide +kernel
theorem dX1_remove_135 : decode cX1_remove 135 = .ok (.ireturn, 1) := by decide +kernel
end
section
set_option maxRecDepth 100000
abbrev cX1_isConstraint : ByteArray := prog_1_method_21_code
def yX1_isConstraint : MethodName := ⟨RX1, "isConstraint", "(I)Z"⟩
theorem dX1_isConstraint_0 : decode cX1_isConstraint 0 = .ok (.iload_n 1, 1) := by decide +kernel
theorem dX1_isConstraint_1 : decode cX1_isConstraint 1 = .ok (.ifCond .lt 15, 3) := by decide +kernel
theorem dX1_isConstraint_4 : decode cX1_isConstraint 4 = .ok (.iload_n 1, 1) := by decide +kernel
theorem dX1_isConstraint_5 : decode cX1_isConstraint 5 = .ok (.aload_n 0, 1) := by decide +kernel
theorem dX1_isConstraint_6 : decode cX1_isConstraint 6 = .ok (.getfield 54, 3) := by decide +kernel
theorem dX1_isConstraint_9 : decode cX1_isConstraint 9 = .ok (.if_icmp .ge 7, 3) := by decide +kernel
theorem dX1_isConstraint_12 : decode cX1_isConstraint 12 = .ok (.iconst 1, 1) := by decide +kernel
theorem dX1_isConstraint_13 : decode cX1_isConstraint 13 = .ok (.goto 4, 3) := by decide +kernel
theorem dX1_isConstraint_16 : decode cX1_isConstraint 16 = .ok (.iconst 0, 1) := by decide +kernel
theorem dX1_isConstraint_17 : decode cX1_isConstraint 17 = .ok (.ireturn, 1) := by decide +kernel
abbrev cX1_size : ByteArray := prog_1_method_8_code
def yX1_size : MethodName := ⟨RX1, "size", "()I"⟩
theorem dX1_size_0 : decode cX1_size 0 = .ok (.aload_n 0, 1) := by decide +kernel
theorem dX1_size_1 : decode cX1_size 1 = .ok (.getfield 54, 3) := by decide +kernel
theorem dX1_size_4 : decode cX1_size 4 = .ok (.ireturn, 1) := by decide +kernel
abbrev cX1_solvable : ByteArray := prog_1_method_9_code
def yX1_solvable : MethodName := ⟨RX1, "solvable", "()I"⟩
theorem dX1_solvable_0 : decode cX1_solvable 0 = .ok (.aload_n 0, 1) := by decide +kernel
theorem dX1_solvable_1 : decode cX1_solvable 1 = .ok (.invokevirtual 67, 3) := by decide +kernel
theorem dX1_solvable_4 : decode cX1_solvable 4 = .ok (.aload_n 0, 1) := by decide +kernel
theorem dX1_solvable_5 : decode cX1_solvable 5 = .ok (.invokevirtual 70, 3) := by decide +kernel
theorem dX1_solvable_8 : decode cX1_solvable 8 = .ok (.ifCond .eq 7, 3) := by decide +kernel
theorem dX1_solvable_11 : decode cX1_solvable 11 = .ok (.iconst 1, 1) := by decide +kernel
theorem dX1_solvable_12 : decode cX1_solvable 12 = .ok (.goto 4, 3) := by decide +kernel
theorem dX1_solvable_15 : decode cX1_solvable 15 = .ok (.iconst 0, 1) := by decide +kernel
theorem dX1_solvable_16 : decode cX1_solvable 16 = .ok (.ireturn, 1) := by decide +kernel
abbrev cX1_openStart : ByteArray := prog_1_method_24_code
def yX1_openStart : MethodName := ⟨RX1, "openStart", "()V"⟩
theorem dX1_openStart_0 : decode cX1_openStart 0 = .ok (.aload_n 0, 1) := by decide +kernel
theorem dX1_openStart_1 : decode cX1_openStart 1 = .ok (.iconst 0, 1) := by decide +kernel
theorem dX1_openStart_2 : decode cX1_openStart 2 = .ok (.putfield 92, 3) := by decide +kernel
theorem dX1_openStart_5 : decode cX1_openStart 5 = .ok (.iconst 0, 1) := by decide +kernel
theorem dX1_openStart_6 : decode cX1_openStart 6 = .ok (.istore_n 1, 1) := by decide +kernel
theorem dX1_openStart_7 : decode cX1_openStart 7 = .ok (.iload_n 1, 1) := by decide +kernel
theorem dX1_openStart_8 : decode cX1_openStart 8 = .ok (.bipush 25, 2) := by decide +kernel
theorem dX1_openStart_10 : decode cX1_openStart 10 = .ok (.if_icmp .ge 45, 3) := by decide +kernel
theorem dX1_openStart_13 : decode cX1_openStart 13 = .ok (.iload_n 1, 1) := by decide +kernel
theorem dX1_openStart_14 : decode cX1_openStart 14 = .ok (.iconst 5, 1) := by decide +kernel
theorem dX1_openStart_15 : decode cX1_openStart 15 = .ok (.idiv, 1) := by decide +kernel
theorem dX1_openStart_16 : decode cX1_openStart 16 = .ok (.istore_n 2, 1) := by decide +kernel
theorem dX1_openStart_17 : decode cX1_openStart 17 = .ok (.iload_n 1, 1) := by decide +kernel
theorem dX1_openStart_18 : decode cX1_openStart 18 = .ok (.iconst 5, 1) := by decide +kernel
theorem dX1_openStart_19 : decode cX1_openStart 19 = .ok (.irem, 1) := by decide +kernel
theorem dX1_openStart_20 : decode cX1_openStart 20 = .ok (.istore_n 3, 1) := by decide +kernel
theorem dX1_openStart_21 : decode cX1_openStart 21 = .ok (.aload_n 0, 1) := by decide +kernel
theorem dX1_openStart_22 : decode cX1_openStart 22 = .ok (.getfield 31, 3) := by decide +kernel
theorem dX1_openStart_25 : decode cX1_openStart 25 = .ok (.iload_n 1, 1) := by decide +kernel
theorem dX1_openStart_26 : decode cX1_openStart 26 = .ok (.bipush 7, 2) := by decide +kernel
theorem dX1_openStart_28 : decode cX1_openStart 28 = .ok (.iastore, 1) := by decide +kernel
theorem dX1_openStart_29 : decode cX1_openStart 29 = .ok (.iload_n 2, 1) := by decide +kernel
theorem dX1_openStart_30 : decode cX1_openStart 30 = .ok (.iload_n 3, 1) := by decide +kernel
theorem dX1_openStart_31 : decode cX1_openStart 31 = .ok (.if_icmp .eq 11, 3) := by decide +kernel
theorem dX1_openStart_34 : decode cX1_openStart 34 = .ok (.iload_n 2, 1) := by decide +kernel
theorem dX1_openStart_35 : decode cX1_openStart 35 = .ok (.aload_n 0, 1) := by decide +kernel
theorem dX1_openStart_36 : decode cX1_openStart 36 = .ok (.getfield 40, 3) := by decide +kernel
theorem dX1_openStart_39 : decode cX1_openStart 39 = .ok (.if_icmp .ne 10, 3) := by decide +kernel
theorem dX1_openStart_42 : decode cX1_openStart 42 = .ok (.aload_n 0, 1) := by decide +kernel
theorem dX1_openStart_43 : decode cX1_openStart 43 = .ok (.getfield 31, 3) := by decide +kernel
theorem dX1_openStart_46 : decode cX1_openStart 46 = .ok (.iload_n 1, 1) := by decide +kernel
theorem dX1_openStart_47 : decode cX1_openStart 47 = .ok (.iconst 0, 1) := by decide +kernel
theorem dX1_openStart_48 : decode cX1_openStart 48 = .ok (.iastore, 1) := by decide +kernel
theorem dX1_openStart_49 : decode cX1_openStart 49 = .ok (.iinc 1 1, 3) := by decide +kernel
theorem dX1_openStart_52 : decode cX1_openStart 52 = .ok (.goto (-45), 3) := by decide +kernel
theorem dX1_openStart_55 : decode cX1_openStart 55 = .ok (.return_, 1) := by decide +kernel
abbrev cX1_canMeet : ByteArray := prog_1_method_26_code
def yX1_canMeet : MethodName := ⟨RX1, "canMeet", "()Z"⟩
theorem dX1_canMeet_0 : decode cX1_canMeet 0 = .ok (.aload_n 0, 1) := by decide +kernel
theorem dX1_canMeet_1 : decode cX1_canMeet 1 = .ok (.iconst (-1), 1) := by decide +kernel
theorem dX1_canMeet_2 : decode cX1_canMeet 2 = .ok (.iconst (-1), 1) := by decide +kernel
theorem dX1_canMeet_3 : decode cX1_canMeet 3 = .ok (.invokevirtual 74, 3) := by decide +kernel
theorem dX1_canMeet_6 : decode cX1_canMeet 6 = .ok (.ireturn, 1) := by decide +kernel
abbrev cX1_search : ByteArray := prog_1_method_27_code
def yX1_search : MethodName := ⟨RX1, "search", "(II)Z"⟩
theorem dX1_search_0 : decode cX1_search 0 = .ok (.aload_n 0, 1) := by decide +kernel
theorem dX1_search_1 : decode cX1_search 1 = .ok (.getfield 92, 3) := by decide +kernel
theorem dX1_search_4 : decode cX1_search 4 = .ok (.ifCond .eq 5, 3) := by decide +kernel
theorem dX1_search_7 : decode cX1_search 7 = .ok (.iconst 0, 1) := by decide +kernel
theorem dX1_search_8 : decode cX1_search 8 = .ok (.ireturn, 1) := by decide +kernel
theorem dX1_search_9 : decode cX1_search 9 = .ok (.aload_n 0, 1) := by decide +kernel
theorem dX1_search_10 : decode cX1_search 10 = .ok (.aload_n 0, 1) := by decide +kernel
theorem dX1_search_11 : decode cX1_search 11 = .ok (.getfield 54, 3) := by decide +kernel
theorem dX1_search_14 : decode cX1_search 14 = .ok (.putfield 96, 3) := by decide +kernel
theorem dX1_search_17 : decode cX1_search 17 = .ok (.aload_n 0, 1) := by decide +kernel
theorem dX1_search_18 : decode cX1_search 18 = .ok (.sipush (-1000), 3) := by decide +kernel
theorem dX1_search_21 : decode cX1_search 21 = .ok (.putfield 78, 3) := by decide +kernel
theorem dX1_search_24 : decode cX1_search 24 = .ok (.iconst 0, 1) := by decide +kernel
theorem dX1_search_25 : decode cX1_search 25 = .ok (.istore_n 3, 1) := by decide +kernel
theorem dX1_search_26 : decode cX1_search 26 = .ok (.iconst 0, 1) := by decide +kernel
theorem dX1_search_27 : decode cX1_search 27 = .ok (.istore 4, 2) := by decide +kernel
theorem dX1_search_29 : decode cX1_search 29 = .ok (.iconst 0, 1) := by decide +kernel
theorem dX1_search_30 : decode cX1_search 30 = .ok (.istore 5, 2) := by decide +kernel
theorem dX1_search_32 : decode cX1_search 32 = .ok (.iload 5, 2) := by decide +kernel
theorem dX1_search_34 : decode cX1_search 34 = .ok (.bipush 25, 2) := by decide +kernel
theorem dX1_search_36 : decode cX1_search 36 = .ok (.if_icmp .ge 23, 3) := by decide +kernel
theorem dX1_search_39 : decode cX1_search 39 = .ok (.aload_n 0, 1) := by decide +kernel
theorem dX1_search_40 : decode cX1_search 40 = .ok (.getfield 34, 3) := by decide +kernel
theorem dX1_search_43 : decode cX1_search 43 = .ok (.iload 5, 2) := by decide +kernel
theorem dX1_search_45 : decode cX1_search 45 = .ok (.aload_n 0, 1) := by decide +kernel
theorem dX1_search_46 : decode cX1_search 46 = .ok (.getfield 31, 3) := by decide +kernel
theorem dX1_search_49 : decode cX1_search 49 = .ok (.iload 5, 2) := by decide +kernel
theorem dX1_search_51 : decode cX1_search 51 = .ok (.iaload, 1) := by decide +kernel
theorem dX1_search_52 : decode cX1_search 52 = .ok (.iastore, 1) := by decide +kernel
theorem dX1_search_53 : decode cX1_search 53 = .ok (.iinc 5 1, 3) := by decide +kernel
theorem dX1_search_56 : decode cX1_search 56 = .ok (.goto (-24), 3) := by decide +kernel
theorem dX1_search_59 : decode cX1_search 59 = .ok (.aload_n 0, 1) := by decide +kernel
theorem dX1_search_60 : decode cX1_search 60 = .ok (.getfield 37, 3) := by decide +kernel
theorem dX1_search_63 : decode cX1_search 63 = .ok (.iconst 0, 1) := by decide +kernel
theorem dX1_search_64 : decode cX1_search 64 = .ok (.iconst 0, 1) := by decide +kernel
theorem dX1_search_65 : decode cX1_search 65 = .ok (.iastore, 1) := by decide +kernel
theorem dX1_search_66 : decode cX1_search 66 = .ok (.iconst 0, 1) := by decide +kernel
theorem dX1_search_67 : decode cX1_search 67 = .ok (.istore 5, 2) := by decide +kernel
theorem dX1_search_69 : decode cX1_search 69 = .ok (.iload 5, 2) := by decide +kernel
theorem dX1_search_71 : decode cX1_search 71 = .ok (.ldc 99, 2) := by decide +kernel
theorem dX1_search_73 : decode cX1_search 73 = .ok (.if_icmp .ge 131, 3) := by decide +kernel
theorem dX1_search_76 : decode cX1_search 76 = .ok (.iload 4, 2) := by decide +kernel
theorem dX1_search_78 : decode cX1_search 78 = .ok (.ifCond .lt 126, 3) := by decide +kernel
theorem dX1_search_81 : decode cX1_search 81 = .ok (.iload_n 1, 1) := by decide +kernel
theorem dX1_search_82 : decode cX1_search 82 = .ok (.ifCond .ge 7, 3) := by decide +kernel
theorem dX1_search_85 : decode cX1_search 85 = .ok (.iconst 0, 1) := by decide +kernel
theorem dX1_search_86 : decode cX1_search 86 = .ok (.goto 19, 3) := by decide +kernel
theorem dX1_search_89 : decode cX1_search 89 = .ok (.aload_n 0, 1) := by decide +kernel
theorem dX1_search_90 : decode cX1_search 90 = .ok (.getfield 34, 3) := by decide +kernel
theorem dX1_search_93 : decode cX1_search 93 = .ok (.bipush 25, 2) := by decide +kernel
theorem dX1_search_95 : decode cX1_search 95 = .ok (.iload 4, 2) := by decide +kernel
theorem dX1_search_97 : decode cX1_search 97 = .ok (.imul, 1) := by decide +kernel
theorem dX1_search_98 : decode cX1_search 98 = .ok (.iconst 5, 1) := by decide +kernel
theorem dX1_search_99 : decode cX1_search 99 = .ok (.iload_n 1, 1) := by decide +kernel
theorem dX1_search_100 : decode cX1_search 100 = .ok (.imul, 1) := by decide +kernel
theorem dX1_search_101 : decode cX1_search 101 = .ok (.iadd, 1) := by decide +kernel
theorem dX1_search_102 : decode cX1_search 102 = .ok (.iload_n 2, 1) := by decide +kernel
theorem dX1_search_103 : decode cX1_search 103 = .ok (.iadd, 1) := by decide +kernel
theorem dX1_search_104 : decode cX1_search 104 = .ok (.iaload, 1) := by decide +kernel
theorem dX1_search_105 : decode cX1_search 105 = .ok (.istore 6, 2) := by decide +kernel
theorem dX1_search_107 : decode cX1_search 107 = .ok (.iload 4, 2) := by decide +kernel
theorem dX1_search_109 : decode cX1_search 109 = .ok (.aload_n 0, 1) := by decide +kernel
theorem dX1_search_110 : decode cX1_search 110 = .ok (.getfield 96, 3) := by decide +kernel
theorem dX1_search_113 : decode cX1_search 113 = .ok (.if_icmp .ne 40, 3) := by decide +kernel
theorem dX1_search_116 : decode cX1_search 116 = .ok (.iconst 1, 1) := by decide +kernel
theorem dX1_search_117 : decode cX1_search 117 = .ok (.istore_n 3, 1) := by decide +kernel
theorem dX1_search_118 : decode cX1_search 118 = .ok (.aload_n 0, 1) := by decide +kernel
theorem dX1_search_119 : decode cX1_search 119 = .ok (.iload 6, 2) := by decide +kernel
theorem dX1_search_121 : decode cX1_search 121 = .ok (.aload_n 0, 1) := by decide +kernel
theorem dX1_search_122 : decode cX1_search 122 = .ok (.getfield 78, 3) := by decide +kernel
theorem dX1_search_125 : decode cX1_search 125 = .ok (.if_icmp .le 8, 3) := by decide +kernel
theorem dX1_search_128 : decode cX1_search 128 = .ok (.iload 6, 2) := by decide +kernel
theorem dX1_search_130 : decode cX1_search 130 = .ok (.goto 7, 3) := by decide +kernel
theorem dX1_search_133 : decode cX1_search 133 = .ok (.aload_n 0, 1) := by decide +kernel
theorem dX1_search_134 : decode cX1_search 134 = .ok (.getfield 78, 3) := by decide +kernel
theorem dX1_search_137 : decode cX1_search 137 = .ok (.putfield 78, 3) := by decide +kernel
theorem dX1_search_140 : decode cX1_search 140 = .ok (.iload_n 1, 1) := by decide +kernel
theorem dX1_search_141 : decode cX1_search 141 = .ok (.ifCond .ge 6, 3) := by decide +kernel
theorem dX1_search_144 : decode cX1_search 144 = .ok (.goto 60, 3) := by decide +kernel
theorem dX1_search_147 : decode cX1_search 147 = .ok (.iinc 4 (-1), 3) := by decide +kernel
theorem dX1_search_150 : decode cX1_search 150 = .ok (.goto 48, 3) := by decide +kernel
theorem dX1_search_153 : decode cX1_search 153 = .ok (.iload_n 3, 1) := by decide +kernel
theorem dX1_search_154 : decode cX1_search 154 = .ok (.ifCond .eq 18, 3) := by decide +kernel
theorem dX1_search_157 : decode cX1_search 157 = .ok (.iload 6, 2) := by decide +kernel
theorem dX1_search_159 : decode cX1_search 159 = .ok (.aload_n 0, 1) := by decide +kernel
theorem dX1_search_160 : decode cX1_search 160 = .ok (.getfield 78, 3) := by decide +kernel
theorem dX1_search_163 : decode cX1_search 163 = .ok (.if_icmp .gt 9, 3) := by decide +kernel
theorem dX1_search_166 : decode cX1_search 166 = .ok (.iinc 4 (-1), 3) := by decide +kernel
theorem dX1_search_169 : decode cX1_search 169 = .ok (.goto 29, 3) := by decide +kernel
theorem dX1_search_172 : decode cX1_search 172 = .ok (.aload_n 0, 1) := by decide +kernel
theorem dX1_search_173 : decode cX1_search 173 = .ok (.iload 4, 2) := by decide +kernel
theorem dX1_search_175 : decode cX1_search 175 = .ok (.invokevirtual 100, 3) := by decide +kernel
theorem dX1_search_178 : decode cX1_search 178 = .ok (.ifCond .eq 17, 3) := by decide +kernel
theorem dX1_search_181 : decode cX1_search 181 = .ok (.iinc 4 1, 3) := by decide +kernel
theorem dX1_search_184 : decode cX1_search 184 = .ok (.aload_n 0, 1) := by decide +kernel
theorem dX1_search_185 : decode cX1_search 185 = .ok (.getfield 37, 3) := by decide +kernel
theorem dX1_search_188 : decode cX1_search 188 = .ok (.iload 4, 2) := by decide +kernel
theorem dX1_search_190 : decode cX1_search 190 = .ok (.iconst 0, 1) := by decide +kernel
theorem dX1_search_191 : decode cX1_search 191 = .ok (.iastore, 1) := by decide +kernel
theorem dX1_search_192 : decode cX1_search 192 = .ok (.goto 6, 3) := by decide +kernel
theorem dX1_search_195 : decode cX1_search 195 = .ok (.iinc 4 (-1), 3) := by decide +kernel
theorem dX1_search_198 : decode cX1_search 198 = .ok (.iinc 5 1, 3) := by decide +kernel
theorem dX1_search_201 : decode cX1_search 201 = .ok (.goto (-132), 3) := by decide +kernel
theorem dX1_search_204 : decode cX1_search 204 = .ok (.iload_n 3, 1) := by decide +kernel
theorem dX1_search_205 : decode cX1_search 205 = .ok (.ireturn, 1) := by decide +kernel
abbrev cX1_goOn : ByteArray := prog_1_method_28_code
def yX1_goOn : MethodName := ⟨RX1, "goOn", "(I)Z"⟩
theorem dX1_goOn_0 : decode cX1_goOn 0 = .ok (.bipush 25, 2) := by decide +kernel
theorem dX1_goOn_2 : decode cX1_goOn 2 = .ok (.iload_n 1, 1) := by decide +kernel
theorem dX1_goOn_3 : decode cX1_goOn 3 = .ok (.imul, 1) := by decide +kernel
theorem dX1_goOn_4 : decode cX1_goOn 4 = .ok (.istore_n 2, 1) := by decide +kernel
theorem dX1_goOn_5 : decode cX1_goOn 5 = .ok (.iload_n 1, 1) := by decide +kernel
theorem dX1_goOn_6 : decode cX1_goOn 6 = .ok (.aload_n 0, 1) := by decide +kernel
theorem dX1_goOn_7 : decode cX1_goOn 7 = .ok (.getfield 44, 3) := by decide +kernel
theorem dX1_goOn_10 : decode cX1_goOn 10 = .ok (.if_icmp .ne 7, 3) := by decide +kernel
theorem dX1_goOn_13 : decode cX1_goOn 13 = .ok (.iconst 0, 1) := by decide +kernel
theorem dX1_goOn_14 : decode cX1_goOn 14 = .ok (.goto 9, 3) := by decide +kernel
theorem dX1_goOn_17 : decode cX1_goOn 17 = .ok (.aload_n 0, 1) := by decide +kernel
theorem dX1_goOn_18 : decode cX1_goOn 18 = .ok (.getfield 19, 3) := by decide +kernel
theorem dX1_goOn_21 : decode cX1_goOn 21 = .ok (.iload_n 1, 1) := by decide +kernel
theorem dX1_goOn_22 : decode cX1_goOn 22 = .ok (.iaload, 1) := by decide +kernel
theorem dX1_goOn_23 : decode cX1_goOn 23 = .ok (.istore_n 3, 1) := by decide +kernel
theorem dX1_goOn_24 : decode cX1_goOn 24 = .ok (.iload_n 1, 1) := by decide +kernel
theorem dX1_goOn_25 : decode cX1_goOn 25 = .ok (.aload_n 0, 1) := by decide +kernel
theorem dX1_goOn_26 : decode cX1_goOn 26 = .ok (.getfield 44, 3) := by decide +kernel
theorem dX1_goOn_29 : decode cX1_goOn 29 = .ok (.if_icmp .ne 7, 3) := by decide +kernel
theorem dX1_goOn_32 : decode cX1_goOn 32 = .ok (.iconst 1, 1) := by decide +kernel
theorem dX1_goOn_33 : decode cX1_goOn 33 = .ok (.goto 4, 3) := by decide +kernel
theorem dX1_goOn_36 : decode cX1_goOn 36 = .ok (.iconst 0, 1) := by decide +kernel
theorem dX1_goOn_37 : decode cX1_goOn 37 = .ok (.istore 4, 2) := by decide +kernel
theorem dX1_goOn_39 : decode cX1_goOn 39 = .ok (.iconst 3, 1) := by decide +kernel
theorem dX1_goOn_40 : decode cX1_goOn 40 = .ok (.iload_n 1, 1) := by decide +kernel
theorem dX1_goOn_41 : decode cX1_goOn 41 = .ok (.imul, 1) := by decide +kernel
theorem dX1_goOn_42 : decode cX1_goOn 42 = .ok (.istore 5, 2) := by decide +kernel
theorem dX1_goOn_44 : decode cX1_goOn 44 = .ok (.iload 5, 2) := by decide +kernel
theorem dX1_goOn_46 : decode cX1_goOn 46 = .ok (.iconst 3, 1) := by decide +kernel
theorem dX1_goOn_47 : decode cX1_goOn 47 = .ok (.iload_n 1, 1) := by decide +kernel
theorem dX1_goOn_48 : decode cX1_goOn 48 = .ok (.imul, 1) := by decide +kernel
theorem dX1_goOn_49 : decode cX1_goOn 49 = .ok (.iload_n 3, 1) := by decide +kernel
theorem dX1_goOn_50 : decode cX1_goOn 50 = .ok (.iadd, 1) := by decide +kernel
theorem dX1_goOn_51 : decode cX1_goOn 51 = .ok (.if_icmp .ge 55, 3) := by decide +kernel
theorem dX1_goOn_54 : decode cX1_goOn 54 = .ok (.iload 4, 2) := by decide +kernel
theorem dX1_goOn_56 : decode cX1_goOn 56 = .ok (.ifCond .ne 37, 3) := by decide +kernel
theorem dX1_goOn_59 : decode cX1_goOn 59 = .ok (.aload_n 0, 1) := by decide +kernel
theorem dX1_goOn_60 : decode cX1_goOn 60 = .ok (.getfield 34, 3) := by decide +kernel
theorem dX1_goOn_63 : decode cX1_goOn 63 = .ok (.iload_n 2, 1) := by decide +kernel
theorem dX1_goOn_64 : decode cX1_goOn 64 = .ok (.iconst 5, 1) := by decide +kernel
theorem dX1_goOn_65 : decode cX1_goOn 65 = .ok (.aload_n 0, 1) := by decide +kernel
theorem dX1_goOn_66 : decode cX1_goOn 66 = .ok (.getfield 7, 3) := by decide +kernel
theorem dX1_goOn_69 : decode cX1_goOn 69 = .ok (.iload 5, 2) := by decide +kernel
theorem dX1_goOn_71 : decode cX1_goOn 71 = .ok (.iaload, 1) := by decide +kernel
theorem dX1_goOn_72 : decode cX1_goOn 72 = .ok (.imul, 1) := by decide +kernel
theorem dX1_goOn_73 : decode cX1_goOn 73 = .ok (.iadd, 1) := by decide +kernel
theorem dX1_goOn_74 : decode cX1_goOn 74 = .ok (.aload_n 0, 1) := by decide +kernel
theorem dX1_goOn_75 : decode cX1_goOn 75 = .ok (.getfield 13, 3) := by decide +kernel
theorem dX1_goOn_78 : decode cX1_goOn 78 = .ok (.iload 5, 2) := by decide +kernel
theorem dX1_goOn_80 : decode cX1_goOn 80 = .ok (.iaload, 1) := by decide +kernel
theorem dX1_goOn_81 : decode cX1_goOn 81 = .ok (.iadd, 1) := by decide +kernel
theorem dX1_goOn_82 : decode cX1_goOn 82 = .ok (.iaload, 1) := by decide +kernel
theorem dX1_goOn_83 : decode cX1_goOn 83 = .ok (.aload_n 0, 1) := by decide +kernel
theorem dX1_goOn_84 : decode cX1_goOn 84 = .ok (.getfield 16, 3) := by decide +kernel
theorem dX1_goOn_87 : decode cX1_goOn 87 = .ok (.iload 5, 2) := by decide +kernel
theorem dX1_goOn_89 : decode cX1_goOn 89 = .ok (.iaload, 1) := by decide +kernel
theorem dX1_goOn_90 : decode cX1_goOn 90 = .ok (.if_icmp .gt 7, 3) := by decide +kernel
theorem dX1_goOn_93 : decode cX1_goOn 93 = .ok (.iconst 1, 1) := by decide +kernel
theorem dX1_goOn_94 : decode cX1_goOn 94 = .ok (.goto 4, 3) := by decide +kernel
theorem dX1_goOn_97 : decode cX1_goOn 97 = .ok (.iconst 0, 1) := by decide +kernel
theorem dX1_goOn_98 : decode cX1_goOn 98 = .ok (.istore 4, 2) := by decide +kernel
theorem dX1_goOn_100 : decode cX1_goOn 100 = .ok (.iinc 5 1, 3) := by decide +kernel
theorem dX1_goOn_103 : decode cX1_goOn 103 = .ok (.goto (-59), 3) := by decide +kernel
theorem dX1_goOn_106 : decode cX1_goOn 106 = .ok (.iload 4, 2) := by decide +kernel
theorem dX1_goOn_108 : decode cX1_goOn 108 = .ok (.ifCond .eq 34, 3) := by decide +kernel
theorem dX1_goOn_111 : decode cX1_goOn 111 = .ok (.aload_n 0, 1) := by decide +kernel
theorem dX1_goOn_112 : decode cX1_goOn 112 = .ok (.getfield 37, 3) := by decide +kernel
theorem dX1_goOn_115 : decode cX1_goOn 115 = .ok (.iload_n 1, 1) := by decide +kernel
theorem dX1_goOn_116 : decode cX1_goOn 116 = .ok (.dup2, 1) := by decide +kernel
theorem dX1_goOn_117 : decode cX1_goOn 117 = .ok (.iaload, 1) := by decide +kernel
theorem dX1_goOn_118 : decode cX1_goOn 118 = .ok (.iconst 1, 1) := by decide +kernel
theorem dX1_goOn_119 : decode cX1_goOn 119 = .ok (.iadd, 1) := by decide +kernel
theorem dX1_goOn_120 : decode cX1_goOn 120 = .ok (.iastore, 1) := by decide +kernel
theorem dX1_goOn_121 : decode cX1_goOn 121 = .ok (.aload_n 0, 1) := by decide +kernel
theorem dX1_goOn_122 : decode cX1_goOn 122 = .ok (.iload_n 1, 1) := by decide +kernel
theorem dX1_goOn_123 : decode cX1_goOn 123 = .ok (.invokevirtual 103, 3) := by decide +kernel
theorem dX1_goOn_126 : decode cX1_goOn 126 = .ok (.aload_n 0, 1) := by decide +kernel
theorem dX1_goOn_127 : decode cX1_goOn 127 = .ok (.getfield 37, 3) := by decide +kernel
theorem dX1_goOn_130 : decode cX1_goOn 130 = .ok (.iload_n 1, 1) := by decide +kernel
theorem dX1_goOn_131 : decode cX1_goOn 131 = .ok (.iaload, 1) := by decide +kernel
theorem dX1_goOn_132 : decode cX1_goOn 132 = .ok (.iconst 1, 1) := by decide +kernel
theorem dX1_goOn_133 : decode cX1_goOn 133 = .ok (.if_icmp .ne 7, 3) := by decide +kernel
theorem dX1_goOn_136 : decode cX1_goOn 136 = .ok (.iconst 1, 1) := by decide +kernel
theorem dX1_goOn_137 : decode cX1_goOn 137 = .ok (.goto 4, 3) := by decide +kernel
theorem dX1_goOn_140 : decode cX1_goOn 140 = .ok (.iconst 0, 1) := by decide +kernel
theorem dX1_goOn_141 : decode cX1_goOn 141 = .ok (.ireturn, 1) := by decide +kernel
theorem dX1_goOn_142 : decode cX1_goOn 142 = .ok (.iconst 0, 1) := by decide +kernel
theorem dX1_goOn_143 : decode cX1_goOn 143 = .ok (.istore 5, 2) := by decide +kernel
theorem dX1_goOn_145 : decode cX1_goOn 145 = .ok (.iload 5, 2) := by decide +kernel
theorem dX1_goOn_147 : decode cX1_goOn 147 = .ok (.iconst 3, 1) := by decide +kernel
theorem dX1_goOn_148 : decode cX1_goOn 148 = .ok (.if_icmp .ge 111, 3) := by decide +kernel
theorem dX1_goOn_151 : decode cX1_goOn 151 = .ok (.aload_n 0, 1) := by decide +kernel
theorem dX1_goOn_152 : decode cX1_goOn 152 = .ok (.getfield 37, 3) := by decide +kernel
theorem dX1_goOn_155 : decode cX1_goOn 155 = .ok (.iload_n 1, 1) := by decide +kernel
theorem dX1_goOn_156 : decode cX1_goOn 156 = .ok (.iaload, 1) := by decide +kernel
theorem dX1_goOn_157 : decode cX1_goOn 157 = .ok (.iload_n 3, 1) := by decide +kernel
theorem dX1_goOn_158 : decode cX1_goOn 158 = .ok (.if_icmp .ge 101, 3) := by decide +kernel
theorem dX1_goOn_161 : decode cX1_goOn 161 = .ok (.iconst 3, 1) := by decide +kernel
theorem dX1_goOn_162 : decode cX1_goOn 162 = .ok (.iload_n 1, 1) := by decide +kernel
theorem dX1_goOn_163 : decode cX1_goOn 163 = .ok (.imul, 1) := by decide +kernel
theorem dX1_goOn_164 : decode cX1_goOn 164 = .ok (.aload_n 0, 1) := by decide +kernel
theorem dX1_goOn_165 : decode cX1_goOn 165 = .ok (.getfield 37, 3) := by decide +kernel
theorem dX1_goOn_168 : decode cX1_goOn 168 = .ok (.iload_n 1, 1) := by decide +kernel
theorem dX1_goOn_169 : decode cX1_goOn 169 = .ok (.iaload, 1) := by decide +kernel
theorem dX1_goOn_170 : decode cX1_goOn 170 = .ok (.iadd, 1) := by decide +kernel
theorem dX1_goOn_171 : decode cX1_goOn 171 = .ok (.istore 6, 2) := by decide +kernel
theorem dX1_goOn_173 : decode cX1_goOn 173 = .ok (.aload_n 0, 1) := by decide +kernel
theorem dX1_goOn_174 : decode cX1_goOn 174 = .ok (.getfield 37, 3) := by decide +kernel
theorem dX1_goOn_177 : decode cX1_goOn 177 = .ok (.iload_n 1, 1) := by decide +kernel
theorem dX1_goOn_178 : decode cX1_goOn 178 = .ok (.dup2, 1) := by decide +kernel
theorem dX1_goOn_179 : decode cX1_goOn 179 = .ok (.iaload, 1) := by decide +kernel
theorem dX1_goOn_180 : decode cX1_goOn 180 = .ok (.iconst 1, 1) := by decide +kernel
theorem dX1_goOn_181 : decode cX1_goOn 181 = .ok (.iadd, 1) := by decide +kernel
theorem dX1_goOn_182 : decode cX1_goOn 182 = .ok (.iastore, 1) := by decide +kernel
theorem dX1_goOn_183 : decode cX1_goOn 183 = .ok (.aload_n 0, 1) := by decide +kernel
theorem dX1_goOn_184 : decode cX1_goOn 184 = .ok (.getfield 34, 3) := by decide +kernel
theorem dX1_goOn_187 : decode cX1_goOn 187 = .ok (.iload_n 2, 1) := by decide +kernel
theorem dX1_goOn_188 : decode cX1_goOn 188 = .ok (.iconst 5, 1) := by decide +kernel
theorem dX1_goOn_189 : decode cX1_goOn 189 = .ok (.aload_n 0, 1) := by decide +kernel
theorem dX1_goOn_190 : decode cX1_goOn 190 = .ok (.getfield 13, 3) := by decide +kernel
theorem dX1_goOn_193 : decode cX1_goOn 193 = .ok (.iload 6, 2) := by decide +kernel
theorem dX1_goOn_195 : decode cX1_goOn 195 = .ok (.iaload, 1) := by decide +kernel
theorem dX1_goOn_196 : decode cX1_goOn 196 = .ok (.imul, 1) := by decide +kernel
theorem dX1_goOn_197 : decode cX1_goOn 197 = .ok (.iadd, 1) := by decide +kernel
theorem dX1_goOn_198 : decode cX1_goOn 198 = .ok (.aload_n 0, 1) := by decide +kernel
theorem dX1_goOn_199 : decode cX1_goOn 199 = .ok (.getfield 7, 3) := by decide +kernel
theorem dX1_goOn_202 : decode cX1_goOn 202 = .ok (.iload 6, 2) := by decide +kernel
theorem dX1_goOn_204 : decode cX1_goOn 204 = .ok (.iaload, 1) := by decide +kernel
theorem dX1_goOn_205 : decode cX1_goOn 205 = .ok (.iadd, 1) := by decide +kernel
theorem dX1_goOn_206 : decode cX1_goOn 206 = .ok (.iaload, 1) := by decide +kernel
theorem dX1_goOn_207 : decode cX1_goOn 207 = .ok (.aload_n 0, 1) := by decide +kernel
theorem dX1_goOn_208 : decode cX1_goOn 208 = .ok (.getfield 16, 3) := by decide +kernel
theorem dX1_goOn_211 : decode cX1_goOn 211 = .ok (.iload 6, 2) := by decide +kernel
theorem dX1_goOn_213 : decode cX1_goOn 213 = .ok (.iaload, 1) := by decide +kernel
theorem dX1_goOn_214 : decode cX1_goOn 214 = .ok (.iadd, 1) := by decide +kernel
theorem dX1_goOn_215 : decode cX1_goOn 215 = .ok (.ifCond .lt 38, 3) := by decide +kernel
theorem dX1_goOn_218 : decode cX1_goOn 218 = .ok (.aload_n 0, 1) := by decide +kernel
theorem dX1_goOn_219 : decode cX1_goOn 219 = .ok (.iload_n 1, 1) := by decide +kernel
theorem dX1_goOn_220 : decode cX1_goOn 220 = .ok (.invokevirtual 103, 3) := by decide +kernel
theorem dX1_goOn_223 : decode cX1_goOn 223 = .ok (.aload_n 0, 1) := by decide +kernel
theorem dX1_goOn_224 : decode cX1_goOn 224 = .ok (.iload_n 1, 1) := by decide +kernel
theorem dX1_goOn_225 : decode cX1_goOn 225 = .ok (.iconst 1, 1) := by decide +kernel
theorem dX1_goOn_226 : decode cX1_goOn 226 = .ok (.iadd, 1) := by decide +kernel
theorem dX1_goOn_227 : decode cX1_goOn 227 = .ok (.aload_n 0, 1) := by decide +kernel
theorem dX1_goOn_228 : decode cX1_goOn 228 = .ok (.getfield 7, 3) := by decide +kernel
theorem dX1_goOn_231 : decode cX1_goOn 231 = .ok (.iload 6, 2) := by decide +kernel
theorem dX1_goOn_233 : decode cX1_goOn 233 = .ok (.iaload, 1) := by decide +kernel
theorem dX1_goOn_234 : decode cX1_goOn 234 = .ok (.aload_n 0, 1) := by decide +kernel
theorem dX1_goOn_235 : decode cX1_goOn 235 = .ok (.getfield 13, 3) := by decide +kernel
theorem dX1_goOn_238 : decode cX1_goOn 238 = .ok (.iload 6, 2) := by decide +kernel
theorem dX1_goOn_240 : decode cX1_goOn 240 = .ok (.iaload, 1) := by decide +kernel
theorem dX1_goOn_241 : decode cX1_goOn 241 = .ok (.aload_n 0, 1) := by decide +kernel
theorem dX1_goOn_242 : decode cX1_goOn 242 = .ok (.getfield 16, 3) := by decide +kernel
theorem dX1_goOn_245 : decode cX1_goOn 245 = .ok (.iload 6, 2) := by decide +kernel
theorem dX1_goOn_247 : decode cX1_goOn 247 = .ok (.iaload, 1) := by decide +kernel
theorem dX1_goOn_248 : decode cX1_goOn 248 = .ok (.invokevirtual 107, 3) := by decide +kernel
theorem dX1_goOn_251 : decode cX1_goOn 251 = .ok (.iconst 1, 1) := by decide +kernel
theorem dX1_goOn_252 : decode cX1_goOn 252 = .ok (.ireturn, 1) := by decide +kernel
theorem dX1_goOn_253 : decode cX1_goOn 253 = .ok (.iinc 5 1, 3) := by decide +kernel
theorem dX1_goOn_256 : decode cX1_goOn 256 = .ok (.goto (-111), 3) := by decide +kernel
theorem dX1_goOn_259 : decode cX1_goOn 259 = .ok (.iconst 0, 1) := by decide +kernel
theorem dX1_goOn_260 : decode cX1_goOn 260 = .ok (.ireturn, 1) := by decide +kernel
abbrev cX1_copyOn : ByteArray := prog_1_method_29_code
def yX1_copyOn : MethodName := ⟨RX1, "copyOn", "(I)V"⟩
theorem dX1_copyOn_0 : decode cX1_copyOn 0 = .ok (.iconst 0, 1) := by decide +kernel
theorem dX1_copyOn_1 : decode cX1_copyOn 1 = .ok (.istore_n 2, 1) := by decide +kernel
theorem dX1_copyOn_2 : decode cX1_copyOn 2 = .ok (.iload_n 2, 1) := by decide +kernel
theorem dX1_copyOn_3 : decode cX1_copyOn 3 = .ok (.bipush 25, 2) := by decide +kernel
theorem dX1_copyOn_5 : decode cX1_copyOn 5 = .ok (.if_icmp .ge 34, 3) := by decide +kernel
theorem dX1_copyOn_8 : decode cX1_copyOn 8 = .ok (.aload_n 0, 1) := by decide +kernel
theorem dX1_copyOn_9 : decode cX1_copyOn 9 = .ok (.getfield 34, 3) := by decide +kernel
theorem dX1_copyOn_12 : decode cX1_copyOn 12 = .ok (.bipush 25, 2) := by decide +kernel
theorem dX1_copyOn_14 : decode cX1_copyOn 14 = .ok (.iload_n 1, 1) := by decide +kernel
theorem dX1_copyOn_15 : decode cX1_copyOn 15 = .ok (.imul, 1) := by decide +kernel
theorem dX1_copyOn_16 : decode cX1_copyOn 16 = .ok (.bipush 25, 2) := by decide +kernel
theorem dX1_copyOn_18 : decode cX1_copyOn 18 = .ok (.iadd, 1) := by decide +kernel
theorem dX1_copyOn_19 : decode cX1_copyOn 19 = .ok (.iload_n 2, 1) := by decide +kernel
theorem dX1_copyOn_20 : decode cX1_copyOn 20 = .ok (.iadd, 1) := by decide +kernel
theorem dX1_copyOn_21 : decode cX1_copyOn 21 = .ok (.aload_n 0, 1) := by decide +kernel
theorem dX1_copyOn_22 : decode cX1_copyOn 22 = .ok (.getfield 34, 3) := by decide +kernel
theorem dX1_copyOn_25 : decode cX1_copyOn 25 = .ok (.bipush 25, 2) := by decide +kernel
theorem dX1_copyOn_27 : decode cX1_copyOn 27 = .ok (.iload_n 1, 1) := by decide +kernel
theorem dX1_copyOn_28 : decode cX1_copyOn 28 = .ok (.imul, 1) := by decide +kernel
theorem dX1_copyOn_29 : decode cX1_copyOn 29 = .ok (.iload_n 2, 1) := by decide +kernel
theorem dX1_copyOn_30 : decode cX1_copyOn 30 = .ok (.iadd, 1) := by decide +kernel
theorem dX1_copyOn_31 : decode cX1_copyOn 31 = .ok (.iaload, 1) := by decide +kernel
theorem dX1_copyOn_32 : decode cX1_copyOn 32 = .ok (.iastore, 1) := by decide +kernel
theorem dX1_copyOn_33 : decode cX1_copyOn 33 = .ok (.iinc 2 1, 3) := by decide +kernel
theorem dX1_copyOn_36 : decode cX1_copyOn 36 = .ok (.goto (-34), 3) := by decide +kernel
theorem dX1_copyOn_39 : decode cX1_copyOn 39 = .ok (.return_, 1) := by decide +kernel
abbrev cX1_tighten : ByteArray := prog_1_method_30_code
def yX1_tighten : MethodName := ⟨RX1, "tighten", "(IIII)V"⟩
theorem dX1_tighten_0 : decode cX1_tighten 0 = .ok (.bipush 25, 2) := by decide +kernel
theorem dX1_tighten_2 : decode cX1_tighten 2 = .ok (.iload_n 1, 1) := by decide +kernel
theorem dX1_tighten_3 : decode cX1_tighten 3 = .ok (.imul, 1) := by decide +kernel
theorem dX1_tighten_4 : decode cX1_tighten 4 = .ok (.istore 5, 2) := by decide +kernel
theorem dX1_tighten_6 : decode cX1_tighten 6 = .ok (.iload 5, 2) := by decide +kernel
theorem dX1_tighten_8 : decode cX1_tighten 8 = .ok (.bipush 25, 2) := by decide +kernel
theorem dX1_tighten_10 : decode cX1_tighten 10 = .ok (.isub, 1) := by decide +kernel
theorem dX1_tighten_11 : decode cX1_tighten 11 = .ok (.istore 6, 2) := by decide +kernel
theorem dX1_tighten_13 : decode cX1_tighten 13 = .ok (.iconst 0, 1) := by decide +kernel
theorem dX1_tighten_14 : decode cX1_tighten 14 = .ok (.istore 7, 2) := by decide +kernel
theorem dX1_tighten_16 : decode cX1_tighten 16 = .ok (.iload 7, 2) := by decide +kernel
theorem dX1_tighten_18 : decode cX1_tighten 18 = .ok (.bipush 25, 2) := by decide +kernel
theorem dX1_tighten_20 : decode cX1_tighten 20 = .ok (.if_icmp .ge 82, 3) := by decide +kernel
theorem dX1_tighten_23 : decode cX1_tighten 23 = .ok (.iload 7, 2) := by decide +kernel
theorem dX1_tighten_25 : decode cX1_tighten 25 = .ok (.iconst 5, 1) := by decide +kernel
theorem dX1_tighten_26 : decode cX1_tighten 26 = .ok (.idiv, 1) := by decide +kernel
theorem dX1_tighten_27 : decode cX1_tighten 27 = .ok (.istore 8, 2) := by decide +kernel
theorem dX1_tighten_29 : decode cX1_tighten 29 = .ok (.iload 7, 2) := by decide +kernel
theorem dX1_tighten_31 : decode cX1_tighten 31 = .ok (.iconst 5, 1) := by decide +kernel
theorem dX1_tighten_32 : decode cX1_tighten 32 = .ok (.irem, 1) := by decide +kernel
theorem dX1_tighten_33 : decode cX1_tighten 33 = .ok (.istore 9, 2) := by decide +kernel
theorem dX1_tighten_35 : decode cX1_tighten 35 = .ok (.aload_n 0, 1) := by decide +kernel
theorem dX1_tighten_36 : decode cX1_tighten 36 = .ok (.getfield 34, 3) := by decide +kernel
theorem dX1_tighten_39 : decode cX1_tighten 39 = .ok (.iload 6, 2) := by decide +kernel
theorem dX1_tighten_41 : decode cX1_tighten 41 = .ok (.iconst 5, 1) := by decide +kernel
theorem dX1_tighten_42 : decode cX1_tighten 42 = .ok (.iload 8, 2) := by decide +kernel
theorem dX1_tighten_44 : decode cX1_tighten 44 = .ok (.imul, 1) := by decide +kernel
theorem dX1_tighten_45 : decode cX1_tighten 45 = .ok (.iadd, 1) := by decide +kernel
theorem dX1_tighten_46 : decode cX1_tighten 46 = .ok (.iload_n 2, 1) := by decide +kernel
theorem dX1_tighten_47 : decode cX1_tighten 47 = .ok (.iadd, 1) := by decide +kernel
theorem dX1_tighten_48 : decode cX1_tighten 48 = .ok (.iaload, 1) := by decide +kernel
theorem dX1_tighten_49 : decode cX1_tighten 49 = .ok (.iload 4, 2) := by decide +kernel
theorem dX1_tighten_51 : decode cX1_tighten 51 = .ok (.iadd, 1) := by decide +kernel
theorem dX1_tighten_52 : decode cX1_tighten 52 = .ok (.aload_n 0, 1) := by decide +kernel
theorem dX1_tighten_53 : decode cX1_tighten 53 = .ok (.getfield 34, 3) := by decide +kernel
theorem dX1_tighten_56 : decode cX1_tighten 56 = .ok (.iload 6, 2) := by decide +kernel
theorem dX1_tighten_58 : decode cX1_tighten 58 = .ok (.iconst 5, 1) := by decide +kernel
theorem dX1_tighten_59 : decode cX1_tighten 59 = .ok (.iload_n 3, 1) := by decide +kernel
theorem dX1_tighten_60 : decode cX1_tighten 60 = .ok (.imul, 1) := by decide +kernel
theorem dX1_tighten_61 : decode cX1_tighten 61 = .ok (.iadd, 1) := by decide +kernel
theorem dX1_tighten_62 : decode cX1_tighten 62 = .ok (.iload 9, 2) := by decide +kernel
theorem dX1_tighten_64 : decode cX1_tighten 64 = .ok (.iadd, 1) := by decide +kernel
theorem dX1_tighten_65 : decode cX1_tighten 65 = .ok (.iaload, 1) := by decide +kernel
theorem dX1_tighten_66 : decode cX1_tighten 66 = .ok (.iadd, 1) := by decide +kernel
theorem dX1_tighten_67 : decode cX1_tighten 67 = .ok (.istore 10, 2) := by decide +kernel
theorem dX1_tighten_69 : decode cX1_tighten 69 = .ok (.iload 10, 2) := by decide +kernel
theorem dX1_tighten_71 : decode cX1_tighten 71 = .ok (.aload_n 0, 1) := by decide +kernel
theorem dX1_tighten_72 : decode cX1_tighten 72 = .ok (.getfield 34, 3) := by decide +kernel
theorem dX1_tighten_75 : decode cX1_tighten 75 = .ok (.iload 5, 2) := by decide +kernel
theorem dX1_tighten_77 : decode cX1_tighten 77 = .ok (.iload 7, 2) := by decide +kernel
theorem dX1_tighten_79 : decode cX1_tighten 79 = .ok (.iadd, 1) := by decide +kernel
theorem dX1_tighten_80 : decode cX1_tighten 80 = .ok (.iaload, 1) := by decide +kernel
theorem dX1_tighten_81 : decode cX1_tighten 81 = .ok (.if_icmp .ge 15, 3) := by decide +kernel
theorem dX1_tighten_84 : decode cX1_tighten 84 = .ok (.aload_n 0, 1) := by decide +kernel
theorem dX1_tighten_85 : decode cX1_tighten 85 = .ok (.getfield 34, 3) := by decide +kernel
theorem dX1_tighten_88 : decode cX1_tighten 88 = .ok (.iload 5, 2) := by decide +kernel
theorem dX1_tighten_90 : decode cX1_tighten 90 = .ok (.iload 7, 2) := by decide +kernel
theorem dX1_tighten_92 : decode cX1_tighten 92 = .ok (.iadd, 1) := by decide +kernel
theorem dX1_tighten_93 : decode cX1_tighten 93 = .ok (.iload 10, 2) := by decide +kernel
theorem dX1_tighten_95 : decode cX1_tighten 95 = .ok (.iastore, 1) := by decide +kernel
theorem dX1_tighten_96 : decode cX1_tighten 96 = .ok (.iinc 7 1, 3) := by decide +kernel
theorem dX1_tighten_99 : decode cX1_tighten 99 = .ok (.goto (-83), 3) := by decide +kernel
theorem dX1_tighten_102 : decode cX1_tighten 102 = .ok (.return_, 1) := by decide +kernel
end
section
set_option maxRecDepth 100000
abbrev cX1_earliest : ByteArray := prog_1_method_10_code
def yX1_earliest : MethodName := ⟨RX1, "earliest", "(I)I"⟩
theorem dX1_earliest_0 : decode cX1_earliest 0 = .ok (.aload_n 0, 1) := by decide +kernel
theorem dX1_earliest_1 : decode cX1_earliest 1 = .ok (.iload_n 1, 1) := by decide +kernel
theorem dX1_earliest_2 : decode cX1_earliest 2 = .ok (.invokevirtual 61, 3) := by decide +kernel
theorem dX1_earliest_5 : decode cX1_earliest 5 = .ok (.ifCond .ne 5, 3) := by decide +kernel
theorem dX1_earliest_8 : decode cX1_earliest 8 = .ok (.iconst (-1), 1) := by decide +kernel
theorem dX1_earliest_9 : decode cX1_earliest 9 = .ok (.ireturn, 1) := by decide +kernel
theorem dX1_earliest_10 : decode cX1_earliest 10 = .ok (.aload_n 0, 1) := by decide +kernel
theorem dX1_earliest_11 : decode cX1_earliest 11 = .ok (.invokevirtual 67, 3) := by decide +kernel
theorem dX1_earliest_14 : decode cX1_earliest 14 = .ok (.aload_n 0, 1) := by decide +kernel
theorem dX1_earliest_15 : decode cX1_earliest 15 = .ok (.aload_n 0, 1) := by decide +kernel
theorem dX1_earliest_16 : decode cX1_earliest 16 = .ok (.getfield 40, 3) := by decide +kernel
theorem dX1_earliest_19 : decode cX1_earliest 19 = .ok (.iload_n 1, 1) := by decide +kernel
theorem dX1_earliest_20 : decode cX1_earliest 20 = .ok (.invokevirtual 74, 3) := by decide +kernel
theorem dX1_earliest_23 : decode cX1_earliest 23 = .ok (.istore_n 2, 1) := by decide +kernel
theorem dX1_earliest_24 : decode cX1_earliest 24 = .ok (.iload_n 2, 1) := by decide +kernel
theorem dX1_earliest_25 : decode cX1_earliest 25 = .ok (.ifCond .eq 11, 3) := by decide +kernel
theorem dX1_earliest_28 : decode cX1_earliest 28 = .ok (.aload_n 0, 1) := by decide +kernel
theorem dX1_earliest_29 : decode cX1_earliest 29 = .ok (.getfield 78, 3) := by decide +kernel
theorem dX1_earliest_32 : decode cX1_earliest 32 = .ok (.ineg, 1) := by decide +kernel
theorem dX1_earliest_33 : decode cX1_earliest 33 = .ok (.goto 5, 3) := by decide +kernel
theorem dX1_earliest_36 : decode cX1_earliest 36 = .ok (.bipush (-2), 2) := by decide +kernel
theorem dX1_earliest_38 : decode cX1_earliest 38 = .ok (.ireturn, 1) := by decide +kernel
abbrev cX1_latest : ByteArray := prog_1_method_11_code
def yX1_latest : MethodName := ⟨RX1, "latest", "(I)I"⟩
theorem dX1_latest_0 : decode cX1_latest 0 = .ok (.aload_n 0, 1) := by decide +kernel
theorem dX1_latest_1 : decode cX1_latest 1 = .ok (.iload_n 1, 1) := by decide +kernel
theorem dX1_latest_2 : decode cX1_latest 2 = .ok (.invokevirtual 61, 3) := by decide +kernel
theorem dX1_latest_5 : decode cX1_latest 5 = .ok (.ifCond .ne 5, 3) := by decide +kernel
theorem dX1_latest_8 : decode cX1_latest 8 = .ok (.iconst (-1), 1) := by decide +kernel
theorem dX1_latest_9 : decode cX1_latest 9 = .ok (.ireturn, 1) := by decide +kernel
theorem dX1_latest_10 : decode cX1_latest 10 = .ok (.aload_n 0, 1) := by decide +kernel
theorem dX1_latest_11 : decode cX1_latest 11 = .ok (.invokevirtual 67, 3) := by decide +kernel
theorem dX1_latest_14 : decode cX1_latest 14 = .ok (.aload_n 0, 1) := by decide +kernel
theorem dX1_latest_15 : decode cX1_latest 15 = .ok (.iload_n 1, 1) := by decide +kernel
theorem dX1_latest_16 : decode cX1_latest 16 = .ok (.aload_n 0, 1) := by decide +kernel
theorem dX1_latest_17 : decode cX1_latest 17 = .ok (.getfield 40, 3) := by decide +kernel
theorem dX1_latest_20 : decode cX1_latest 20 = .ok (.invokevirtual 74, 3) := by decide +kernel
theorem dX1_latest_23 : decode cX1_latest 23 = .ok (.istore_n 2, 1) := by decide +kernel
theorem dX1_latest_24 : decode cX1_latest 24 = .ok (.iload_n 2, 1) := by decide +kernel
theorem dX1_latest_25 : decode cX1_latest 25 = .ok (.ifCond .eq 10, 3) := by decide +kernel
theorem dX1_latest_28 : decode cX1_latest 28 = .ok (.aload_n 0, 1) := by decide +kernel
theorem dX1_latest_29 : decode cX1_latest 29 = .ok (.getfield 78, 3) := by decide +kernel
theorem dX1_latest_32 : decode cX1_latest 32 = .ok (.goto 5, 3) := by decide +kernel
theorem dX1_latest_35 : decode cX1_latest 35 = .ok (.bipush (-2), 2) := by decide +kernel
theorem dX1_latest_37 : decode cX1_latest 37 = .ok (.ireturn, 1) := by decide +kernel
abbrev cX1_widest : ByteArray := prog_1_method_12_code
def yX1_widest : MethodName := ⟨RX1, "widest", "(II)I"⟩
theorem dX1_widest_0 : decode cX1_widest 0 = .ok (.aload_n 0, 1) := by decide +kernel
theorem dX1_widest_1 : decode cX1_widest 1 = .ok (.iload_n 1, 1) := by decide +kernel
theorem dX1_widest_2 : decode cX1_widest 2 = .ok (.invokevirtual 47, 3) := by decide +kernel
theorem dX1_widest_5 : decode cX1_widest 5 = .ok (.ifCond .eq 11, 3) := by decide +kernel
theorem dX1_widest_8 : decode cX1_widest 8 = .ok (.aload_n 0, 1) := by decide +kernel
theorem dX1_widest_9 : decode cX1_widest 9 = .ok (.iload_n 2, 1) := by decide +kernel
theorem dX1_widest_10 : decode cX1_widest 10 = .ok (.invokevirtual 47, 3) := by decide +kernel
theorem dX1_widest_13 : decode cX1_widest 13 = .ok (.ifCond .ne 6, 3) := by decide +kernel
theorem dX1_widest_16 : decode cX1_widest 16 = .ok (.bipush (-100), 2) := by decide +kernel
theorem dX1_widest_18 : decode cX1_widest 18 = .ok (.ireturn, 1) := by decide +kernel
theorem dX1_widest_19 : decode cX1_widest 19 = .ok (.aload_n 0, 1) := by decide +kernel
theorem dX1_widest_20 : decode cX1_widest 20 = .ok (.invokevirtual 67, 3) := by decide +kernel
theorem dX1_widest_23 : decode cX1_widest 23 = .ok (.aload_n 0, 1) := by decide +kernel
theorem dX1_widest_24 : decode cX1_widest 24 = .ok (.iload_n 1, 1) := by decide +kernel
theorem dX1_widest_25 : decode cX1_widest 25 = .ok (.iload_n 2, 1) := by decide +kernel
theorem dX1_widest_26 : decode cX1_widest 26 = .ok (.invokevirtual 74, 3) := by decide +kernel
theorem dX1_widest_29 : decode cX1_widest 29 = .ok (.istore_n 3, 1) := by decide +kernel
theorem dX1_widest_30 : decode cX1_widest 30 = .ok (.iload_n 3, 1) := by decide +kernel
theorem dX1_widest_31 : decode cX1_widest 31 = .ok (.ifCond .eq 10, 3) := by decide +kernel
theorem dX1_widest_34 : decode cX1_widest 34 = .ok (.aload_n 0, 1) := by decide +kernel
theorem dX1_widest_35 : decode cX1_widest 35 = .ok (.getfield 78, 3) := by decide +kernel
theorem dX1_widest_38 : decode cX1_widest 38 = .ok (.goto 6, 3) := by decide +kernel
theorem dX1_widest_41 : decode cX1_widest 41 = .ok (.sipush (-200), 3) := by decide +kernel
theorem dX1_widest_44 : decode cX1_widest 44 = .ok (.ireturn, 1) := by decide +kernel
abbrev cX1_next : ByteArray := prog_1_method_13_code
def yX1_next : MethodName := ⟨RX1, "next", "(I)I"⟩
theorem dX1_next_0 : decode cX1_next 0 = .ok (.iconst 1, 1) := by decide +kernel
theorem dX1_next_1 : decode cX1_next 1 = .ok (.iconst 3, 1) := by decide +kernel
theorem dX1_next_2 : decode cX1_next 2 = .ok (.aload_n 0, 1) := by decide +kernel
theorem dX1_next_3 : decode cX1_next 3 = .ok (.getfield 40, 3) := by decide +kernel
theorem dX1_next_6 : decode cX1_next 6 = .ok (.imul, 1) := by decide +kernel
theorem dX1_next_7 : decode cX1_next 7 = .ok (.ishl, 1) := by decide +kernel
theorem dX1_next_8 : decode cX1_next 8 = .ok (.iconst 1, 1) := by decide +kernel
theorem dX1_next_9 : decode cX1_next 9 = .ok (.isub, 1) := by decide +kernel
theorem dX1_next_10 : decode cX1_next 10 = .ok (.istore_n 2, 1) := by decide +kernel
theorem dX1_next_11 : decode cX1_next 11 = .ok (.iload_n 1, 1) := by decide +kernel
theorem dX1_next_12 : decode cX1_next 12 = .ok (.iload_n 2, 1) := by decide +kernel
theorem dX1_next_13 : decode cX1_next 13 = .ok (.if_icmp .lt 5, 3) := by decide +kernel
theorem dX1_next_16 : decode cX1_next 16 = .ok (.iconst (-1), 1) := by decide +kernel
theorem dX1_next_17 : decode cX1_next 17 = .ok (.ireturn, 1) := by decide +kernel
theorem dX1_next_18 : decode cX1_next 18 = .ok (.iload_n 1, 1) := by decide +kernel
theorem dX1_next_19 : decode cX1_next 19 = .ok (.ifCond .ge 11, 3) := by decide +kernel
theorem dX1_next_22 : decode cX1_next 22 = .ok (.aload_n 0, 1) := by decide +kernel
theorem dX1_next_23 : decode cX1_next 23 = .ok (.iconst 0, 1) := by decide +kernel
theorem dX1_next_24 : decode cX1_next 24 = .ok (.iconst 0, 1) := by decide +kernel
theorem dX1_next_25 : decode cX1_next 25 = .ok (.iconst 0, 1) := by decide +kernel
theorem dX1_next_26 : decode cX1_next 26 = .ok (.invokevirtual 81, 3) := by decide +kernel
theorem dX1_next_29 : decode cX1_next 29 = .ok (.ireturn, 1) := by decide +kernel
theorem dX1_next_30 : decode cX1_next 30 = .ok (.aload_n 0, 1) := by decide +kernel
theorem dX1_next_31 : decode cX1_next 31 = .ok (.getfield 40, 3) := by decide +kernel
theorem dX1_next_34 : decode cX1_next 34 = .ok (.iconst 1, 1) := by decide +kernel
theorem dX1_next_35 : decode cX1_next 35 = .ok (.isub, 1) := by decide +kernel
theorem dX1_next_36 : decode cX1_next 36 = .ok (.istore_n 3, 1) := by decide +kernel
theorem dX1_next_37 : decode cX1_next 37 = .ok (.iload_n 3, 1) := by decide +kernel
theorem dX1_next_38 : decode cX1_next 38 = .ok (.ifCond .lt 66, 3) := by decide +kernel
theorem dX1_next_41 : decode cX1_next 41 = .ok (.iconst 3, 1) := by decide +kernel
theorem dX1_next_42 : decode cX1_next 42 = .ok (.aload_n 0, 1) := by decide +kernel
theorem dX1_next_43 : decode cX1_next 43 = .ok (.getfield 40, 3) := by decide +kernel
theorem dX1_next_46 : decode cX1_next 46 = .ok (.iconst 1, 1) := by decide +kernel
theorem dX1_next_47 : decode cX1_next 47 = .ok (.isub, 1) := by decide +kernel
theorem dX1_next_48 : decode cX1_next 48 = .ok (.iload_n 3, 1) := by decide +kernel
theorem dX1_next_49 : decode cX1_next 49 = .ok (.isub, 1) := by decide +kernel
theorem dX1_next_50 : decode cX1_next 50 = .ok (.imul, 1) := by decide +kernel
theorem dX1_next_51 : decode cX1_next 51 = .ok (.istore 4, 2) := by decide +kernel
theorem dX1_next_53 : decode cX1_next 53 = .ok (.iload_n 1, 1) := by decide +kernel
theorem dX1_next_54 : decode cX1_next 54 = .ok (.iload 4, 2) := by decide +kernel
theorem dX1_next_56 : decode cX1_next 56 = .ok (.ishr, 1) := by decide +kernel
theorem dX1_next_57 : decode cX1_next 57 = .ok (.bipush 7, 2) := by decide +kernel
theorem dX1_next_59 : decode cX1_next 59 = .ok (.iand, 1) := by decide +kernel
theorem dX1_next_60 : decode cX1_next 60 = .ok (.istore 5, 2) := by decide +kernel
theorem dX1_next_62 : decode cX1_next 62 = .ok (.iload 5, 2) := by decide +kernel
theorem dX1_next_64 : decode cX1_next 64 = .ok (.bipush 7, 2) := by decide +kernel
theorem dX1_next_66 : decode cX1_next 66 = .ok (.if_icmp .ge 32, 3) := by decide +kernel
theorem dX1_next_69 : decode cX1_next 69 = .ok (.iload_n 1, 1) := by decide +kernel
theorem dX1_next_70 : decode cX1_next 70 = .ok (.iload 4, 2) := by decide +kernel
theorem dX1_next_72 : decode cX1_next 72 = .ok (.iconst 3, 1) := by decide +kernel
theorem dX1_next_73 : decode cX1_next 73 = .ok (.iadd, 1) := by decide +kernel
theorem dX1_next_74 : decode cX1_next 74 = .ok (.ishr, 1) := by decide +kernel
theorem dX1_next_75 : decode cX1_next 75 = .ok (.istore 6, 2) := by decide +kernel
theorem dX1_next_77 : decode cX1_next 77 = .ok (.aload_n 0, 1) := by decide +kernel
theorem dX1_next_78 : decode cX1_next 78 = .ok (.iload 6, 2) := by decide +kernel
theorem dX1_next_80 : decode cX1_next 80 = .ok (.iload_n 3, 1) := by decide +kernel
theorem dX1_next_81 : decode cX1_next 81 = .ok (.iload 5, 2) := by decide +kernel
theorem dX1_next_83 : decode cX1_next 83 = .ok (.iconst 1, 1) := by decide +kernel
theorem dX1_next_84 : decode cX1_next 84 = .ok (.iadd, 1) := by decide +kernel
theorem dX1_next_85 : decode cX1_next 85 = .ok (.invokevirtual 81, 3) := by decide +kernel
theorem dX1_next_88 : decode cX1_next 88 = .ok (.istore 7, 2) := by decide +kernel
theorem dX1_next_90 : decode cX1_next 90 = .ok (.iload 7, 2) := by decide +kernel
theorem dX1_next_92 : decode cX1_next 92 = .ok (.ifCond .lt 6, 3) := by decide +kernel
theorem dX1_next_95 : decode cX1_next 95 = .ok (.iload 7, 2) := by decide +kernel
theorem dX1_next_97 : decode cX1_next 97 = .ok (.ireturn, 1) := by decide +kernel
theorem dX1_next_98 : decode cX1_next 98 = .ok (.iinc 3 (-1), 3) := by decide +kernel
theorem dX1_next_101 : decode cX1_next 101 = .ok (.goto (-64), 3) := by decide +kernel
theorem dX1_next_104 : decode cX1_next 104 = .ok (.iconst (-1), 1) := by decide +kernel
theorem dX1_next_105 : decode cX1_next 105 = .ok (.ireturn, 1) := by decide +kernel
abbrev cX1_firstFrom : ByteArray := prog_1_method_31_code
def yX1_firstFrom : MethodName := ⟨RX1, "firstFrom", "(III)I"⟩
theorem dX1_firstFrom_0 : decode cX1_firstFrom 0 = .ok (.aload_n 0, 1) := by decide +kernel
theorem dX1_firstFrom_1 : decode cX1_firstFrom 1 = .ok (.invokevirtual 67, 3) := by decide +kernel
theorem dX1_firstFrom_4 : decode cX1_firstFrom 4 = .ok (.iconst 0, 1) := by decide +kernel
theorem dX1_firstFrom_5 : decode cX1_firstFrom 5 = .ok (.istore 4, 2) := by decide +kernel
theorem dX1_firstFrom_7 : decode cX1_firstFrom 7 = .ok (.iload 4, 2) := by decide +kernel
theorem dX1_firstFrom_9 : decode cX1_firstFrom 9 = .ok (.iload_n 2, 1) := by decide +kernel
theorem dX1_firstFrom_10 : decode cX1_firstFrom 10 = .ok (.if_icmp .ge 49, 3) := by decide +kernel
theorem dX1_firstFrom_13 : decode cX1_firstFrom 13 = .ok (.iload_n 1, 1) := by decide +kernel
theorem dX1_firstFrom_14 : decode cX1_firstFrom 14 = .ok (.iconst 3, 1) := by decide +kernel
theorem dX1_firstFrom_15 : decode cX1_firstFrom 15 = .ok (.iload_n 2, 1) := by decide +kernel
theorem dX1_firstFrom_16 : decode cX1_firstFrom 16 = .ok (.iconst 1, 1) := by decide +kernel
theorem dX1_firstFrom_17 : decode cX1_firstFrom 17 = .ok (.isub, 1) := by decide +kernel
theorem dX1_firstFrom_18 : decode cX1_firstFrom 18 = .ok (.iload 4, 2) := by decide +kernel
theorem dX1_firstFrom_20 : decode cX1_firstFrom 20 = .ok (.isub, 1) := by decide +kernel
theorem dX1_firstFrom_21 : decode cX1_firstFrom 21 = .ok (.imul, 1) := by decide +kernel
theorem dX1_firstFrom_22 : decode cX1_firstFrom 22 = .ok (.ishr, 1) := by decide +kernel
theorem dX1_firstFrom_23 : decode cX1_firstFrom 23 = .ok (.bipush 7, 2) := by decide +kernel
theorem dX1_firstFrom_25 : decode cX1_firstFrom 25 = .ok (.iand, 1) := by decide +kernel
theorem dX1_firstFrom_26 : decode cX1_firstFrom 26 = .ok (.istore 5, 2) := by decide +kernel
theorem dX1_firstFrom_28 : decode cX1_firstFrom 28 = .ok (.aload_n 0, 1) := by decide +kernel
theorem dX1_firstFrom_29 : decode cX1_firstFrom 29 = .ok (.iload 4, 2) := by decide +kernel
theorem dX1_firstFrom_31 : decode cX1_firstFrom 31 = .ok (.aload_n 0, 1) := by decide +kernel
theorem dX1_firstFrom_32 : decode cX1_firstFrom 32 = .ok (.getfield 40, 3) := by decide +kernel
theorem dX1_firstFrom_35 : decode cX1_firstFrom 35 = .ok (.iload 5, 2) := by decide +kernel
theorem dX1_firstFrom_37 : decode cX1_firstFrom 37 = .ok (.invokevirtual 89, 3) := by decide +kernel
theorem dX1_firstFrom_40 : decode cX1_firstFrom 40 = .ok (.aload_n 0, 1) := by decide +kernel
theorem dX1_firstFrom_41 : decode cX1_firstFrom 41 = .ok (.aload_n 0, 1) := by decide +kernel
theorem dX1_firstFrom_42 : decode cX1_firstFrom 42 = .ok (.getfield 40, 3) := by decide +kernel
theorem dX1_firstFrom_45 : decode cX1_firstFrom 45 = .ok (.iload 4, 2) := by decide +kernel
theorem dX1_firstFrom_47 : decode cX1_firstFrom 47 = .ok (.iload 5, 2) := by decide +kernel
theorem dX1_firstFrom_49 : decode cX1_firstFrom 49 = .ok (.ineg, 1) := by decide +kernel
theorem dX1_firstFrom_50 : decode cX1_firstFrom 50 = .ok (.invokevirtual 89, 3) := by decide +kernel
theorem dX1_firstFrom_53 : decode cX1_firstFrom 53 = .ok (.iinc 4 1, 3) := by decide +kernel
theorem dX1_firstFrom_56 : decode cX1_firstFrom 56 = .ok (.goto (-49), 3) := by decide +kernel
theorem dX1_firstFrom_59 : decode cX1_firstFrom 59 = .ok (.aload_n 0, 1) := by decide +kernel
theorem dX1_firstFrom_60 : decode cX1_firstFrom 60 = .ok (.aload_n 0, 1) := by decide +kernel
theorem dX1_firstFrom_61 : decode cX1_firstFrom 61 = .ok (.getfield 40, 3) := by decide +kernel
theorem dX1_firstFrom_64 : decode cX1_firstFrom 64 = .ok (.iload_n 2, 1) := by decide +kernel
theorem dX1_firstFrom_65 : decode cX1_firstFrom 65 = .ok (.iload_n 3, 1) := by decide +kernel
theorem dX1_firstFrom_66 : decode cX1_firstFrom 66 = .ok (.ineg, 1) := by decide +kernel
theorem dX1_firstFrom_67 : decode cX1_firstFrom 67 = .ok (.invokevirtual 89, 3) := by decide +kernel
theorem dX1_firstFrom_70 : decode cX1_firstFrom 70 = .ok (.iload_n 1, 1) := by decide +kernel
theorem dX1_firstFrom_71 : decode cX1_firstFrom 71 = .ok (.istore 4, 2) := by decide +kernel
theorem dX1_firstFrom_73 : decode cX1_firstFrom 73 = .ok (.iload_n 2, 1) := by decide +kernel
theorem dX1_firstFrom_74 : decode cX1_firstFrom 74 = .ok (.istore 5, 2) := by decide +kernel
theorem dX1_firstFrom_76 : decode cX1_firstFrom 76 = .ok (.iload 5, 2) := by decide +kernel
theorem dX1_firstFrom_78 : decode cX1_firstFrom 78 = .ok (.aload_n 0, 1) := by decide +kernel
theorem dX1_firstFrom_79 : decode cX1_firstFrom 79 = .ok (.getfield 40, 3) := by decide +kernel
theorem dX1_firstFrom_82 : decode cX1_firstFrom 82 = .ok (.if_icmp .ge 57, 3) := by decide +kernel
theorem dX1_firstFrom_85 : decode cX1_firstFrom 85 = .ok (.aload_n 0, 1) := by decide +kernel
theorem dX1_firstFrom_86 : decode cX1_firstFrom 86 = .ok (.aload_n 0, 1) := by decide +kernel
theorem dX1_firstFrom_87 : decode cX1_firstFrom 87 = .ok (.getfield 40, 3) := by decide +kernel
theorem dX1_firstFrom_90 : decode cX1_firstFrom 90 = .ok (.iload 5, 2) := by decide +kernel
theorem dX1_firstFrom_92 : decode cX1_firstFrom 92 = .ok (.invokevirtual 74, 3) := by decide +kernel
theorem dX1_firstFrom_95 : decode cX1_firstFrom 95 = .ok (.istore 6, 2) := by decide +kernel
theorem dX1_firstFrom_97 : decode cX1_firstFrom 97 = .ok (.iload 6, 2) := by decide +kernel
theorem dX1_firstFrom_99 : decode cX1_firstFrom 99 = .ok (.ifCond .ne 5, 3) := by decide +kernel
theorem dX1_firstFrom_102 : decode cX1_firstFrom 102 = .ok (.iconst (-1), 1) := by decide +kernel
theorem dX1_firstFrom_103 : decode cX1_firstFrom 103 = .ok (.ireturn, 1) := by decide +kernel
theorem dX1_firstFrom_104 : decode cX1_firstFrom 104 = .ok (.aload_n 0, 1) := by decide +kernel
theorem dX1_firstFrom_105 : decode cX1_firstFrom 105 = .ok (.getfield 78, 3) := by decide +kernel
theorem dX1_firstFrom_108 : decode cX1_firstFrom 108 = .ok (.ineg, 1) := by decide +kernel
theorem dX1_firstFrom_109 : decode cX1_firstFrom 109 = .ok (.istore 7, 2) := by decide +kernel
theorem dX1_firstFrom_111 : decode cX1_firstFrom 111 = .ok (.aload_n 0, 1) := by decide +kernel
theorem dX1_firstFrom_112 : decode cX1_firstFrom 112 = .ok (.iload 5, 2) := by decide +kernel
theorem dX1_firstFrom_114 : decode cX1_firstFrom 114 = .ok (.aload_n 0, 1) := by decide +kernel
theorem dX1_firstFrom_115 : decode cX1_firstFrom 115 = .ok (.getfield 40, 3) := by decide +kernel
theorem dX1_firstFrom_118 : decode cX1_firstFrom 118 = .ok (.iload 7, 2) := by decide +kernel
theorem dX1_firstFrom_120 : decode cX1_firstFrom 120 = .ok (.invokevirtual 89, 3) := by decide +kernel
theorem dX1_firstFrom_123 : decode cX1_firstFrom 123 = .ok (.bipush 8, 2) := by decide +kernel
theorem dX1_firstFrom_125 : decode cX1_firstFrom 125 = .ok (.iload 4, 2) := by decide +kernel
theorem dX1_firstFrom_127 : decode cX1_firstFrom 127 = .ok (.imul, 1) := by decide +kernel
theorem dX1_firstFrom_128 : decode cX1_firstFrom 128 = .ok (.iload 7, 2) := by decide +kernel
theorem dX1_firstFrom_130 : decode cX1_firstFrom 130 = .ok (.iadd, 1) := by decide +kernel
theorem dX1_firstFrom_131 : decode cX1_firstFrom 131 = .ok (.istore 4, 2) := by decide +kernel
theorem dX1_firstFrom_133 : decode cX1_firstFrom 133 = .ok (.iinc 5 1, 3) := by decide +kernel
theorem dX1_firstFrom_136 : decode cX1_firstFrom 136 = .ok (.goto (-60), 3) := by decide +kernel
theorem dX1_firstFrom_139 : decode cX1_firstFrom 139 = .ok (.iload 4, 2) := by decide +kernel
theorem dX1_firstFrom_141 : decode cX1_firstFrom 141 = .ok (.ireturn, 1) := by decide +kernel
abbrev cX1_tightenStart : ByteArray := prog_1_method_25_code
def yX1_tightenStart : MethodName := ⟨RX1, "tightenStart", "(III)V"⟩
theorem dX1_tightenStart_0 : decode cX1_tightenStart 0 = .ok (.aload_n 0, 1) := by decide +kernel
theorem dX1_tightenStart_1 : decode cX1_tightenStart 1 = .ok (.getfield 92, 3) := by decide +kernel
theorem dX1_tightenStart_4 : decode cX1_tightenStart 4 = .ok (.ifCond .ne 17, 3) := by decide +kernel
theorem dX1_tightenStart_7 : decode cX1_tightenStart 7 = .ok (.iload_n 3, 1) := by decide +kernel
theorem dX1_tightenStart_8 : decode cX1_tightenStart 8 = .ok (.aload_n 0, 1) := by decide +kernel
theorem dX1_tightenStart_9 : decode cX1_tightenStart 9 = .ok (.getfield 31, 3) := by decide +kernel
theorem dX1_tightenStart_12 : decode cX1_tightenStart 12 = .ok (.iconst 5, 1) := by decide +kernel
theorem dX1_tightenStart_13 : decode cX1_tightenStart 13 = .ok (.iload_n 1, 1) := by decide +kernel
theorem dX1_tightenStart_14 : decode cX1_tightenStart 14 = .ok (.imul, 1) := by decide +kernel
theorem dX1_tightenStart_15 : decode cX1_tightenStart 15 = .ok (.iload_n 2, 1) := by decide +kernel
theorem dX1_tightenStart_16 : decode cX1_tightenStart 16 = .ok (.iadd, 1) := by decide +kernel
theorem dX1_tightenStart_17 : decode cX1_tightenStart 17 = .ok (.iaload, 1) := by decide +kernel
theorem dX1_tightenStart_18 : decode cX1_tightenStart 18 = .ok (.if_icmp .lt 4, 3) := by decide +kernel
theorem dX1_tightenStart_21 : decode cX1_tightenStart 21 = .ok (.return_, 1) := by decide +kernel
theorem dX1_tightenStart_22 : decode cX1_tightenStart 22 = .ok (.aload_n 0, 1) := by decide +kernel
theorem dX1_tightenStart_23 : decode cX1_tightenStart 23 = .ok (.getfield 31, 3) := by decide +kernel
theorem dX1_tightenStart_26 : decode cX1_tightenStart 26 = .ok (.iconst 5, 1) := by decide +kernel
theorem dX1_tightenStart_27 : decode cX1_tightenStart 27 = .ok (.iload_n 2, 1) := by decide +kernel
theorem dX1_tightenStart_28 : decode cX1_tightenStart 28 = .ok (.imul, 1) := by decide +kernel
theorem dX1_tightenStart_29 : decode cX1_tightenStart 29 = .ok (.iload_n 1, 1) := by decide +kernel
theorem dX1_tightenStart_30 : decode cX1_tightenStart 30 = .ok (.iadd, 1) := by decide +kernel
theorem dX1_tightenStart_31 : decode cX1_tightenStart 31 = .ok (.iaload, 1) := by decide +kernel
theorem dX1_tightenStart_32 : decode cX1_tightenStart 32 = .ok (.iload_n 3, 1) := by decide +kernel
theorem dX1_tightenStart_33 : decode cX1_tightenStart 33 = .ok (.iadd, 1) := by decide +kernel
theorem dX1_tightenStart_34 : decode cX1_tightenStart 34 = .ok (.ifCond .ge 9, 3) := by decide +kernel
theorem dX1_tightenStart_37 : decode cX1_tightenStart 37 = .ok (.aload_n 0, 1) := by decide +kernel
theorem dX1_tightenStart_38 : decode cX1_tightenStart 38 = .ok (.iconst 1, 1) := by decide +kernel
theorem dX1_tightenStart_39 : decode cX1_tightenStart 39 = .ok (.putfield 92, 3) := by decide +kernel
theorem dX1_tightenStart_42 : decode cX1_tightenStart 42 = .ok (.return_, 1) := by decide +kernel
theorem dX1_tightenStart_43 : decode cX1_tightenStart 43 = .ok (.iconst 0, 1) := by decide +kernel
theorem dX1_tightenStart_44 : decode cX1_tightenStart 44 = .ok (.istore 4, 2) := by decide +kernel
theorem dX1_tightenStart_46 : decode cX1_tightenStart 46 = .ok (.iload 4, 2) := by decide +kernel
theorem dX1_tightenStart_48 : decode cX1_tightenStart 48 = .ok (.bipush 25, 2) := by decide +kernel
theorem dX1_tightenStart_50 : decode cX1_tightenStart 50 = .ok (.if_icmp .ge 79, 3) := by decide +kernel
theorem dX1_tightenStart_53 : decode cX1_tightenStart 53 = .ok (.iload 4, 2) := by decide +kernel
theorem dX1_tightenStart_55 : decode cX1_tightenStart 55 = .ok (.iconst 5, 1) := by decide +kernel
theorem dX1_tightenStart_56 : decode cX1_tightenStart 56 = .ok (.idiv, 1) := by decide +kernel
theorem dX1_tightenStart_57 : decode cX1_tightenStart 57 = .ok (.istore 5, 2) := by decide +kernel
theorem dX1_tightenStart_59 : decode cX1_tightenStart 59 = .ok (.iload 4, 2) := by decide +kernel
theorem dX1_tightenStart_61 : decode cX1_tightenStart 61 = .ok (.iconst 5, 1) := by decide +kernel
theorem dX1_tightenStart_62 : decode cX1_tightenStart 62 = .ok (.irem, 1) := by decide +kernel
theorem dX1_tightenStart_63 : decode cX1_tightenStart 63 = .ok (.istore 6, 2) := by decide +kernel
theorem dX1_tightenStart_65 : decode cX1_tightenStart 65 = .ok (.aload_n 0, 1) := by decide +kernel
theorem dX1_tightenStart_66 : decode cX1_tightenStart 66 = .ok (.getfield 31, 3) := by decide +kernel
theorem dX1_tightenStart_69 : decode cX1_tightenStart 69 = .ok (.iconst 5, 1) := by decide +kernel
theorem dX1_tightenStart_70 : decode cX1_tightenStart 70 = .ok (.iload 5, 2) := by decide +kernel
theorem dX1_tightenStart_72 : decode cX1_tightenStart 72 = .ok (.imul, 1) := by decide +kernel
theorem dX1_tightenStart_73 : decode cX1_tightenStart 73 = .ok (.iload_n 1, 1) := by decide +kernel
theorem dX1_tightenStart_74 : decode cX1_tightenStart 74 = .ok (.iadd, 1) := by decide +kernel
theorem dX1_tightenStart_75 : decode cX1_tightenStart 75 = .ok (.iaload, 1) := by decide +kernel
theorem dX1_tightenStart_76 : decode cX1_tightenStart 76 = .ok (.iload_n 3, 1) := by decide +kernel
theorem dX1_tightenStart_77 : decode cX1_tightenStart 77 = .ok (.iadd, 1) := by decide +kernel
theorem dX1_tightenStart_78 : decode cX1_tightenStart 78 = .ok (.aload_n 0, 1) := by decide +kernel
theorem dX1_tightenStart_79 : decode cX1_tightenStart 79 = .ok (.getfield 31, 3) := by decide +kernel
theorem dX1_tightenStart_82 : decode cX1_tightenStart 82 = .ok (.iconst 5, 1) := by decide +kernel
theorem dX1_tightenStart_83 : decode cX1_tightenStart 83 = .ok (.iload_n 2, 1) := by decide +kernel
theorem dX1_tightenStart_84 : decode cX1_tightenStart 84 = .ok (.imul, 1) := by decide +kernel
theorem dX1_tightenStart_85 : decode cX1_tightenStart 85 = .ok (.iload 6, 2) := by decide +kernel
theorem dX1_tightenStart_87 : decode cX1_tightenStart 87 = .ok (.iadd, 1) := by decide +kernel
theorem dX1_tightenStart_88 : decode cX1_tightenStart 88 = .ok (.iaload, 1) := by decide +kernel
theorem dX1_tightenStart_89 : decode cX1_tightenStart 89 = .ok (.iadd, 1) := by decide +kernel
theorem dX1_tightenStart_90 : decode cX1_tightenStart 90 = .ok (.istore 7, 2) := by decide +kernel
theorem dX1_tightenStart_92 : decode cX1_tightenStart 92 = .ok (.aload_n 0, 1) := by decide +kernel
theorem dX1_tightenStart_93 : decode cX1_tightenStart 93 = .ok (.getfield 31, 3) := by decide +kernel
theorem dX1_tightenStart_96 : decode cX1_tightenStart 96 = .ok (.iload 4, 2) := by decide +kernel
theorem dX1_tightenStart_98 : decode cX1_tightenStart 98 = .ok (.iload 7, 2) := by decide +kernel
theorem dX1_tightenStart_100 : decode cX1_tightenStart 100 = .ok (.aload_n 0, 1) := by decide +kernel
theorem dX1_tightenStart_101 : decode cX1_tightenStart 101 = .ok (.getfield 31, 3) := by decide +kernel
theorem dX1_tightenStart_104 : decode cX1_tightenStart 104 = .ok (.iload 4, 2) := by decide +kernel
theorem dX1_tightenStart_106 : decode cX1_tightenStart 106 = .ok (.iaload, 1) := by decide +kernel
theorem dX1_tightenStart_107 : decode cX1_tightenStart 107 = .ok (.if_icmp .ge 8, 3) := by decide +kernel
theorem dX1_tightenStart_110 : decode cX1_tightenStart 110 = .ok (.iload 7, 2) := by decide +kernel
theorem dX1_tightenStart_112 : decode cX1_tightenStart 112 = .ok (.goto 10, 3) := by decide +kernel
theorem dX1_tightenStart_115 : decode cX1_tightenStart 115 = .ok (.aload_n 0, 1) := by decide +kernel
theorem dX1_tightenStart_116 : decode cX1_tightenStart 116 = .ok (.getfield 31, 3) := by decide +kernel
theorem dX1_tightenStart_119 : decode cX1_tightenStart 119 = .ok (.iload 4, 2) := by decide +kernel
theorem dX1_tightenStart_121 : decode cX1_tightenStart 121 = .ok (.iaload, 1) := by decide +kernel
theorem dX1_tightenStart_122 : decode cX1_tightenStart 122 = .ok (.iastore, 1) := by decide +kernel
theorem dX1_tightenStart_123 : decode cX1_tightenStart 123 = .ok (.iinc 4 1, 3) := by decide +kernel
theorem dX1_tightenStart_126 : decode cX1_tightenStart 126 = .ok (.goto (-80), 3) := by decide +kernel
theorem dX1_tightenStart_129 : decode cX1_tightenStart 129 = .ok (.return_, 1) := by decide +kernel
abbrev cX1_meets : ByteArray := prog_1_method_14_code
def yX1_meets : MethodName := ⟨RX1, "meets", "(I)I"⟩
theorem dX1_meets_0 : decode cX1_meets 0 = .ok (.iload_n 1, 1) := by decide +kernel
theorem dX1_meets_1 : decode cX1_meets 1 = .ok (.ifCond .lt 15, 3) := by decide +kernel
theorem dX1_meets_4 : decode cX1_meets 4 = .ok (.iload_n 1, 1) := by decide +kernel
theorem dX1_meets_5 : decode cX1_meets 5 = .ok (.iconst 1, 1) := by decide +kernel
theorem dX1_meets_6 : decode cX1_meets 6 = .ok (.iconst 3, 1) := by decide +kernel
theorem dX1_meets_7 : decode cX1_meets 7 = .ok (.aload_n 0, 1) := by decide +kernel
theorem dX1_meets_8 : decode cX1_meets 8 = .ok (.getfield 40, 3) := by decide +kernel
theorem dX1_meets_11 : decode cX1_meets 11 = .ok (.imul, 1) := by decide +kernel
theorem dX1_meets_12 : decode cX1_meets 12 = .ok (.ishl, 1) := by decide +kernel
theorem dX1_meets_13 : decode cX1_meets 13 = .ok (.if_icmp .lt 5, 3) := by decide +kernel
theorem dX1_meets_16 : decode cX1_meets 16 = .ok (.iconst (-1), 1) := by decide +kernel
theorem dX1_meets_17 : decode cX1_meets 17 = .ok (.ireturn, 1) := by decide +kernel
theorem dX1_meets_18 : decode cX1_meets 18 = .ok (.iconst 0, 1) := by decide +kernel
theorem dX1_meets_19 : decode cX1_meets 19 = .ok (.istore_n 2, 1) := by decide +kernel
theorem dX1_meets_20 : decode cX1_meets 20 = .ok (.iload_n 2, 1) := by decide +kernel
theorem dX1_meets_21 : decode cX1_meets 21 = .ok (.aload_n 0, 1) := by decide +kernel
theorem dX1_meets_22 : decode cX1_meets 22 = .ok (.getfield 54, 3) := by decide +kernel
theorem dX1_meets_25 : decode cX1_meets 25 = .ok (.if_icmp .ge 88, 3) := by decide +kernel
theorem dX1_meets_28 : decode cX1_meets 28 = .ok (.iconst 0, 1) := by decide +kernel
theorem dX1_meets_29 : decode cX1_meets 29 = .ok (.istore_n 3, 1) := by decide +kernel
theorem dX1_meets_30 : decode cX1_meets 30 = .ok (.iconst 3, 1) := by decide +kernel
theorem dX1_meets_31 : decode cX1_meets 31 = .ok (.iload_n 2, 1) := by decide +kernel
theorem dX1_meets_32 : decode cX1_meets 32 = .ok (.imul, 1) := by decide +kernel
theorem dX1_meets_33 : decode cX1_meets 33 = .ok (.istore 4, 2) := by decide +kernel
theorem dX1_meets_35 : decode cX1_meets 35 = .ok (.iload 4, 2) := by decide +kernel
theorem dX1_meets_37 : decode cX1_meets 37 = .ok (.iconst 3, 1) := by decide +kernel
theorem dX1_meets_38 : decode cX1_meets 38 = .ok (.iload_n 2, 1) := by decide +kernel
theorem dX1_meets_39 : decode cX1_meets 39 = .ok (.imul, 1) := by decide +kernel
theorem dX1_meets_40 : decode cX1_meets 40 = .ok (.aload_n 0, 1) := by decide +kernel
theorem dX1_meets_41 : decode cX1_meets 41 = .ok (.getfield 19, 3) := by decide +kernel
theorem dX1_meets_44 : decode cX1_meets 44 = .ok (.iload_n 2, 1) := by decide +kernel
theorem dX1_meets_45 : decode cX1_meets 45 = .ok (.iaload, 1) := by decide +kernel
theorem dX1_meets_46 : decode cX1_meets 46 = .ok (.iadd, 1) := by decide +kernel
theorem dX1_meets_47 : decode cX1_meets 47 = .ok (.if_icmp .ge 54, 3) := by decide +kernel
theorem dX1_meets_50 : decode cX1_meets 50 = .ok (.iload_n 3, 1) := by decide +kernel
theorem dX1_meets_51 : decode cX1_meets 51 = .ok (.ifCond .ne 38, 3) := by decide +kernel
theorem dX1_meets_54 : decode cX1_meets 54 = .ok (.aload_n 0, 1) := by decide +kernel
theorem dX1_meets_55 : decode cX1_meets 55 = .ok (.iload_n 1, 1) := by decide +kernel
theorem dX1_meets_56 : decode cX1_meets 56 = .ok (.aload_n 0, 1) := by decide +kernel
theorem dX1_meets_57 : decode cX1_meets 57 = .ok (.getfield 7, 3) := by decide +kernel
theorem dX1_meets_60 : decode cX1_meets 60 = .ok (.iload 4, 2) := by decide +kernel
theorem dX1_meets_62 : decode cX1_meets 62 = .ok (.iaload, 1) := by decide +kernel
theorem dX1_meets_63 : decode cX1_meets 63 = .ok (.invokevirtual 85, 3) := by decide +kernel
theorem dX1_meets_66 : decode cX1_meets 66 = .ok (.aload_n 0, 1) := by decide +kernel
theorem dX1_meets_67 : decode cX1_meets 67 = .ok (.iload_n 1, 1) := by decide +kernel
theorem dX1_meets_68 : decode cX1_meets 68 = .ok (.aload_n 0, 1) := by decide +kernel
theorem dX1_meets_69 : decode cX1_meets 69 = .ok (.getfield 13, 3) := by decide +kernel
theorem dX1_meets_72 : decode cX1_meets 72 = .ok (.iload 4, 2) := by decide +kernel
theorem dX1_meets_74 : decode cX1_meets 74 = .ok (.iaload, 1) := by decide +kernel
theorem dX1_meets_75 : decode cX1_meets 75 = .ok (.invokevirtual 85, 3) := by decide +kernel
theorem dX1_meets_78 : decode cX1_meets 78 = .ok (.isub, 1) := by decide +kernel
theorem dX1_meets_79 : decode cX1_meets 79 = .ok (.aload_n 0, 1) := by decide +kernel
theorem dX1_meets_80 : decode cX1_meets 80 = .ok (.getfield 16, 3) := by decide +kernel
theorem dX1_meets_83 : decode cX1_meets 83 = .ok (.iload 4, 2) := by decide +kernel
theorem dX1_meets_85 : decode cX1_meets 85 = .ok (.iaload, 1) := by decide +kernel
theorem dX1_meets_86 : decode cX1_meets 86 = .ok (.if_icmp .gt 7, 3) := by decide +kernel
theorem dX1_meets_89 : decode cX1_meets 89 = .ok (.iconst 1, 1) := by decide +kernel
theorem dX1_meets_90 : decode cX1_meets 90 = .ok (.goto 4, 3) := by decide +kernel
theorem dX1_meets_93 : decode cX1_meets 93 = .ok (.iconst 0, 1) := by decide +kernel
theorem dX1_meets_94 : decode cX1_meets 94 = .ok (.istore_n 3, 1) := by decide +kernel
theorem dX1_meets_95 : decode cX1_meets 95 = .ok (.iinc 4 1, 3) := by decide +kernel
theorem dX1_meets_98 : decode cX1_meets 98 = .ok (.goto (-63), 3) := by decide +kernel
theorem dX1_meets_101 : decode cX1_meets 101 = .ok (.iload_n 3, 1) := by decide +kernel
theorem dX1_meets_102 : decode cX1_meets 102 = .ok (.ifCond .ne 5, 3) := by decide +kernel
theorem dX1_meets_105 : decode cX1_meets 105 = .ok (.iconst 0, 1) := by decide +kernel
theorem dX1_meets_106 : decode cX1_meets 106 = .ok (.ireturn, 1) := by decide +kernel
theorem dX1_meets_107 : decode cX1_meets 107 = .ok (.iinc 2 1, 3) := by decide +kernel
theorem dX1_meets_110 : decode cX1_meets 110 = .ok (.goto (-90), 3) := by decide +kernel
theorem dX1_meets_113 : decode cX1_meets 113 = .ok (.iconst 1, 1) := by decide +kernel
theorem dX1_meets_114 : decode cX1_meets 114 = .ok (.ireturn, 1) := by decide +kernel
end
section
set_option maxRecDepth 100000
abbrev cX1_timeIn : ByteArray := prog_1_method_23_code
def yX1_timeIn : MethodName := ⟨RX1, "timeIn", "(II)I"⟩
theorem dX1_timeIn_0 : decode cX1_timeIn 0 = .ok (.iload_n 2, 1) := by decide +kernel
theorem dX1_timeIn_1 : decode cX1_timeIn 1 = .ok (.aload_n 0, 1) := by decide +kernel
theorem dX1_timeIn_2 : decode cX1_timeIn 2 = .ok (.getfield 40, 3) := by decide +kernel
theorem dX1_timeIn_5 : decode cX1_timeIn 5 = .ok (.if_icmp .ne 7, 3) := by decide +kernel
theorem dX1_timeIn_8 : decode cX1_timeIn 8 = .ok (.iconst 0, 1) := by decide +kernel
theorem dX1_timeIn_9 : decode cX1_timeIn 9 = .ok (.goto 18, 3) := by decide +kernel
theorem dX1_timeIn_12 : decode cX1_timeIn 12 = .ok (.iload_n 1, 1) := by decide +kernel
theorem dX1_timeIn_13 : decode cX1_timeIn 13 = .ok (.iconst 3, 1) := by decide +kernel
theorem dX1_timeIn_14 : decode cX1_timeIn 14 = .ok (.aload_n 0, 1) := by decide +kernel
theorem dX1_timeIn_15 : decode cX1_timeIn 15 = .ok (.getfield 40, 3) := by decide +kernel
theorem dX1_timeIn_18 : decode cX1_timeIn 18 = .ok (.iconst 1, 1) := by decide +kernel
theorem dX1_timeIn_19 : decode cX1_timeIn 19 = .ok (.isub, 1) := by decide +kernel
theorem dX1_timeIn_20 : decode cX1_timeIn 20 = .ok (.iload_n 2, 1) := by decide +kernel
theorem dX1_timeIn_21 : decode cX1_timeIn 21 = .ok (.isub, 1) := by decide +kernel
theorem dX1_timeIn_22 : decode cX1_timeIn 22 = .ok (.imul, 1) := by decide +kernel
theorem dX1_timeIn_23 : decode cX1_timeIn 23 = .ok (.ishr, 1) := by decide +kernel
theorem dX1_timeIn_24 : decode cX1_timeIn 24 = .ok (.bipush 7, 2) := by decide +kernel
theorem dX1_timeIn_26 : decode cX1_timeIn 26 = .ok (.iand, 1) := by decide +kernel
theorem dX1_timeIn_27 : decode cX1_timeIn 27 = .ok (.ireturn, 1) := by decide +kernel
abbrev cX1_shortest : ByteArray := prog_1_method_15_code
def yX1_shortest : MethodName := ⟨RX1, "shortest", "()I"⟩
theorem dX1_shortest_0 : decode cX1_shortest 0 = .ok (.iconst 0, 1) := by decide +kernel
theorem dX1_shortest_1 : decode cX1_shortest 1 = .ok (.istore_n 1, 1) := by decide +kernel
theorem dX1_shortest_2 : decode cX1_shortest 2 = .ok (.iload_n 1, 1) := by decide +kernel
theorem dX1_shortest_3 : decode cX1_shortest 3 = .ok (.bipush 7, 2) := by decide +kernel
theorem dX1_shortest_5 : decode cX1_shortest 5 = .ok (.if_icmp .gt 48, 3) := by decide +kernel
theorem dX1_shortest_8 : decode cX1_shortest 8 = .ok (.aload_n 0, 1) := by decide +kernel
theorem dX1_shortest_9 : decode cX1_shortest 9 = .ok (.invokevirtual 67, 3) := by decide +kernel
theorem dX1_shortest_12 : decode cX1_shortest 12 = .ok (.iconst 0, 1) := by decide +kernel
theorem dX1_shortest_13 : decode cX1_shortest 13 = .ok (.istore_n 2, 1) := by decide +kernel
theorem dX1_shortest_14 : decode cX1_shortest 14 = .ok (.iload_n 2, 1) := by decide +kernel
theorem dX1_shortest_15 : decode cX1_shortest 15 = .ok (.aload_n 0, 1) := by decide +kernel
theorem dX1_shortest_16 : decode cX1_shortest 16 = .ok (.getfield 40, 3) := by decide +kernel
theorem dX1_shortest_19 : decode cX1_shortest 19 = .ok (.if_icmp .ge 19, 3) := by decide +kernel
theorem dX1_shortest_22 : decode cX1_shortest 22 = .ok (.aload_n 0, 1) := by decide +kernel
theorem dX1_shortest_23 : decode cX1_shortest 23 = .ok (.iload_n 2, 1) := by decide +kernel
theorem dX1_shortest_24 : decode cX1_shortest 24 = .ok (.aload_n 0, 1) := by decide +kernel
theorem dX1_shortest_25 : decode cX1_shortest 25 = .ok (.getfield 40, 3) := by decide +kernel
theorem dX1_shortest_28 : decode cX1_shortest 28 = .ok (.iload_n 1, 1) := by decide +kernel
theorem dX1_shortest_29 : decode cX1_shortest 29 = .ok (.invokevirtual 89, 3) := by decide +kernel
theorem dX1_shortest_32 : decode cX1_shortest 32 = .ok (.iinc 2 1, 3) := by decide +kernel
theorem dX1_shortest_35 : decode cX1_shortest 35 = .ok (.goto (-21), 3) := by decide +kernel
theorem dX1_shortest_38 : decode cX1_shortest 38 = .ok (.aload_n 0, 1) := by decide +kernel
theorem dX1_shortest_39 : decode cX1_shortest 39 = .ok (.invokevirtual 70, 3) := by decide +kernel
theorem dX1_shortest_42 : decode cX1_shortest 42 = .ok (.ifCond .eq 5, 3) := by decide +kernel
theorem dX1_shortest_45 : decode cX1_shortest 45 = .ok (.iload_n 1, 1) := by decide +kernel
theorem dX1_shortest_46 : decode cX1_shortest 46 = .ok (.ireturn, 1) := by decide +kernel
theorem dX1_shortest_47 : decode cX1_shortest 47 = .ok (.iinc 1 1, 3) := by decide +kernel
theorem dX1_shortest_50 : decode cX1_shortest 50 = .ok (.goto (-48), 3) := by decide +kernel
theorem dX1_shortest_53 : decode cX1_shortest 53 = .ok (.iconst (-1), 1) := by decide +kernel
theorem dX1_shortest_54 : decode cX1_shortest 54 = .ok (.ireturn, 1) := by decide +kernel
abbrev cX1_entailed : ByteArray := prog_1_method_16_code
def yX1_entailed : MethodName := ⟨RX1, "entailed", "()I"⟩
theorem dX1_entailed_0 : decode cX1_entailed 0 = .ok (.aload_n 0, 1) := by decide +kernel
theorem dX1_entailed_1 : decode cX1_entailed 1 = .ok (.getfield 51, 3) := by decide +kernel
theorem dX1_entailed_4 : decode cX1_entailed 4 = .ok (.ifCond .ne 5, 3) := by decide +kernel
theorem dX1_entailed_7 : decode cX1_entailed 7 = .ok (.iconst (-1), 1) := by decide +kernel
theorem dX1_entailed_8 : decode cX1_entailed 8 = .ok (.ireturn, 1) := by decide +kernel
theorem dX1_entailed_9 : decode cX1_entailed 9 = .ok (.aload_n 0, 1) := by decide +kernel
theorem dX1_entailed_10 : decode cX1_entailed 10 = .ok (.invokevirtual 67, 3) := by decide +kernel
theorem dX1_entailed_13 : decode cX1_entailed 13 = .ok (.iconst 0, 1) := by decide +kernel
theorem dX1_entailed_14 : decode cX1_entailed 14 = .ok (.istore_n 1, 1) := by decide +kernel
theorem dX1_entailed_15 : decode cX1_entailed 15 = .ok (.iload_n 1, 1) := by decide +kernel
theorem dX1_entailed_16 : decode cX1_entailed 16 = .ok (.aload_n 0, 1) := by decide +kernel
theorem dX1_entailed_17 : decode cX1_entailed 17 = .ok (.getfield 51, 3) := by decide +kernel
theorem dX1_entailed_20 : decode cX1_entailed 20 = .ok (.if_icmp .ge 34, 3) := by decide +kernel
theorem dX1_entailed_23 : decode cX1_entailed 23 = .ok (.aload_n 0, 1) := by decide +kernel
theorem dX1_entailed_24 : decode cX1_entailed 24 = .ok (.aload_n 0, 1) := by decide +kernel
theorem dX1_entailed_25 : decode cX1_entailed 25 = .ok (.getfield 25, 3) := by decide +kernel
theorem dX1_entailed_28 : decode cX1_entailed 28 = .ok (.iload_n 1, 1) := by decide +kernel
theorem dX1_entailed_29 : decode cX1_entailed 29 = .ok (.iaload, 1) := by decide +kernel
theorem dX1_entailed_30 : decode cX1_entailed 30 = .ok (.aload_n 0, 1) := by decide +kernel
theorem dX1_entailed_31 : decode cX1_entailed 31 = .ok (.getfield 22, 3) := by decide +kernel
theorem dX1_entailed_34 : decode cX1_entailed 34 = .ok (.iload_n 1, 1) := by decide +kernel
theorem dX1_entailed_35 : decode cX1_entailed 35 = .ok (.iaload, 1) := by decide +kernel
theorem dX1_entailed_36 : decode cX1_entailed 36 = .ok (.aload_n 0, 1) := by decide +kernel
theorem dX1_entailed_37 : decode cX1_entailed 37 = .ok (.getfield 28, 3) := by decide +kernel
theorem dX1_entailed_40 : decode cX1_entailed 40 = .ok (.iload_n 1, 1) := by decide +kernel
theorem dX1_entailed_41 : decode cX1_entailed 41 = .ok (.iaload, 1) := by decide +kernel
theorem dX1_entailed_42 : decode cX1_entailed 42 = .ok (.ineg, 1) := by decide +kernel
theorem dX1_entailed_43 : decode cX1_entailed 43 = .ok (.iconst 1, 1) := by decide +kernel
theorem dX1_entailed_44 : decode cX1_entailed 44 = .ok (.isub, 1) := by decide +kernel
theorem dX1_entailed_45 : decode cX1_entailed 45 = .ok (.invokevirtual 89, 3) := by decide +kernel
theorem dX1_entailed_48 : decode cX1_entailed 48 = .ok (.iinc 1 1, 3) := by decide +kernel
theorem dX1_entailed_51 : decode cX1_entailed 51 = .ok (.goto (-36), 3) := by decide +kernel
theorem dX1_entailed_54 : decode cX1_entailed 54 = .ok (.aload_n 0, 1) := by decide +kernel
theorem dX1_entailed_55 : decode cX1_entailed 55 = .ok (.invokevirtual 70, 3) := by decide +kernel
theorem dX1_entailed_58 : decode cX1_entailed 58 = .ok (.ifCond .eq 7, 3) := by decide +kernel
theorem dX1_entailed_61 : decode cX1_entailed 61 = .ok (.iconst 0, 1) := by decide +kernel
theorem dX1_entailed_62 : decode cX1_entailed 62 = .ok (.goto 4, 3) := by decide +kernel
theorem dX1_entailed_65 : decode cX1_entailed 65 = .ok (.iconst 1, 1) := by decide +kernel
theorem dX1_entailed_66 : decode cX1_entailed 66 = .ok (.ireturn, 1) := by decide +kernel
abbrev cX1_redundant : ByteArray := prog_1_method_17_code
def yX1_redundant : MethodName := ⟨RX1, "redundant", "(I)I"⟩
theorem dX1_redundant_0 : decode cX1_redundant 0 = .ok (.aload_n 0, 1) := by decide +kernel
theorem dX1_redundant_1 : decode cX1_redundant 1 = .ok (.iload_n 1, 1) := by decide +kernel
theorem dX1_redundant_2 : decode cX1_redundant 2 = .ok (.invokevirtual 64, 3) := by decide +kernel
theorem dX1_redundant_5 : decode cX1_redundant 5 = .ok (.ifCond .ne 5, 3) := by decide +kernel
theorem dX1_redundant_8 : decode cX1_redundant 8 = .ok (.iconst (-1), 1) := by decide +kernel
theorem dX1_redundant_9 : decode cX1_redundant 9 = .ok (.ireturn, 1) := by decide +kernel
theorem dX1_redundant_10 : decode cX1_redundant 10 = .ok (.aload_n 0, 1) := by decide +kernel
theorem dX1_redundant_11 : decode cX1_redundant 11 = .ok (.invokevirtual 67, 3) := by decide +kernel
theorem dX1_redundant_14 : decode cX1_redundant 14 = .ok (.iconst 3, 1) := by decide +kernel
theorem dX1_redundant_15 : decode cX1_redundant 15 = .ok (.iload_n 1, 1) := by decide +kernel
theorem dX1_redundant_16 : decode cX1_redundant 16 = .ok (.imul, 1) := by decide +kernel
theorem dX1_redundant_17 : decode cX1_redundant 17 = .ok (.istore_n 2, 1) := by decide +kernel
theorem dX1_redundant_18 : decode cX1_redundant 18 = .ok (.iload_n 2, 1) := by decide +kernel
theorem dX1_redundant_19 : decode cX1_redundant 19 = .ok (.iconst 3, 1) := by decide +kernel
theorem dX1_redundant_20 : decode cX1_redundant 20 = .ok (.iload_n 1, 1) := by decide +kernel
theorem dX1_redundant_21 : decode cX1_redundant 21 = .ok (.imul, 1) := by decide +kernel
theorem dX1_redundant_22 : decode cX1_redundant 22 = .ok (.aload_n 0, 1) := by decide +kernel
theorem dX1_redundant_23 : decode cX1_redundant 23 = .ok (.getfield 19, 3) := by decide +kernel
theorem dX1_redundant_26 : decode cX1_redundant 26 = .ok (.iload_n 1, 1) := by decide +kernel
theorem dX1_redundant_27 : decode cX1_redundant 27 = .ok (.iaload, 1) := by decide +kernel
theorem dX1_redundant_28 : decode cX1_redundant 28 = .ok (.iadd, 1) := by decide +kernel
theorem dX1_redundant_29 : decode cX1_redundant 29 = .ok (.if_icmp .ge 34, 3) := by decide +kernel
theorem dX1_redundant_32 : decode cX1_redundant 32 = .ok (.aload_n 0, 1) := by decide +kernel
theorem dX1_redundant_33 : decode cX1_redundant 33 = .ok (.aload_n 0, 1) := by decide +kernel
theorem dX1_redundant_34 : decode cX1_redundant 34 = .ok (.getfield 13, 3) := by decide +kernel
theorem dX1_redundant_37 : decode cX1_redundant 37 = .ok (.iload_n 2, 1) := by decide +kernel
theorem dX1_redundant_38 : decode cX1_redundant 38 = .ok (.iaload, 1) := by decide +kernel
theorem dX1_redundant_39 : decode cX1_redundant 39 = .ok (.aload_n 0, 1) := by decide +kernel
theorem dX1_redundant_40 : decode cX1_redundant 40 = .ok (.getfield 7, 3) := by decide +kernel
theorem dX1_redundant_43 : decode cX1_redundant 43 = .ok (.iload_n 2, 1) := by decide +kernel
theorem dX1_redundant_44 : decode cX1_redundant 44 = .ok (.iaload, 1) := by decide +kernel
theorem dX1_redundant_45 : decode cX1_redundant 45 = .ok (.aload_n 0, 1) := by decide +kernel
theorem dX1_redundant_46 : decode cX1_redundant 46 = .ok (.getfield 16, 3) := by decide +kernel
theorem dX1_redundant_49 : decode cX1_redundant 49 = .ok (.iload_n 2, 1) := by decide +kernel
theorem dX1_redundant_50 : decode cX1_redundant 50 = .ok (.iaload, 1) := by decide +kernel
theorem dX1_redundant_51 : decode cX1_redundant 51 = .ok (.ineg, 1) := by decide +kernel
theorem dX1_redundant_52 : decode cX1_redundant 52 = .ok (.iconst 1, 1) := by decide +kernel
theorem dX1_redundant_53 : decode cX1_redundant 53 = .ok (.isub, 1) := by decide +kernel
theorem dX1_redundant_54 : decode cX1_redundant 54 = .ok (.invokevirtual 89, 3) := by decide +kernel
theorem dX1_redundant_57 : decode cX1_redundant 57 = .ok (.iinc 2 1, 3) := by decide +kernel
theorem dX1_redundant_60 : decode cX1_redundant 60 = .ok (.goto (-42), 3) := by decide +kernel
theorem dX1_redundant_63 : decode cX1_redundant 63 = .ok (.aload_n 0, 1) := by decide +kernel
theorem dX1_redundant_64 : decode cX1_redundant 64 = .ok (.iload_n 1, 1) := by decide +kernel
theorem dX1_redundant_65 : decode cX1_redundant 65 = .ok (.putfield 44, 3) := by decide +kernel
theorem dX1_redundant_68 : decode cX1_redundant 68 = .ok (.aload_n 0, 1) := by decide +kernel
theorem dX1_redundant_69 : decode cX1_redundant 69 = .ok (.invokevirtual 70, 3) := by decide +kernel
theorem dX1_redundant_72 : decode cX1_redundant 72 = .ok (.istore_n 2, 1) := by decide +kernel
theorem dX1_redundant_73 : decode cX1_redundant 73 = .ok (.aload_n 0, 1) := by decide +kernel
theorem dX1_redundant_74 : decode cX1_redundant 74 = .ok (.iconst (-1), 1) := by decide +kernel
theorem dX1_redundant_75 : decode cX1_redundant 75 = .ok (.putfield 44, 3) := by decide +kernel
theorem dX1_redundant_78 : decode cX1_redundant 78 = .ok (.iload_n 2, 1) := by decide +kernel
theorem dX1_redundant_79 : decode cX1_redundant 79 = .ok (.ifCond .eq 7, 3) := by decide +kernel
theorem dX1_redundant_82 : decode cX1_redundant 82 = .ok (.iconst 0, 1) := by decide +kernel
theorem dX1_redundant_83 : decode cX1_redundant 83 = .ok (.goto 4, 3) := by decide +kernel
theorem dX1_redundant_86 : decode cX1_redundant 86 = .ok (.iconst 1, 1) := by decide +kernel
theorem dX1_redundant_87 : decode cX1_redundant 87 = .ok (.ireturn, 1) := by decide +kernel
abbrev cX1_excess : ByteArray := prog_1_method_18_code
def yX1_excess : MethodName := ⟨RX1, "excess", "()I"⟩
theorem dX1_excess_0 : decode cX1_excess 0 = .ok (.aload_n 0, 1) := by decide +kernel
theorem dX1_excess_1 : decode cX1_excess 1 = .ok (.getfield 54, 3) := by decide +kernel
theorem dX1_excess_4 : decode cX1_excess 4 = .ok (.istore_n 1, 1) := by decide +kernel
theorem dX1_excess_5 : decode cX1_excess 5 = .ok (.iconst 0, 1) := by decide +kernel
theorem dX1_excess_6 : decode cX1_excess 6 = .ok (.istore_n 2, 1) := by decide +kernel
theorem dX1_excess_7 : decode cX1_excess 7 = .ok (.iconst 0, 1) := by decide +kernel
theorem dX1_excess_8 : decode cX1_excess 8 = .ok (.istore_n 3, 1) := by decide +kernel
theorem dX1_excess_9 : decode cX1_excess 9 = .ok (.iload_n 3, 1) := by decide +kernel
theorem dX1_excess_10 : decode cX1_excess 10 = .ok (.bipush 8, 2) := by decide +kernel
theorem dX1_excess_12 : decode cX1_excess 12 = .ok (.if_icmp .gt 36, 3) := by decide +kernel
theorem dX1_excess_15 : decode cX1_excess 15 = .ok (.aload_n 0, 1) := by decide +kernel
theorem dX1_excess_16 : decode cX1_excess 16 = .ok (.invokevirtual 67, 3) := by decide +kernel
theorem dX1_excess_19 : decode cX1_excess 19 = .ok (.aload_n 0, 1) := by decide +kernel
theorem dX1_excess_20 : decode cX1_excess 20 = .ok (.invokevirtual 70, 3) := by decide +kernel
theorem dX1_excess_23 : decode cX1_excess 23 = .ok (.ifCond .eq 6, 3) := by decide +kernel
theorem dX1_excess_26 : decode cX1_excess 26 = .ok (.goto 22, 3) := by decide +kernel
theorem dX1_excess_29 : decode cX1_excess 29 = .ok (.aload_n 0, 1) := by decide +kernel
theorem dX1_excess_30 : decode cX1_excess 30 = .ok (.dup, 1) := by decide +kernel
theorem dX1_excess_31 : decode cX1_excess 31 = .ok (.getfield 54, 3) := by decide +kernel
theorem dX1_excess_34 : decode cX1_excess 34 = .ok (.iconst 1, 1) := by decide +kernel
theorem dX1_excess_35 : decode cX1_excess 35 = .ok (.isub, 1) := by decide +kernel
theorem dX1_excess_36 : decode cX1_excess 36 = .ok (.putfield 54, 3) := by decide +kernel
theorem dX1_excess_39 : decode cX1_excess 39 = .ok (.iinc 2 1, 3) := by decide +kernel
theorem dX1_excess_42 : decode cX1_excess 42 = .ok (.iinc 3 1, 3) := by decide +kernel
theorem dX1_excess_45 : decode cX1_excess 45 = .ok (.goto (-36), 3) := by decide +kernel
theorem dX1_excess_48 : decode cX1_excess 48 = .ok (.aload_n 0, 1) := by decide +kernel
theorem dX1_excess_49 : decode cX1_excess 49 = .ok (.iload_n 1, 1) := by decide +kernel
theorem dX1_excess_50 : decode cX1_excess 50 = .ok (.putfield 54, 3) := by decide +kernel
theorem dX1_excess_53 : decode cX1_excess 53 = .ok (.iload_n 2, 1) := by decide +kernel
theorem dX1_excess_54 : decode cX1_excess 54 = .ok (.ireturn, 1) := by decide +kernel
end
section
set_option maxRecDepth 100000
abbrev cX2_init : ByteArray := prog_3_method_1_code
def yX2_init : MethodName := ⟨RX2, "<init>", "(I)V"⟩
theorem dX2_init_0 : decode cX2_init 0 = .ok (.aload_n 0, 1) := by decide +kernel
theorem dX2_init_1 : decode cX2_init 1 = .ok (.invokespecial 1, 3) := by decide +kernel
theorem dX2_init_4 : decode cX2_init 4 = .ok (.aload_n 0, 1) := by decide +kernel
theorem dX2_init_5 : decode cX2_init 5 = .ok (.bipush 9, 2) := by decide +kernel
theorem dX2_init_7 : decode cX2_init 7 = .ok (.newarray .int, 2) := by decide +kernel
theorem dX2_init_9 : decode cX2_init 9 = .ok (.putfield 7, 3) := by decide +kernel
theorem dX2_init_12 : decode cX2_init 12 = .ok (.aload_n 0, 1) := by decide +kernel
theorem dX2_init_13 : decode cX2_init 13 = .ok (.bipush 27, 2) := by decide +kernel
theorem dX2_init_15 : decode cX2_init 15 = .ok (.newarray .int, 2) := by decide +kernel
theorem dX2_init_17 : decode cX2_init 17 = .ok (.putfield 13, 3) := by decide +kernel
theorem dX2_init_20 : decode cX2_init 20 = .ok (.aload_n 0, 1) := by decide +kernel
theorem dX2_init_21 : decode cX2_init 21 = .ok (.bipush 27, 2) := by decide +kernel
theorem dX2_init_23 : decode cX2_init 23 = .ok (.newarray .int, 2) := by decide +kernel
theorem dX2_init_25 : decode cX2_init 25 = .ok (.putfield 16, 3) := by decide +kernel
theorem dX2_init_28 : decode cX2_init 28 = .ok (.aload_n 0, 1) := by decide +kernel
theorem dX2_init_29 : decode cX2_init 29 = .ok (.bipush 27, 2) := by decide +kernel
theorem dX2_init_31 : decode cX2_init 31 = .ok (.newarray .int, 2) := by decide +kernel
theorem dX2_init_33 : decode cX2_init 33 = .ok (.putfield 19, 3) := by decide +kernel
theorem dX2_init_36 : decode cX2_init 36 = .ok (.aload_n 0, 1) := by decide +kernel
theorem dX2_init_37 : decode cX2_init 37 = .ok (.iload_n 1, 1) := by decide +kernel
theorem dX2_init_38 : decode cX2_init 38 = .ok (.iconst 2, 1) := by decide +kernel
theorem dX2_init_39 : decode cX2_init 39 = .ok (.if_icmp .ge 7, 3) := by decide +kernel
theorem dX2_init_42 : decode cX2_init 42 = .ok (.iconst 2, 1) := by decide +kernel
theorem dX2_init_43 : decode cX2_init 43 = .ok (.goto 13, 3) := by decide +kernel
theorem dX2_init_46 : decode cX2_init 46 = .ok (.iload_n 1, 1) := by decide +kernel
theorem dX2_init_47 : decode cX2_init 47 = .ok (.iconst 4, 1) := by decide +kernel
theorem dX2_init_48 : decode cX2_init 48 = .ok (.if_icmp .le 7, 3) := by decide +kernel
theorem dX2_init_51 : decode cX2_init 51 = .ok (.iconst 4, 1) := by decide +kernel
theorem dX2_init_52 : decode cX2_init 52 = .ok (.goto 4, 3) := by decide +kernel
theorem dX2_init_55 : decode cX2_init 55 = .ok (.iload_n 1, 1) := by decide +kernel
theorem dX2_init_56 : decode cX2_init 56 = .ok (.putfield 22, 3) := by decide +kernel
theorem dX2_init_59 : decode cX2_init 59 = .ok (.aload_n 0, 1) := by decide +kernel
theorem dX2_init_60 : decode cX2_init 60 = .ok (.iconst 1, 1) := by decide +kernel
theorem dX2_init_61 : decode cX2_init 61 = .ok (.iconst 3, 1) := by decide +kernel
theorem dX2_init_62 : decode cX2_init 62 = .ok (.aload_n 0, 1) := by decide +kernel
theorem dX2_init_63 : decode cX2_init 63 = .ok (.getfield 22, 3) := by decide +kernel
theorem dX2_init_66 : decode cX2_init 66 = .ok (.imul, 1) := by decide +kernel
theorem dX2_init_67 : decode cX2_init 67 = .ok (.ishl, 1) := by decide +kernel
theorem dX2_init_68 : decode cX2_init 68 = .ok (.putfield 26, 3) := by decide +kernel
theorem dX2_init_71 : decode cX2_init 71 = .ok (.return_, 1) := by decide +kernel
abbrev cX2_events : ByteArray := prog_3_method_2_code
def yX2_events : MethodName := ⟨RX2, "events", "()I"⟩
theorem dX2_events_0 : decode cX2_events 0 = .ok (.aload_n 0, 1) := by decide +kernel
theorem dX2_events_1 : decode cX2_events 1 = .ok (.getfield 22, 3) := by decide +kernel
theorem dX2_events_4 : decode cX2_events 4 = .ok (.ireturn, 1) := by decide +kernel
abbrev cX2_alternative : ByteArray := prog_3_method_6_code
def yX2_alternative : MethodName := ⟨RX2, "alternative", "(III)I"⟩
theorem dX2_alternative_0 : decode cX2_alternative 0 = .ok (.aload_n 0, 1) := by decide +kernel
theorem dX2_alternative_1 : decode cX2_alternative 1 = .ok (.iload_n 1, 1) := by decide +kernel
theorem dX2_alternative_2 : decode cX2_alternative 2 = .ok (.invokevirtual 29, 3) := by decide +kernel
theorem dX2_alternative_5 : decode cX2_alternative 5 = .ok (.ifCond .ne 11, 3) := by decide +kernel
theorem dX2_alternative_8 : decode cX2_alternative 8 = .ok (.aload_n 0, 1) := by decide +kernel
theorem dX2_alternative_9 : decode cX2_alternative 9 = .ok (.iload_n 2, 1) := by decide +kernel
theorem dX2_alternative_10 : decode cX2_alternative 10 = .ok (.invokevirtual 29, 3) := by decide +kernel
theorem dX2_alternative_13 : decode cX2_alternative 13 = .ok (.ifCond .eq 5, 3) := by decide +kernel
theorem dX2_alternative_16 : decode cX2_alternative 16 = .ok (.iconst (-1), 1) := by decide +kernel
theorem dX2_alternative_17 : decode cX2_alternative 17 = .ok (.ireturn, 1) := by decide +kernel
theorem dX2_alternative_18 : decode cX2_alternative 18 = .ok (.iload_n 1, 1) := by decide +kernel
theorem dX2_alternative_19 : decode cX2_alternative 19 = .ok (.iload_n 2, 1) := by decide +kernel
theorem dX2_alternative_20 : decode cX2_alternative 20 = .ok (.if_icmp .ne 6, 3) := by decide +kernel
theorem dX2_alternative_23 : decode cX2_alternative 23 = .ok (.bipush (-2), 2) := by decide +kernel
theorem dX2_alternative_25 : decode cX2_alternative 25 = .ok (.ireturn, 1) := by decide +kernel
theorem dX2_alternative_26 : decode cX2_alternative 26 = .ok (.iload_n 3, 1) := by decide +kernel
theorem dX2_alternative_27 : decode cX2_alternative 27 = .ok (.bipush (-10), 2) := by decide +kernel
theorem dX2_alternative_29 : decode cX2_alternative 29 = .ok (.if_icmp .lt 9, 3) := by decide +kernel
theorem dX2_alternative_32 : decode cX2_alternative 32 = .ok (.iload_n 3, 1) := by decide +kernel
theorem dX2_alternative_33 : decode cX2_alternative 33 = .ok (.bipush 10, 2) := by decide +kernel
theorem dX2_alternative_35 : decode cX2_alternative 35 = .ok (.if_icmp .le 6, 3) := by decide +kernel
theorem dX2_alternative_38 : decode cX2_alternative 38 = .ok (.bipush (-3), 2) := by decide +kernel
theorem dX2_alternative_40 : decode cX2_alternative 40 = .ok (.ireturn, 1) := by decide +kernel
theorem dX2_alternative_41 : decode cX2_alternative 41 = .ok (.aload_n 0, 1) := by decide +kernel
theorem dX2_alternative_42 : decode cX2_alternative 42 = .ok (.getfield 33, 3) := by decide +kernel
theorem dX2_alternative_45 : decode cX2_alternative 45 = .ok (.iconst 3, 1) := by decide +kernel
theorem dX2_alternative_46 : decode cX2_alternative 46 = .ok (.if_icmp .lt 6, 3) := by decide +kernel
theorem dX2_alternative_49 : decode cX2_alternative 49 = .ok (.bipush (-4), 2) := by decide +kernel
theorem dX2_alternative_51 : decode cX2_alternative 51 = .ok (.ireturn, 1) := by decide +kernel
theorem dX2_alternative_52 : decode cX2_alternative 52 = .ok (.aload_n 0, 1) := by decide +kernel
theorem dX2_alternative_53 : decode cX2_alternative 53 = .ok (.bipush 8, 2) := by decide +kernel
theorem dX2_alternative_55 : decode cX2_alternative 55 = .ok (.iload_n 1, 1) := by decide +kernel
theorem dX2_alternative_56 : decode cX2_alternative 56 = .ok (.iload_n 2, 1) := by decide +kernel
theorem dX2_alternative_57 : decode cX2_alternative 57 = .ok (.iload_n 3, 1) := by decide +kernel
theorem dX2_alternative_58 : decode cX2_alternative 58 = .ok (.invokevirtual 36, 3) := by decide +kernel
theorem dX2_alternative_61 : decode cX2_alternative 61 = .ok (.aload_n 0, 1) := by decide +kernel
theorem dX2_alternative_62 : decode cX2_alternative 62 = .ok (.aload_n 0, 1) := by decide +kernel
theorem dX2_alternative_63 : decode cX2_alternative 63 = .ok (.getfield 7, 3) := by decide +kernel
theorem dX2_alternative_66 : decode cX2_alternative 66 = .ok (.bipush 8, 2) := by decide +kernel
theorem dX2_alternative_68 : decode cX2_alternative 68 = .ok (.iaload, 1) := by decide +kernel
theorem dX2_alternative_69 : decode cX2_alternative 69 = .ok (.putfield 33, 3) := by decide +kernel
theorem dX2_alternative_72 : decode cX2_alternative 72 = .ok (.aload_n 0, 1) := by decide +kernel
theorem dX2_alternative_73 : decode cX2_alternative 73 = .ok (.getfield 33, 3) := by decide +kernel
theorem dX2_alternative_76 : decode cX2_alternative 76 = .ok (.ireturn, 1) := by decide +kernel
abbrev cX2_badPoint : ByteArray := prog_3_method_4_code
def yX2_badPoint : MethodName := ⟨RX2, "badPoint", "(I)Z"⟩
theorem dX2_badPoint_0 : decode cX2_badPoint 0 = .ok (.iload_n 1, 1) := by decide +kernel
theorem dX2_badPoint_1 : decode cX2_badPoint 1 = .ok (.ifCond .lt 11, 3) := by decide +kernel
theorem dX2_badPoint_4 : decode cX2_badPoint 4 = .ok (.iload_n 1, 1) := by decide +kernel
theorem dX2_badPoint_5 : decode cX2_badPoint 5 = .ok (.aload_n 0, 1) := by decide +kernel
theorem dX2_badPoint_6 : decode cX2_badPoint 6 = .ok (.getfield 22, 3) := by decide +kernel
theorem dX2_badPoint_9 : decode cX2_badPoint 9 = .ok (.if_icmp .le 7, 3) := by decide +kernel
theorem dX2_badPoint_12 : decode cX2_badPoint 12 = .ok (.iconst 1, 1) := by decide +kernel
theorem dX2_badPoint_13 : decode cX2_badPoint 13 = .ok (.goto 4, 3) := by decide +kernel
theorem dX2_badPoint_16 : decode cX2_badPoint 16 = .ok (.iconst 0, 1) := by decide +kernel
theorem dX2_badPoint_17 : decode cX2_badPoint 17 = .ok (.ireturn, 1) := by decide +kernel
abbrev cX2_compare : ByteArray := prog_3_method_5_code
def yX2_compare : MethodName := ⟨RX2, "compare", "(IIII)V"⟩
theorem dX2_compare_0 : decode cX2_compare 0 = .ok (.aload_n 0, 1) := by decide +kernel
theorem dX2_compare_1 : decode cX2_compare 1 = .ok (.getfield 7, 3) := by decide +kernel
theorem dX2_compare_4 : decode cX2_compare 4 = .ok (.iload_n 1, 1) := by decide +kernel
theorem dX2_compare_5 : decode cX2_compare 5 = .ok (.iaload, 1) := by decide +kernel
theorem dX2_compare_6 : decode cX2_compare 6 = .ok (.istore 5, 2) := by decide +kernel
theorem dX2_compare_8 : decode cX2_compare 8 = .ok (.iload 5, 2) := by decide +kernel
theorem dX2_compare_10 : decode cX2_compare 10 = .ok (.iconst 2, 1) := by decide +kernel
theorem dX2_compare_11 : decode cX2_compare 11 = .ok (.if_icmp .le 4, 3) := by decide +kernel
theorem dX2_compare_14 : decode cX2_compare 14 = .ok (.return_, 1) := by decide +kernel
theorem dX2_compare_15 : decode cX2_compare 15 = .ok (.aload_n 0, 1) := by decide +kernel
theorem dX2_compare_16 : decode cX2_compare 16 = .ok (.getfield 13, 3) := by decide +kernel
theorem dX2_compare_19 : decode cX2_compare 19 = .ok (.iconst 3, 1) := by decide +kernel
theorem dX2_compare_20 : decode cX2_compare 20 = .ok (.iload_n 1, 1) := by decide +kernel
theorem dX2_compare_21 : decode cX2_compare 21 = .ok (.imul, 1) := by decide +kernel
theorem dX2_compare_22 : decode cX2_compare 22 = .ok (.iload 5, 2) := by decide +kernel
theorem dX2_compare_24 : decode cX2_compare 24 = .ok (.iadd, 1) := by decide +kernel
theorem dX2_compare_25 : decode cX2_compare 25 = .ok (.iload_n 2, 1) := by decide +kernel
theorem dX2_compare_26 : decode cX2_compare 26 = .ok (.iastore, 1) := by decide +kernel
theorem dX2_compare_27 : decode cX2_compare 27 = .ok (.aload_n 0, 1) := by decide +kernel
theorem dX2_compare_28 : decode cX2_compare 28 = .ok (.getfield 16, 3) := by decide +kernel
theorem dX2_compare_31 : decode cX2_compare 31 = .ok (.iconst 3, 1) := by decide +kernel
theorem dX2_compare_32 : decode cX2_compare 32 = .ok (.iload_n 1, 1) := by decide +kernel
theorem dX2_compare_33 : decode cX2_compare 33 = .ok (.imul, 1) := by decide +kernel
theorem dX2_compare_34 : decode cX2_compare 34 = .ok (.iload 5, 2) := by decide +kernel
theorem dX2_compare_36 : decode cX2_compare 36 = .ok (.iadd, 1) := by decide +kernel
theorem dX2_compare_37 : decode cX2_compare 37 = .ok (.iload_n 3, 1) := by decide +kernel
theorem dX2_compare_38 : decode cX2_compare 38 = .ok (.iastore, 1) := by decide +kernel
theorem dX2_compare_39 : decode cX2_compare 39 = .ok (.aload_n 0, 1) := by decide +kernel
theorem dX2_compare_40 : decode cX2_compare 40 = .ok (.getfield 19, 3) := by decide +kernel
theorem dX2_compare_43 : decode cX2_compare 43 = .ok (.iconst 3, 1) := by decide +kernel
theorem dX2_compare_44 : decode cX2_compare 44 = .ok (.iload_n 1, 1) := by decide +kernel
theorem dX2_compare_45 : decode cX2_compare 45 = .ok (.imul, 1) := by decide +kernel
theorem dX2_compare_46 : decode cX2_compare 46 = .ok (.iload 5, 2) := by decide +kernel
theorem dX2_compare_48 : decode cX2_compare 48 = .ok (.iadd, 1) := by decide +kernel
theorem dX2_compare_49 : decode cX2_compare 49 = .ok (.iload 4, 2) := by decide +kernel
theorem dX2_compare_51 : decode cX2_compare 51 = .ok (.iastore, 1) := by decide +kernel
theorem dX2_compare_52 : decode cX2_compare 52 = .ok (.aload_n 0, 1) := by decide +kernel
theorem dX2_compare_53 : decode cX2_compare 53 = .ok (.getfield 7, 3) := by decide +kernel
theorem dX2_compare_56 : decode cX2_compare 56 = .ok (.iload_n 1, 1) := by decide +kernel
theorem dX2_compare_57 : decode cX2_compare 57 = .ok (.iload 5, 2) := by decide +kernel
theorem dX2_compare_59 : decode cX2_compare 59 = .ok (.iconst 1, 1) := by decide +kernel
theorem dX2_compare_60 : decode cX2_compare 60 = .ok (.iadd, 1) := by decide +kernel
theorem dX2_compare_61 : decode cX2_compare 61 = .ok (.iastore, 1) := by decide +kernel
theorem dX2_compare_62 : decode cX2_compare 62 = .ok (.return_, 1) := by decide +kernel
abbrev cX2_clear : ByteArray := prog_3_method_7_code
def yX2_clear : MethodName := ⟨RX2, "clear", "()I"⟩
theorem dX2_clear_0 : decode cX2_clear 0 = .ok (.aload_n 0, 1) := by decide +kernel
theorem dX2_clear_1 : decode cX2_clear 1 = .ok (.getfield 33, 3) := by decide +kernel
theorem dX2_clear_4 : decode cX2_clear 4 = .ok (.istore_n 1, 1) := by decide +kernel
theorem dX2_clear_5 : decode cX2_clear 5 = .ok (.aload_n 0, 1) := by decide +kernel
theorem dX2_clear_6 : decode cX2_clear 6 = .ok (.getfield 7, 3) := by decide +kernel
theorem dX2_clear_9 : decode cX2_clear 9 = .ok (.bipush 8, 2) := by decide +kernel
theorem dX2_clear_11 : decode cX2_clear 11 = .ok (.iconst 0, 1) := by decide +kernel
theorem dX2_clear_12 : decode cX2_clear 12 = .ok (.iastore, 1) := by decide +kernel
theorem dX2_clear_13 : decode cX2_clear 13 = .ok (.aload_n 0, 1) := by decide +kernel
theorem dX2_clear_14 : decode cX2_clear 14 = .ok (.iconst 0, 1) := by decide +kernel
theorem dX2_clear_15 : decode cX2_clear 15 = .ok (.putfield 33, 3) := by decide +kernel
theorem dX2_clear_18 : decode cX2_clear 18 = .ok (.iload_n 1, 1) := by decide +kernel
theorem dX2_clear_19 : decode cX2_clear 19 = .ok (.ireturn, 1) := by decide +kernel
abbrev cX2_add : ByteArray := prog_3_method_9_code
def yX2_add : MethodName := ⟨RX2, "add", "()I"⟩
theorem dX2_add_0 : decode cX2_add 0 = .ok (.aload_n 0, 1) := by decide +kernel
theorem dX2_add_1 : decode cX2_add 1 = .ok (.getfield 33, 3) := by decide +kernel
theorem dX2_add_4 : decode cX2_add 4 = .ok (.ifCond .ne 5, 3) := by decide +kernel
theorem dX2_add_7 : decode cX2_add 7 = .ok (.iconst (-1), 1) := by decide +kernel
theorem dX2_add_8 : decode cX2_add 8 = .ok (.ireturn, 1) := by decide +kernel
theorem dX2_add_9 : decode cX2_add 9 = .ok (.aload_n 0, 1) := by decide +kernel
theorem dX2_add_10 : decode cX2_add 10 = .ok (.getfield 40, 3) := by decide +kernel
theorem dX2_add_13 : decode cX2_add 13 = .ok (.bipush 8, 2) := by decide +kernel
theorem dX2_add_15 : decode cX2_add 15 = .ok (.if_icmp .lt 6, 3) := by decide +kernel
theorem dX2_add_18 : decode cX2_add 18 = .ok (.bipush (-2), 2) := by decide +kernel
theorem dX2_add_20 : decode cX2_add 20 = .ok (.ireturn, 1) := by decide +kernel
theorem dX2_add_21 : decode cX2_add 21 = .ok (.aload_n 0, 1) := by decide +kernel
theorem dX2_add_22 : decode cX2_add 22 = .ok (.bipush 8, 2) := by decide +kernel
theorem dX2_add_24 : decode cX2_add 24 = .ok (.aload_n 0, 1) := by decide +kernel
theorem dX2_add_25 : decode cX2_add 25 = .ok (.getfield 40, 3) := by decide +kernel
theorem dX2_add_28 : decode cX2_add 28 = .ok (.invokevirtual 43, 3) := by decide +kernel
theorem dX2_add_31 : decode cX2_add 31 = .ok (.aload_n 0, 1) := by decide +kernel
theorem dX2_add_32 : decode cX2_add 32 = .ok (.dup, 1) := by decide +kernel
theorem dX2_add_33 : decode cX2_add 33 = .ok (.getfield 40, 3) := by decide +kernel
theorem dX2_add_36 : decode cX2_add 36 = .ok (.iconst 1, 1) := by decide +kernel
theorem dX2_add_37 : decode cX2_add 37 = .ok (.iadd, 1) := by decide +kernel
theorem dX2_add_38 : decode cX2_add 38 = .ok (.putfield 40, 3) := by decide +kernel
theorem dX2_add_41 : decode cX2_add 41 = .ok (.aload_n 0, 1) := by decide +kernel
theorem dX2_add_42 : decode cX2_add 42 = .ok (.getfield 7, 3) := by decide +kernel
theorem dX2_add_45 : decode cX2_add 45 = .ok (.bipush 8, 2) := by decide +kernel
theorem dX2_add_47 : decode cX2_add 47 = .ok (.iconst 0, 1) := by decide +kernel
theorem dX2_add_48 : decode cX2_add 48 = .ok (.iastore, 1) := by decide +kernel
theorem dX2_add_49 : decode cX2_add 49 = .ok (.aload_n 0, 1) := by decide +kernel
theorem dX2_add_50 : decode cX2_add 50 = .ok (.iconst 0, 1) := by decide +kernel
theorem dX2_add_51 : decode cX2_add 51 = .ok (.putfield 33, 3) := by decide +kernel
theorem dX2_add_54 : decode cX2_add 54 = .ok (.aload_n 0, 1) := by decide +kernel
theorem dX2_add_55 : decode cX2_add 55 = .ok (.getfield 40, 3) := by decide +kernel
theorem dX2_add_58 : decode cX2_add 58 = .ok (.ireturn, 1) := by decide +kernel
abbrev cX2_copy : ByteArray := prog_3_method_8_code
def yX2_copy : MethodName := ⟨RX2, "copy", "(II)V"⟩
theorem dX2_copy_0 : decode cX2_copy 0 = .ok (.aload_n 0, 1) := by decide +kernel
theorem dX2_copy_1 : decode cX2_copy 1 = .ok (.getfield 7, 3) := by decide +kernel
theorem dX2_copy_4 : decode cX2_copy 4 = .ok (.iload_n 2, 1) := by decide +kernel
theorem dX2_copy_5 : decode cX2_copy 5 = .ok (.aload_n 0, 1) := by decide +kernel
theorem dX2_copy_6 : decode cX2_copy 6 = .ok (.getfield 7, 3) := by decide +kernel
theorem dX2_copy_9 : decode cX2_copy 9 = .ok (.iload_n 1, 1) := by decide +kernel
theorem dX2_copy_10 : decode cX2_copy 10 = .ok (.iaload, 1) := by decide +kernel
theorem dX2_copy_11 : decode cX2_copy 11 = .ok (.iastore, 1) := by decide +kernel
theorem dX2_copy_12 : decode cX2_copy 12 = .ok (.iconst 0, 1) := by decide +kernel
theorem dX2_copy_13 : decode cX2_copy 13 = .ok (.istore_n 3, 1) := by decide +kernel
theorem dX2_copy_14 : decode cX2_copy 14 = .ok (.iload_n 3, 1) := by decide +kernel
theorem dX2_copy_15 : decode cX2_copy 15 = .ok (.iconst 3, 1) := by decide +kernel
theorem dX2_copy_16 : decode cX2_copy 16 = .ok (.if_icmp .ge 69, 3) := by decide +kernel
theorem dX2_copy_19 : decode cX2_copy 19 = .ok (.aload_n 0, 1) := by decide +kernel
theorem dX2_copy_20 : decode cX2_copy 20 = .ok (.getfield 13, 3) := by decide +kernel
theorem dX2_copy_23 : decode cX2_copy 23 = .ok (.iconst 3, 1) := by decide +kernel
theorem dX2_copy_24 : decode cX2_copy 24 = .ok (.iload_n 2, 1) := by decide +kernel
theorem dX2_copy_25 : decode cX2_copy 25 = .ok (.imul, 1) := by decide +kernel
theorem dX2_copy_26 : decode cX2_copy 26 = .ok (.iload_n 3, 1) := by decide +kernel
theorem dX2_copy_27 : decode cX2_copy 27 = .ok (.iadd, 1) := by decide +kernel
theorem dX2_copy_28 : decode cX2_copy 28 = .ok (.aload_n 0, 1) := by decide +kernel
theorem dX2_copy_29 : decode cX2_copy 29 = .ok (.getfield 13, 3) := by decide +kernel
theorem dX2_copy_32 : decode cX2_copy 32 = .ok (.iconst 3, 1) := by decide +kernel
theorem dX2_copy_33 : decode cX2_copy 33 = .ok (.iload_n 1, 1) := by decide +kernel
theorem dX2_copy_34 : decode cX2_copy 34 = .ok (.imul, 1) := by decide +kernel
theorem dX2_copy_35 : decode cX2_copy 35 = .ok (.iload_n 3, 1) := by decide +kernel
theorem dX2_copy_36 : decode cX2_copy 36 = .ok (.iadd, 1) := by decide +kernel
theorem dX2_copy_37 : decode cX2_copy 37 = .ok (.iaload, 1) := by decide +kernel
theorem dX2_copy_38 : decode cX2_copy 38 = .ok (.iastore, 1) := by decide +kernel
theorem dX2_copy_39 : decode cX2_copy 39 = .ok (.aload_n 0, 1) := by decide +kernel
theorem dX2_copy_40 : decode cX2_copy 40 = .ok (.getfield 16, 3) := by decide +kernel
theorem dX2_copy_43 : decode cX2_copy 43 = .ok (.iconst 3, 1) := by decide +kernel
theorem dX2_copy_44 : decode cX2_copy 44 = .ok (.iload_n 2, 1) := by decide +kernel
theorem dX2_copy_45 : decode cX2_copy 45 = .ok (.imul, 1) := by decide +kernel
theorem dX2_copy_46 : decode cX2_copy 46 = .ok (.iload_n 3, 1) := by decide +kernel
theorem dX2_copy_47 : decode cX2_copy 47 = .ok (.iadd, 1) := by decide +kernel
theorem dX2_copy_48 : decode cX2_copy 48 = .ok (.aload_n 0, 1) := by decide +kernel
theorem dX2_copy_49 : decode cX2_copy 49 = .ok (.getfield 16, 3) := by decide +kernel
theorem dX2_copy_52 : decode cX2_copy 52 = .ok (.iconst 3, 1) := by decide +kernel
theorem dX2_copy_53 : decode cX2_copy 53 = .ok (.iload_n 1, 1) := by decide +kernel
theorem dX2_copy_54 : decode cX2_copy 54 = .ok (.imul, 1) := by decide +kernel
theorem dX2_copy_55 : decode cX2_copy 55 = .ok (.iload_n 3, 1) := by decide +kernel
theorem dX2_copy_56 : decode cX2_copy 56 = .ok (.iadd, 1) := by decide +kernel
theorem dX2_copy_57 : decode cX2_copy 57 = .ok (.iaload, 1) := by decide +kernel
theorem dX2_copy_58 : decode cX2_copy 58 = .ok (.iastore, 1) := by decide +kernel
theorem dX2_copy_59 : decode cX2_copy 59 = .ok (.aload_n 0, 1) := by decide +kernel
theorem dX2_copy_60 : decode cX2_copy 60 = .ok (.getfield 19, 3) := by decide +kernel
theorem dX2_copy_63 : decode cX2_copy 63 = .ok (.iconst 3, 1) := by decide +kernel
theorem dX2_copy_64 : decode cX2_copy 64 = .ok (.iload_n 2, 1) := by decide +kernel
theorem dX2_copy_65 : decode cX2_copy 65 = .ok (.imul, 1) := by decide +kernel
theorem dX2_copy_66 : decode cX2_copy 66 = .ok (.iload_n 3, 1) := by decide +kernel
theorem dX2_copy_67 : decode cX2_copy 67 = .ok (.iadd, 1) := by decide +kernel
theorem dX2_copy_68 : decode cX2_copy 68 = .ok (.aload_n 0, 1) := by decide +kernel
theorem dX2_copy_69 : decode cX2_copy 69 = .ok (.getfield 19, 3) := by decide +kernel
theorem dX2_copy_72 : decode cX2_copy 72 = .ok (.iconst 3, 1) := by decide +kernel
theorem dX2_copy_73 : decode cX2_copy 73 = .ok (.iload_n 1, 1) := by decide +kernel
theorem dX2_copy_74 : decode cX2_copy 74 = .ok (.imul, 1) := by decide +kernel
theorem dX2_copy_75 : decode cX2_copy 75 = .ok (.iload_n 3, 1) := by decide +kernel
theorem dX2_copy_76 : decode cX2_copy 76 = .ok (.iadd, 1) := by decide +kernel
theorem dX2_copy_77 : decode cX2_copy 77 = .ok (.iaload, 1) := by decide +kernel
theorem dX2_copy_78 : decode cX2_copy 78 = .ok (.iastore, 1) := by decide +kernel
theorem dX2_copy_79 : decode cX2_copy 79 = .ok (.iinc 3 1, 3) := by decide +kernel
theorem dX2_copy_82 : decode cX2_copy 82 = .ok (.goto (-68), 3) := by decide +kernel
theorem dX2_copy_85 : decode cX2_copy 85 = .ok (.return_, 1) := by decide +kernel
abbrev cX2_apart : ByteArray := prog_3_method_10_code
def yX2_apart : MethodName := ⟨RX2, "apart", "(III)I"⟩
theorem dX2_apart_0 : decode cX2_apart 0 = .ok (.iload_n 1, 1) := by decide +kernel
theorem dX2_apart_1 : decode cX2_apart 1 = .ok (.ifCond .ge 5, 3) := by decide +kernel
theorem dX2_apart_4 : decode cX2_apart 4 = .ok (.iconst (-1), 1) := by decide +kernel
theorem dX2_apart_5 : decode cX2_apart 5 = .ok (.ireturn, 1) := by decide +kernel
theorem dX2_apart_6 : decode cX2_apart 6 = .ok (.iload_n 1, 1) := by decide +kernel
theorem dX2_apart_7 : decode cX2_apart 7 = .ok (.bipush 8, 2) := by decide +kernel
theorem dX2_apart_9 : decode cX2_apart 9 = .ok (.idiv, 1) := by decide +kernel
theorem dX2_apart_10 : decode cX2_apart 10 = .ok (.istore 4, 2) := by decide +kernel
theorem dX2_apart_12 : decode cX2_apart 12 = .ok (.iload_n 1, 1) := by decide +kernel
theorem dX2_apart_13 : decode cX2_apart 13 = .ok (.bipush 8, 2) := by decide +kernel
theorem dX2_apart_15 : decode cX2_apart 15 = .ok (.irem, 1) := by decide +kernel
theorem dX2_apart_16 : decode cX2_apart 16 = .ok (.istore 5, 2) := by decide +kernel
theorem dX2_apart_18 : decode cX2_apart 18 = .ok (.aload_n 0, 1) := by decide +kernel
theorem dX2_apart_19 : decode cX2_apart 19 = .ok (.iload 4, 2) := by decide +kernel
theorem dX2_apart_21 : decode cX2_apart 21 = .ok (.invokevirtual 47, 3) := by decide +kernel
theorem dX2_apart_24 : decode cX2_apart 24 = .ok (.ifCond .ne 12, 3) := by decide +kernel
theorem dX2_apart_27 : decode cX2_apart 27 = .ok (.aload_n 0, 1) := by decide +kernel
theorem dX2_apart_28 : decode cX2_apart 28 = .ok (.iload 5, 2) := by decide +kernel
theorem dX2_apart_30 : decode cX2_apart 30 = .ok (.invokevirtual 47, 3) := by decide +kernel
theorem dX2_apart_33 : decode cX2_apart 33 = .ok (.ifCond .eq 5, 3) := by decide +kernel
theorem dX2_apart_36 : decode cX2_apart 36 = .ok (.iconst (-1), 1) := by decide +kernel
theorem dX2_apart_37 : decode cX2_apart 37 = .ok (.ireturn, 1) := by decide +kernel
theorem dX2_apart_38 : decode cX2_apart 38 = .ok (.iload 4, 2) := by decide +kernel
theorem dX2_apart_40 : decode cX2_apart 40 = .ok (.iload 5, 2) := by decide +kernel
theorem dX2_apart_42 : decode cX2_apart 42 = .ok (.if_icmp .ne 6, 3) := by decide +kernel
theorem dX2_apart_45 : decode cX2_apart 45 = .ok (.bipush (-2), 2) := by decide +kernel
theorem dX2_apart_47 : decode cX2_apart 47 = .ok (.ireturn, 1) := by decide +kernel
theorem dX2_apart_48 : decode cX2_apart 48 = .ok (.iload_n 2, 1) := by decide +kernel
theorem dX2_apart_49 : decode cX2_apart 49 = .ok (.ifCond .lt 9, 3) := by decide +kernel
theorem dX2_apart_52 : decode cX2_apart 52 = .ok (.iload_n 2, 1) := by decide +kernel
theorem dX2_apart_53 : decode cX2_apart 53 = .ok (.bipush 7, 2) := by decide +kernel
theorem dX2_apart_55 : decode cX2_apart 55 = .ok (.if_icmp .le 6, 3) := by decide +kernel
theorem dX2_apart_58 : decode cX2_apart 58 = .ok (.bipush (-3), 2) := by decide +kernel
theorem dX2_apart_60 : decode cX2_apart 60 = .ok (.ireturn, 1) := by decide +kernel
theorem dX2_apart_61 : decode cX2_apart 61 = .ok (.iload_n 3, 1) := by decide +kernel
theorem dX2_apart_62 : decode cX2_apart 62 = .ok (.ifCond .lt 9, 3) := by decide +kernel
theorem dX2_apart_65 : decode cX2_apart 65 = .ok (.iload_n 3, 1) := by decide +kernel
theorem dX2_apart_66 : decode cX2_apart 66 = .ok (.bipush 7, 2) := by decide +kernel
theorem dX2_apart_68 : decode cX2_apart 68 = .ok (.if_icmp .le 6, 3) := by decide +kernel
theorem dX2_apart_71 : decode cX2_apart 71 = .ok (.bipush (-4), 2) := by decide +kernel
theorem dX2_apart_73 : decode cX2_apart 73 = .ok (.ireturn, 1) := by decide +kernel
theorem dX2_apart_74 : decode cX2_apart 74 = .ok (.aload_n 0, 1) := by decide +kernel
theorem dX2_apart_75 : decode cX2_apart 75 = .ok (.getfield 40, 3) := by decide +kernel
theorem dX2_apart_78 : decode cX2_apart 78 = .ok (.iconst 5, 1) := by decide +kernel
theorem dX2_apart_79 : decode cX2_apart 79 = .ok (.if_icmp .le 6, 3) := by decide +kernel
theorem dX2_apart_82 : decode cX2_apart 82 = .ok (.bipush (-5), 2) := by decide +kernel
theorem dX2_apart_84 : decode cX2_apart 84 = .ok (.ireturn, 1) := by decide +kernel
theorem dX2_apart_85 : decode cX2_apart 85 = .ok (.aload_n 0, 1) := by decide +kernel
theorem dX2_apart_86 : decode cX2_apart 86 = .ok (.getfield 40, 3) := by decide +kernel
theorem dX2_apart_89 : decode cX2_apart 89 = .ok (.istore 6, 2) := by decide +kernel
theorem dX2_apart_91 : decode cX2_apart 91 = .ok (.iload 6, 2) := by decide +kernel
theorem dX2_apart_93 : decode cX2_apart 93 = .ok (.aload_n 0, 1) := by decide +kernel
theorem dX2_apart_94 : decode cX2_apart 94 = .ok (.getfield 40, 3) := by decide +kernel
theorem dX2_apart_97 : decode cX2_apart 97 = .ok (.iconst 3, 1) := by decide +kernel
theorem dX2_apart_98 : decode cX2_apart 98 = .ok (.iadd, 1) := by decide +kernel
theorem dX2_apart_99 : decode cX2_apart 99 = .ok (.if_icmp .ge 17, 3) := by decide +kernel
theorem dX2_apart_102 : decode cX2_apart 102 = .ok (.aload_n 0, 1) := by decide +kernel
theorem dX2_apart_103 : decode cX2_apart 103 = .ok (.getfield 7, 3) := by decide +kernel
theorem dX2_apart_106 : decode cX2_apart 106 = .ok (.iload 6, 2) := by decide +kernel
theorem dX2_apart_108 : decode cX2_apart 108 = .ok (.iconst 0, 1) := by decide +kernel
theorem dX2_apart_109 : decode cX2_apart 109 = .ok (.iastore, 1) := by decide +kernel
theorem dX2_apart_110 : decode cX2_apart 110 = .ok (.iinc 6 1, 3) := by decide +kernel
theorem dX2_apart_113 : decode cX2_apart 113 = .ok (.goto (-22), 3) := by decide +kernel
theorem dX2_apart_116 : decode cX2_apart 116 = .ok (.aload_n 0, 1) := by decide +kernel
theorem dX2_apart_117 : decode cX2_apart 117 = .ok (.aload_n 0, 1) := by decide +kernel
theorem dX2_apart_118 : decode cX2_apart 118 = .ok (.getfield 40, 3) := by decide +kernel
theorem dX2_apart_121 : decode cX2_apart 121 = .ok (.iload 4, 2) := by decide +kernel
theorem dX2_apart_123 : decode cX2_apart 123 = .ok (.iload 5, 2) := by decide +kernel
theorem dX2_apart_125 : decode cX2_apart 125 = .ok (.iload_n 2, 1) := by decide +kernel
theorem dX2_apart_126 : decode cX2_apart 126 = .ok (.ineg, 1) := by decide +kernel
theorem dX2_apart_127 : decode cX2_apart 127 = .ok (.invokevirtual 36, 3) := by decide +kernel
theorem dX2_apart_130 : decode cX2_apart 130 = .ok (.aload_n 0, 1) := by decide +kernel
theorem dX2_apart_131 : decode cX2_apart 131 = .ok (.aload_n 0, 1) := by decide +kernel
theorem dX2_apart_132 : decode cX2_apart 132 = .ok (.getfield 40, 3) := by decide +kernel
theorem dX2_apart_135 : decode cX2_apart 135 = .ok (.iload 5, 2) := by decide +kernel
theorem dX2_apart_137 : decode cX2_apart 137 = .ok (.iload 4, 2) := by decide +kernel
theorem dX2_apart_139 : decode cX2_apart 139 = .ok (.iload_n 2, 1) := by decide +kernel
theorem dX2_apart_140 : decode cX2_apart 140 = .ok (.ineg, 1) := by decide +kernel
theorem dX2_apart_141 : decode cX2_apart 141 = .ok (.invokevirtual 36, 3) := by decide +kernel
theorem dX2_apart_144 : decode cX2_apart 144 = .ok (.aload_n 0, 1) := by decide +kernel
theorem dX2_apart_145 : decode cX2_apart 145 = .ok (.aload_n 0, 1) := by decide +kernel
theorem dX2_apart_146 : decode cX2_apart 146 = .ok (.getfield 40, 3) := by decide +kernel
theorem dX2_apart_149 : decode cX2_apart 149 = .ok (.iconst 1, 1) := by decide +kernel
theorem dX2_apart_150 : decode cX2_apart 150 = .ok (.iadd, 1) := by decide +kernel
theorem dX2_apart_151 : decode cX2_apart 151 = .ok (.iload 4, 2) := by decide +kernel
theorem dX2_apart_153 : decode cX2_apart 153 = .ok (.iload 5, 2) := by decide +kernel
theorem dX2_apart_155 : decode cX2_apart 155 = .ok (.iload_n 3, 1) := by decide +kernel
theorem dX2_apart_156 : decode cX2_apart 156 = .ok (.invokevirtual 36, 3) := by decide +kernel
theorem dX2_apart_159 : decode cX2_apart 159 = .ok (.aload_n 0, 1) := by decide +kernel
theorem dX2_apart_160 : decode cX2_apart 160 = .ok (.aload_n 0, 1) := by decide +kernel
theorem dX2_apart_161 : decode cX2_apart 161 = .ok (.getfield 40, 3) := by decide +kernel
theorem dX2_apart_164 : decode cX2_apart 164 = .ok (.iconst 2, 1) := by decide +kernel
theorem dX2_apart_165 : decode cX2_apart 165 = .ok (.iadd, 1) := by decide +kernel
theorem dX2_apart_166 : decode cX2_apart 166 = .ok (.iload 5, 2) := by decide +kernel
theorem dX2_apart_168 : decode cX2_apart 168 = .ok (.iload 4, 2) := by decide +kernel
theorem dX2_apart_170 : decode cX2_apart 170 = .ok (.iload_n 3, 1) := by decide +kernel
theorem dX2_apart_171 : decode cX2_apart 171 = .ok (.invokevirtual 36, 3) := by decide +kernel
theorem dX2_apart_174 : decode cX2_apart 174 = .ok (.aload_n 0, 1) := by decide +kernel
theorem dX2_apart_175 : decode cX2_apart 175 = .ok (.dup, 1) := by decide +kernel
theorem dX2_apart_176 : decode cX2_apart 176 = .ok (.getfield 40, 3) := by decide +kernel
theorem dX2_apart_179 : decode cX2_apart 179 = .ok (.iconst 3, 1) := by decide +kernel
theorem dX2_apart_180 : decode cX2_apart 180 = .ok (.iadd, 1) := by decide +kernel
theorem dX2_apart_181 : decode cX2_apart 181 = .ok (.putfield 40, 3) := by decide +kernel
theorem dX2_apart_184 : decode cX2_apart 184 = .ok (.aload_n 0, 1) := by decide +kernel
theorem dX2_apart_185 : decode cX2_apart 185 = .ok (.getfield 40, 3) := by decide +kernel
theorem dX2_apart_188 : decode cX2_apart 188 = .ok (.ireturn, 1) := by decide +kernel
abbrev cX2_badEvent : ByteArray := prog_3_method_3_code
def yX2_badEvent : MethodName := ⟨RX2, "badEvent", "(I)Z"⟩
theorem dX2_badEvent_0 : decode cX2_badEvent 0 = .ok (.iload_n 1, 1) := by decide +kernel
theorem dX2_badEvent_1 : decode cX2_badEvent 1 = .ok (.ifCond .lt 11, 3) := by decide +kernel
theorem dX2_badEvent_4 : decode cX2_badEvent 4 = .ok (.iload_n 1, 1) := by decide +kernel
theorem dX2_badEvent_5 : decode cX2_badEvent 5 = .ok (.aload_n 0, 1) := by decide +kernel
theorem dX2_badEvent_6 : decode cX2_badEvent 6 = .ok (.getfield 22, 3) := by decide +kernel
theorem dX2_badEvent_9 : decode cX2_badEvent 9 = .ok (.if_icmp .lt 7, 3) := by decide +kernel
theorem dX2_badEvent_12 : decode cX2_badEvent 12 = .ok (.iconst 1, 1) := by decide +kernel
theorem dX2_badEvent_13 : decode cX2_badEvent 13 = .ok (.goto 4, 3) := by decide +kernel
theorem dX2_badEvent_16 : decode cX2_badEvent 16 = .ok (.iconst 0, 1) := by decide +kernel
theorem dX2_badEvent_17 : decode cX2_badEvent 17 = .ok (.ireturn, 1) := by decide +kernel
end
section
set_option maxRecDepth 100000
abbrev cX2_remove : ByteArray := prog_3_method_11_code
def yX2_remove : MethodName := ⟨RX2, "remove", "(I)I"⟩
theorem dX2_remove_0 : decode cX2_remove 0 = .ok (.iload_n 1, 1) := by decide +kernel
theorem dX2_remove_1 : decode cX2_remove 1 = .ok (.ifCond .lt 11, 3) := by decide +kernel
theorem dX2_remove_4 : decode cX2_remove 4 = .ok (.iload_n 1, 1) := by decide +kernel
theorem dX2_remove_5 : decode cX2_remove 5 = .ok (.aload_n 0, 1) := by decide +kernel
theorem dX2_remove_6 : decode cX2_remove 6 = .ok (.getfield 40, 3) := by decide +kernel
theorem dX2_remove_9 : decode cX2_remove 9 = .ok (.if_icmp .lt 5, 3) := by decide +kernel
theorem dX2_remove_12 : decode cX2_remove 12 = .ok (.iconst (-1), 1) := by decide +kernel
theorem dX2_remove_13 : decode cX2_remove 13 = .ok (.ireturn, 1) := by decide +kernel
theorem dX2_remove_14 : decode cX2_remove 14 = .ok (.iload_n 1, 1) := by decide +kernel
theorem dX2_remove_15 : decode cX2_remove 15 = .ok (.istore_n 2, 1) := by decide +kernel
theorem dX2_remove_16 : decode cX2_remove 16 = .ok (.iload_n 2, 1) := by decide +kernel
theorem dX2_remove_17 : decode cX2_remove 17 = .ok (.aload_n 0, 1) := by decide +kernel
theorem dX2_remove_18 : decode cX2_remove 18 = .ok (.getfield 40, 3) := by decide +kernel
theorem dX2_remove_21 : decode cX2_remove 21 = .ok (.iconst 1, 1) := by decide +kernel
theorem dX2_remove_22 : decode cX2_remove 22 = .ok (.isub, 1) := by decide +kernel
theorem dX2_remove_23 : decode cX2_remove 23 = .ok (.if_icmp .ge 23, 3) := by decide +kernel
theorem dX2_remove_26 : decode cX2_remove 26 = .ok (.iload_n 2, 1) := by decide +kernel
theorem dX2_remove_27 : decode cX2_remove 27 = .ok (.bipush 7, 2) := by decide +kernel
theorem dX2_remove_29 : decode cX2_remove 29 = .ok (.if_icmp .ge 17, 3) := by decide +kernel
theorem dX2_remove_32 : decode cX2_remove 32 = .ok (.aload_n 0, 1) := by decide +kernel
theorem dX2_remove_33 : decode cX2_remove 33 = .ok (.iload_n 2, 1) := by decide +kernel
theorem dX2_remove_34 : decode cX2_remove 34 = .ok (.iconst 1, 1) := by decide +kernel
theorem dX2_remove_35 : decode cX2_remove 35 = .ok (.iadd, 1) := by decide +kernel
theorem dX2_remove_36 : decode cX2_remove 36 = .ok (.iload_n 2, 1) := by decide +kernel
theorem dX2_remove_37 : decode cX2_remove 37 = .ok (.invokevirtual 43, 3) := by decide +kernel
theorem dX2_remove_40 : decode cX2_remove 40 = .ok (.iinc 2 1, 3) := by decide +kernel
theorem dX2_remove_43 : decode cX2_remove 43 = .ok (.goto (-27), 3) := by decide +kernel
theorem dX2_remove_46 : decode cX2_remove 46 = .ok (.aload_n 0, 1) := by decide +kernel
theorem dX2_remove_47 : decode cX2_remove 47 = .ok (.dup, 1) := by decide +kernel
theorem dX2_remove_48 : decode cX2_remove 48 = .ok (.getfield 40, 3) := by decide +kernel
theorem dX2_remove_51 : decode cX2_remove 51 = .ok (.iconst 1, 1) := by decide +kernel
theorem dX2_remove_52 : decode cX2_remove 52 = .ok (.isub, 1) := by decide +kernel
theorem dX2_remove_53 : decode cX2_remove 53 = .ok (.putfield 40, 3) := by decide +kernel
theorem dX2_remove_56 : decode cX2_remove 56 = .ok (.aload_n 0, 1) := by decide +kernel
theorem dX2_remove_57 : decode cX2_remove 57 = .ok (.getfield 40, 3) := by decide +kernel
theorem dX2_remove_60 : decode cX2_remove 60 = .ok (.ireturn, 1) := by decide +kernel
abbrev cX2_size : ByteArray := prog_3_method_12_code
def yX2_size : MethodName := ⟨RX2, "size", "()I"⟩
theorem dX2_size_0 : decode cX2_size 0 = .ok (.aload_n 0, 1) := by decide +kernel
theorem dX2_size_1 : decode cX2_size 1 = .ok (.getfield 40, 3) := by decide +kernel
theorem dX2_size_4 : decode cX2_size 4 = .ok (.ireturn, 1) := by decide +kernel
abbrev cX2_solvable : ByteArray := prog_3_method_18_code
def yX2_solvable : MethodName := ⟨RX2, "solvable", "()I"⟩
theorem dX2_solvable_0 : decode cX2_solvable 0 = .ok (.aload_n 0, 1) := by decide +kernel
theorem dX2_solvable_1 : decode cX2_solvable 1 = .ok (.aload_n 0, 1) := by decide +kernel
theorem dX2_solvable_2 : decode cX2_solvable 2 = .ok (.getfield 40, 3) := by decide +kernel
theorem dX2_solvable_5 : decode cX2_solvable 5 = .ok (.invokevirtual 62, 3) := by decide +kernel
theorem dX2_solvable_8 : decode cX2_solvable 8 = .ok (.ifCond .eq 7, 3) := by decide +kernel
theorem dX2_solvable_11 : decode cX2_solvable 11 = .ok (.iconst 1, 1) := by decide +kernel
theorem dX2_solvable_12 : decode cX2_solvable 12 = .ok (.goto 4, 3) := by decide +kernel
theorem dX2_solvable_15 : decode cX2_solvable 15 = .ok (.iconst 0, 1) := by decide +kernel
theorem dX2_solvable_16 : decode cX2_solvable 16 = .ok (.ireturn, 1) := by decide +kernel
abbrev cX2_possible : ByteArray := prog_3_method_17_code
def yX2_possible : MethodName := ⟨RX2, "possible", "(I)Z"⟩
theorem dX2_possible_0 : decode cX2_possible 0 = .ok (.iconst 0, 1) := by decide +kernel
theorem dX2_possible_1 : decode cX2_possible 1 = .ok (.istore_n 2, 1) := by decide +kernel
theorem dX2_possible_2 : decode cX2_possible 2 = .ok (.iload_n 2, 1) := by decide +kernel
theorem dX2_possible_3 : decode cX2_possible 3 = .ok (.aload_n 0, 1) := by decide +kernel
theorem dX2_possible_4 : decode cX2_possible 4 = .ok (.getfield 26, 3) := by decide +kernel
theorem dX2_possible_7 : decode cX2_possible 7 = .ok (.if_icmp .ge 21, 3) := by decide +kernel
theorem dX2_possible_10 : decode cX2_possible 10 = .ok (.aload_n 0, 1) := by decide +kernel
theorem dX2_possible_11 : decode cX2_possible 11 = .ok (.iload_n 2, 1) := by decide +kernel
theorem dX2_possible_12 : decode cX2_possible 12 = .ok (.iload_n 1, 1) := by decide +kernel
theorem dX2_possible_13 : decode cX2_possible 13 = .ok (.iconst (-1), 1) := by decide +kernel
theorem dX2_possible_14 : decode cX2_possible 14 = .ok (.invokevirtual 58, 3) := by decide +kernel
theorem dX2_possible_17 : decode cX2_possible 17 = .ok (.ifCond .eq 5, 3) := by decide +kernel
theorem dX2_possible_20 : decode cX2_possible 20 = .ok (.iconst 1, 1) := by decide +kernel
theorem dX2_possible_21 : decode cX2_possible 21 = .ok (.ireturn, 1) := by decide +kernel
theorem dX2_possible_22 : decode cX2_possible 22 = .ok (.iinc 2 1, 3) := by decide +kernel
theorem dX2_possible_25 : decode cX2_possible 25 = .ok (.goto (-23), 3) := by decide +kernel
theorem dX2_possible_28 : decode cX2_possible 28 = .ok (.iconst 0, 1) := by decide +kernel
theorem dX2_possible_29 : decode cX2_possible 29 = .ok (.ireturn, 1) := by decide +kernel
abbrev cX2_meetsFirst : ByteArray := prog_3_method_15_code
def yX2_meetsFirst : MethodName := ⟨RX2, "meetsFirst", "(III)Z"⟩
theorem dX2_meetsFirst_0 : decode cX2_meetsFirst 0 = .ok (.iconst 0, 1) := by decide +kernel
theorem dX2_meetsFirst_1 : decode cX2_meetsFirst 1 = .ok (.istore 4, 2) := by decide +kernel
theorem dX2_meetsFirst_3 : decode cX2_meetsFirst 3 = .ok (.iload 4, 2) := by decide +kernel
theorem dX2_meetsFirst_5 : decode cX2_meetsFirst 5 = .ok (.iload_n 2, 1) := by decide +kernel
theorem dX2_meetsFirst_6 : decode cX2_meetsFirst 6 = .ok (.if_icmp .ge 34, 3) := by decide +kernel
theorem dX2_meetsFirst_9 : decode cX2_meetsFirst 9 = .ok (.iload 4, 2) := by decide +kernel
theorem dX2_meetsFirst_11 : decode cX2_meetsFirst 11 = .ok (.bipush 8, 2) := by decide +kernel
theorem dX2_meetsFirst_13 : decode cX2_meetsFirst 13 = .ok (.if_icmp .ge 27, 3) := by decide +kernel
theorem dX2_meetsFirst_16 : decode cX2_meetsFirst 16 = .ok (.iload 4, 2) := by decide +kernel
theorem dX2_meetsFirst_18 : decode cX2_meetsFirst 18 = .ok (.iload_n 3, 1) := by decide +kernel
theorem dX2_meetsFirst_19 : decode cX2_meetsFirst 19 = .ok (.if_icmp .eq 15, 3) := by decide +kernel
theorem dX2_meetsFirst_22 : decode cX2_meetsFirst 22 = .ok (.aload_n 0, 1) := by decide +kernel
theorem dX2_meetsFirst_23 : decode cX2_meetsFirst 23 = .ok (.iload 4, 2) := by decide +kernel
theorem dX2_meetsFirst_25 : decode cX2_meetsFirst 25 = .ok (.iload_n 1, 1) := by decide +kernel
theorem dX2_meetsFirst_26 : decode cX2_meetsFirst 26 = .ok (.invokevirtual 54, 3) := by decide +kernel
theorem dX2_meetsFirst_29 : decode cX2_meetsFirst 29 = .ok (.ifCond .ne 5, 3) := by decide +kernel
theorem dX2_meetsFirst_32 : decode cX2_meetsFirst 32 = .ok (.iconst 0, 1) := by decide +kernel
theorem dX2_meetsFirst_33 : decode cX2_meetsFirst 33 = .ok (.ireturn, 1) := by decide +kernel
theorem dX2_meetsFirst_34 : decode cX2_meetsFirst 34 = .ok (.iinc 4 1, 3) := by decide +kernel
theorem dX2_meetsFirst_37 : decode cX2_meetsFirst 37 = .ok (.goto (-34), 3) := by decide +kernel
theorem dX2_meetsFirst_40 : decode cX2_meetsFirst 40 = .ok (.iconst 1, 1) := by decide +kernel
theorem dX2_meetsFirst_41 : decode cX2_meetsFirst 41 = .ok (.ireturn, 1) := by decide +kernel
abbrev cX2_met : ByteArray := prog_3_method_14_code
def yX2_met : MethodName := ⟨RX2, "met", "(II)Z"⟩
theorem dX2_met_0 : decode cX2_met 0 = .ok (.iconst 0, 1) := by decide +kernel
theorem dX2_met_1 : decode cX2_met 1 = .ok (.istore_n 3, 1) := by decide +kernel
theorem dX2_met_2 : decode cX2_met 2 = .ok (.iload_n 3, 1) := by decide +kernel
theorem dX2_met_3 : decode cX2_met 3 = .ok (.aload_n 0, 1) := by decide +kernel
theorem dX2_met_4 : decode cX2_met 4 = .ok (.getfield 7, 3) := by decide +kernel
theorem dX2_met_7 : decode cX2_met 7 = .ok (.iload_n 1, 1) := by decide +kernel
theorem dX2_met_8 : decode cX2_met 8 = .ok (.iaload, 1) := by decide +kernel
theorem dX2_met_9 : decode cX2_met 9 = .ok (.if_icmp .ge 68, 3) := by decide +kernel
theorem dX2_met_12 : decode cX2_met 12 = .ok (.iload_n 3, 1) := by decide +kernel
theorem dX2_met_13 : decode cX2_met 13 = .ok (.iconst 3, 1) := by decide +kernel
theorem dX2_met_14 : decode cX2_met 14 = .ok (.if_icmp .ge 63, 3) := by decide +kernel
theorem dX2_met_17 : decode cX2_met 17 = .ok (.aload_n 0, 1) := by decide +kernel
theorem dX2_met_18 : decode cX2_met 18 = .ok (.getfield 13, 3) := by decide +kernel
theorem dX2_met_21 : decode cX2_met 21 = .ok (.iconst 3, 1) := by decide +kernel
theorem dX2_met_22 : decode cX2_met 22 = .ok (.iload_n 1, 1) := by decide +kernel
theorem dX2_met_23 : decode cX2_met 23 = .ok (.imul, 1) := by decide +kernel
theorem dX2_met_24 : decode cX2_met 24 = .ok (.iload_n 3, 1) := by decide +kernel
theorem dX2_met_25 : decode cX2_met 25 = .ok (.iadd, 1) := by decide +kernel
theorem dX2_met_26 : decode cX2_met 26 = .ok (.iaload, 1) := by decide +kernel
theorem dX2_met_27 : decode cX2_met 27 = .ok (.istore 4, 2) := by decide +kernel
theorem dX2_met_29 : decode cX2_met 29 = .ok (.aload_n 0, 1) := by decide +kernel
theorem dX2_met_30 : decode cX2_met 30 = .ok (.getfield 16, 3) := by decide +kernel
theorem dX2_met_33 : decode cX2_met 33 = .ok (.iconst 3, 1) := by decide +kernel
theorem dX2_met_34 : decode cX2_met 34 = .ok (.iload_n 1, 1) := by decide +kernel
theorem dX2_met_35 : decode cX2_met 35 = .ok (.imul, 1) := by decide +kernel
theorem dX2_met_36 : decode cX2_met 36 = .ok (.iload_n 3, 1) := by decide +kernel
theorem dX2_met_37 : decode cX2_met 37 = .ok (.iadd, 1) := by decide +kernel
theorem dX2_met_38 : decode cX2_met 38 = .ok (.iaload, 1) := by decide +kernel
theorem dX2_met_39 : decode cX2_met 39 = .ok (.istore 5, 2) := by decide +kernel
theorem dX2_met_41 : decode cX2_met 41 = .ok (.aload_n 0, 1) := by decide +kernel
theorem dX2_met_42 : decode cX2_met 42 = .ok (.iload_n 2, 1) := by decide +kernel
theorem dX2_met_43 : decode cX2_met 43 = .ok (.iload 4, 2) := by decide +kernel
theorem dX2_met_45 : decode cX2_met 45 = .ok (.invokevirtual 50, 3) := by decide +kernel
theorem dX2_met_48 : decode cX2_met 48 = .ok (.aload_n 0, 1) := by decide +kernel
theorem dX2_met_49 : decode cX2_met 49 = .ok (.iload_n 2, 1) := by decide +kernel
theorem dX2_met_50 : decode cX2_met 50 = .ok (.iload 5, 2) := by decide +kernel
theorem dX2_met_52 : decode cX2_met 52 = .ok (.invokevirtual 50, 3) := by decide +kernel
theorem dX2_met_55 : decode cX2_met 55 = .ok (.isub, 1) := by decide +kernel
theorem dX2_met_56 : decode cX2_met 56 = .ok (.aload_n 0, 1) := by decide +kernel
theorem dX2_met_57 : decode cX2_met 57 = .ok (.getfield 19, 3) := by decide +kernel
theorem dX2_met_60 : decode cX2_met 60 = .ok (.iconst 3, 1) := by decide +kernel
theorem dX2_met_61 : decode cX2_met 61 = .ok (.iload_n 1, 1) := by decide +kernel
theorem dX2_met_62 : decode cX2_met 62 = .ok (.imul, 1) := by decide +kernel
theorem dX2_met_63 : decode cX2_met 63 = .ok (.iload_n 3, 1) := by decide +kernel
theorem dX2_met_64 : decode cX2_met 64 = .ok (.iadd, 1) := by decide +kernel
theorem dX2_met_65 : decode cX2_met 65 = .ok (.iaload, 1) := by decide +kernel
theorem dX2_met_66 : decode cX2_met 66 = .ok (.if_icmp .gt 5, 3) := by decide +kernel
theorem dX2_met_69 : decode cX2_met 69 = .ok (.iconst 1, 1) := by decide +kernel
theorem dX2_met_70 : decode cX2_met 70 = .ok (.ireturn, 1) := by decide +kernel
theorem dX2_met_71 : decode cX2_met 71 = .ok (.iinc 3 1, 3) := by decide +kernel
theorem dX2_met_74 : decode cX2_met 74 = .ok (.goto (-72), 3) := by decide +kernel
theorem dX2_met_77 : decode cX2_met 77 = .ok (.iconst 0, 1) := by decide +kernel
theorem dX2_met_78 : decode cX2_met 78 = .ok (.ireturn, 1) := by decide +kernel
abbrev cX2_time : ByteArray := prog_3_method_13_code
def yX2_time : MethodName := ⟨RX2, "time", "(II)I"⟩
theorem dX2_time_0 : decode cX2_time 0 = .ok (.iload_n 2, 1) := by decide +kernel
theorem dX2_time_1 : decode cX2_time 1 = .ok (.aload_n 0, 1) := by decide +kernel
theorem dX2_time_2 : decode cX2_time 2 = .ok (.getfield 22, 3) := by decide +kernel
theorem dX2_time_5 : decode cX2_time 5 = .ok (.if_icmp .lt 7, 3) := by decide +kernel
theorem dX2_time_8 : decode cX2_time 8 = .ok (.iconst 0, 1) := by decide +kernel
theorem dX2_time_9 : decode cX2_time 9 = .ok (.goto 18, 3) := by decide +kernel
theorem dX2_time_12 : decode cX2_time 12 = .ok (.iload_n 1, 1) := by decide +kernel
theorem dX2_time_13 : decode cX2_time 13 = .ok (.iconst 3, 1) := by decide +kernel
theorem dX2_time_14 : decode cX2_time 14 = .ok (.aload_n 0, 1) := by decide +kernel
theorem dX2_time_15 : decode cX2_time 15 = .ok (.getfield 22, 3) := by decide +kernel
theorem dX2_time_18 : decode cX2_time 18 = .ok (.iconst 1, 1) := by decide +kernel
theorem dX2_time_19 : decode cX2_time 19 = .ok (.isub, 1) := by decide +kernel
theorem dX2_time_20 : decode cX2_time 20 = .ok (.iload_n 2, 1) := by decide +kernel
theorem dX2_time_21 : decode cX2_time 21 = .ok (.isub, 1) := by decide +kernel
theorem dX2_time_22 : decode cX2_time 22 = .ok (.imul, 1) := by decide +kernel
theorem dX2_time_23 : decode cX2_time 23 = .ok (.ishr, 1) := by decide +kernel
theorem dX2_time_24 : decode cX2_time 24 = .ok (.bipush 7, 2) := by decide +kernel
theorem dX2_time_26 : decode cX2_time 26 = .ok (.iand, 1) := by decide +kernel
theorem dX2_time_27 : decode cX2_time 27 = .ok (.ireturn, 1) := by decide +kernel
abbrev cX2_earliest : ByteArray := prog_3_method_20_code
def yX2_earliest : MethodName := ⟨RX2, "earliest", "(I)I"⟩
theorem dX2_earliest_0 : decode cX2_earliest 0 = .ok (.aload_n 0, 1) := by decide +kernel
theorem dX2_earliest_1 : decode cX2_earliest 1 = .ok (.iload_n 1, 1) := by decide +kernel
theorem dX2_earliest_2 : decode cX2_earliest 2 = .ok (.invokevirtual 47, 3) := by decide +kernel
theorem dX2_earliest_5 : decode cX2_earliest 5 = .ok (.ifCond .eq 5, 3) := by decide +kernel
theorem dX2_earliest_8 : decode cX2_earliest 8 = .ok (.iconst (-1), 1) := by decide +kernel
theorem dX2_earliest_9 : decode cX2_earliest 9 = .ok (.ireturn, 1) := by decide +kernel
theorem dX2_earliest_10 : decode cX2_earliest 10 = .ok (.aload_n 0, 1) := by decide +kernel
theorem dX2_earliest_11 : decode cX2_earliest 11 = .ok (.aload_n 0, 1) := by decide +kernel
theorem dX2_earliest_12 : decode cX2_earliest 12 = .ok (.getfield 22, 3) := by decide +kernel
theorem dX2_earliest_15 : decode cX2_earliest 15 = .ok (.iload_n 1, 1) := by decide +kernel
theorem dX2_earliest_16 : decode cX2_earliest 16 = .ok (.invokevirtual 68, 3) := by decide +kernel
theorem dX2_earliest_19 : decode cX2_earliest 19 = .ok (.istore_n 2, 1) := by decide +kernel
theorem dX2_earliest_20 : decode cX2_earliest 20 = .ok (.iload_n 2, 1) := by decide +kernel
theorem dX2_earliest_21 : decode cX2_earliest 21 = .ok (.sipush (-200), 3) := by decide +kernel
theorem dX2_earliest_24 : decode cX2_earliest 24 = .ok (.if_icmp .ne 8, 3) := by decide +kernel
theorem dX2_earliest_27 : decode cX2_earliest 27 = .ok (.bipush (-2), 2) := by decide +kernel
theorem dX2_earliest_29 : decode cX2_earliest 29 = .ok (.goto 5, 3) := by decide +kernel
theorem dX2_earliest_32 : decode cX2_earliest 32 = .ok (.iload_n 2, 1) := by decide +kernel
theorem dX2_earliest_33 : decode cX2_earliest 33 = .ok (.ineg, 1) := by decide +kernel
theorem dX2_earliest_34 : decode cX2_earliest 34 = .ok (.ireturn, 1) := by decide +kernel
abbrev cX2_greatest : ByteArray := prog_3_method_19_code
def yX2_greatest : MethodName := ⟨RX2, "greatest", "(II)I"⟩
theorem dX2_greatest_0 : decode cX2_greatest 0 = .ok (.sipush (-200), 3) := by decide +kernel
theorem dX2_greatest_3 : decode cX2_greatest 3 = .ok (.istore_n 3, 1) := by decide +kernel
theorem dX2_greatest_4 : decode cX2_greatest 4 = .ok (.iconst 0, 1) := by decide +kernel
theorem dX2_greatest_5 : decode cX2_greatest 5 = .ok (.istore 4, 2) := by decide +kernel
theorem dX2_greatest_7 : decode cX2_greatest 7 = .ok (.iload 4, 2) := by decide +kernel
theorem dX2_greatest_9 : decode cX2_greatest 9 = .ok (.aload_n 0, 1) := by decide +kernel
theorem dX2_greatest_10 : decode cX2_greatest 10 = .ok (.getfield 26, 3) := by decide +kernel
theorem dX2_greatest_13 : decode cX2_greatest 13 = .ok (.if_icmp .ge 44, 3) := by decide +kernel
theorem dX2_greatest_16 : decode cX2_greatest 16 = .ok (.aload_n 0, 1) := by decide +kernel
theorem dX2_greatest_17 : decode cX2_greatest 17 = .ok (.iload 4, 2) := by decide +kernel
theorem dX2_greatest_19 : decode cX2_greatest 19 = .ok (.iload_n 1, 1) := by decide +kernel
theorem dX2_greatest_20 : decode cX2_greatest 20 = .ok (.invokevirtual 50, 3) := by decide +kernel
theorem dX2_greatest_23 : decode cX2_greatest 23 = .ok (.aload_n 0, 1) := by decide +kernel
theorem dX2_greatest_24 : decode cX2_greatest 24 = .ok (.iload 4, 2) := by decide +kernel
theorem dX2_greatest_26 : decode cX2_greatest 26 = .ok (.iload_n 2, 1) := by decide +kernel
theorem dX2_greatest_27 : decode cX2_greatest 27 = .ok (.invokevirtual 50, 3) := by decide +kernel
theorem dX2_greatest_30 : decode cX2_greatest 30 = .ok (.isub, 1) := by decide +kernel
theorem dX2_greatest_31 : decode cX2_greatest 31 = .ok (.istore 5, 2) := by decide +kernel
theorem dX2_greatest_33 : decode cX2_greatest 33 = .ok (.iload 5, 2) := by decide +kernel
theorem dX2_greatest_35 : decode cX2_greatest 35 = .ok (.iload_n 3, 1) := by decide +kernel
theorem dX2_greatest_36 : decode cX2_greatest 36 = .ok (.if_icmp .le 15, 3) := by decide +kernel
theorem dX2_greatest_39 : decode cX2_greatest 39 = .ok (.aload_n 0, 1) := by decide +kernel
theorem dX2_greatest_40 : decode cX2_greatest 40 = .ok (.iload 4, 2) := by decide +kernel
theorem dX2_greatest_42 : decode cX2_greatest 42 = .ok (.invokevirtual 65, 3) := by decide +kernel
theorem dX2_greatest_45 : decode cX2_greatest 45 = .ok (.ifCond .eq 6, 3) := by decide +kernel
theorem dX2_greatest_48 : decode cX2_greatest 48 = .ok (.iload 5, 2) := by decide +kernel
theorem dX2_greatest_50 : decode cX2_greatest 50 = .ok (.istore_n 3, 1) := by decide +kernel
theorem dX2_greatest_51 : decode cX2_greatest 51 = .ok (.iinc 4 1, 3) := by decide +kernel
theorem dX2_greatest_54 : decode cX2_greatest 54 = .ok (.goto (-47), 3) := by decide +kernel
theorem dX2_greatest_57 : decode cX2_greatest 57 = .ok (.iload_n 3, 1) := by decide +kernel
theorem dX2_greatest_58 : decode cX2_greatest 58 = .ok (.ireturn, 1) := by decide +kernel
abbrev cX2_solution : ByteArray := prog_3_method_16_code
def yX2_solution : MethodName := ⟨RX2, "solution", "(I)Z"⟩
theorem dX2_solution_0 : decode cX2_solution 0 = .ok (.aload_n 0, 1) := by decide +kernel
theorem dX2_solution_1 : decode cX2_solution 1 = .ok (.iload_n 1, 1) := by decide +kernel
theorem dX2_solution_2 : decode cX2_solution 2 = .ok (.aload_n 0, 1) := by decide +kernel
theorem dX2_solution_3 : decode cX2_solution 3 = .ok (.getfield 40, 3) := by decide +kernel
theorem dX2_solution_6 : decode cX2_solution 6 = .ok (.iconst (-1), 1) := by decide +kernel
theorem dX2_solution_7 : decode cX2_solution 7 = .ok (.invokevirtual 58, 3) := by decide +kernel
theorem dX2_solution_10 : decode cX2_solution 10 = .ok (.ireturn, 1) := by decide +kernel
abbrev cX2_latest : ByteArray := prog_3_method_21_code
def yX2_latest : MethodName := ⟨RX2, "latest", "(I)I"⟩
theorem dX2_latest_0 : decode cX2_latest 0 = .ok (.aload_n 0, 1) := by decide +kernel
theorem dX2_latest_1 : decode cX2_latest 1 = .ok (.iload_n 1, 1) := by decide +kernel
theorem dX2_latest_2 : decode cX2_latest 2 = .ok (.invokevirtual 47, 3) := by decide +kernel
theorem dX2_latest_5 : decode cX2_latest 5 = .ok (.ifCond .eq 5, 3) := by decide +kernel
theorem dX2_latest_8 : decode cX2_latest 8 = .ok (.iconst (-1), 1) := by decide +kernel
theorem dX2_latest_9 : decode cX2_latest 9 = .ok (.ireturn, 1) := by decide +kernel
theorem dX2_latest_10 : decode cX2_latest 10 = .ok (.aload_n 0, 1) := by decide +kernel
theorem dX2_latest_11 : decode cX2_latest 11 = .ok (.iload_n 1, 1) := by decide +kernel
theorem dX2_latest_12 : decode cX2_latest 12 = .ok (.aload_n 0, 1) := by decide +kernel
theorem dX2_latest_13 : decode cX2_latest 13 = .ok (.getfield 22, 3) := by decide +kernel
theorem dX2_latest_16 : decode cX2_latest 16 = .ok (.invokevirtual 68, 3) := by decide +kernel
theorem dX2_latest_19 : decode cX2_latest 19 = .ok (.istore_n 2, 1) := by decide +kernel
theorem dX2_latest_20 : decode cX2_latest 20 = .ok (.iload_n 2, 1) := by decide +kernel
theorem dX2_latest_21 : decode cX2_latest 21 = .ok (.sipush (-200), 3) := by decide +kernel
theorem dX2_latest_24 : decode cX2_latest 24 = .ok (.if_icmp .ne 8, 3) := by decide +kernel
theorem dX2_latest_27 : decode cX2_latest 27 = .ok (.bipush (-2), 2) := by decide +kernel
theorem dX2_latest_29 : decode cX2_latest 29 = .ok (.goto 4, 3) := by decide +kernel
theorem dX2_latest_32 : decode cX2_latest 32 = .ok (.iload_n 2, 1) := by decide +kernel
theorem dX2_latest_33 : decode cX2_latest 33 = .ok (.ireturn, 1) := by decide +kernel
abbrev cX2_widest : ByteArray := prog_3_method_22_code
def yX2_widest : MethodName := ⟨RX2, "widest", "(II)I"⟩
theorem dX2_widest_0 : decode cX2_widest 0 = .ok (.aload_n 0, 1) := by decide +kernel
theorem dX2_widest_1 : decode cX2_widest 1 = .ok (.iload_n 1, 1) := by decide +kernel
theorem dX2_widest_2 : decode cX2_widest 2 = .ok (.invokevirtual 29, 3) := by decide +kernel
theorem dX2_widest_5 : decode cX2_widest 5 = .ok (.ifCond .ne 11, 3) := by decide +kernel
theorem dX2_widest_8 : decode cX2_widest 8 = .ok (.aload_n 0, 1) := by decide +kernel
theorem dX2_widest_9 : decode cX2_widest 9 = .ok (.iload_n 2, 1) := by decide +kernel
theorem dX2_widest_10 : decode cX2_widest 10 = .ok (.invokevirtual 29, 3) := by decide +kernel
theorem dX2_widest_13 : decode cX2_widest 13 = .ok (.ifCond .eq 8, 3) := by decide +kernel
theorem dX2_widest_16 : decode cX2_widest 16 = .ok (.bipush (-100), 2) := by decide +kernel
theorem dX2_widest_18 : decode cX2_widest 18 = .ok (.goto 9, 3) := by decide +kernel
theorem dX2_widest_21 : decode cX2_widest 21 = .ok (.aload_n 0, 1) := by decide +kernel
theorem dX2_widest_22 : decode cX2_widest 22 = .ok (.iload_n 1, 1) := by decide +kernel
theorem dX2_widest_23 : decode cX2_widest 23 = .ok (.iload_n 2, 1) := by decide +kernel
theorem dX2_widest_24 : decode cX2_widest 24 = .ok (.invokevirtual 68, 3) := by decide +kernel
theorem dX2_widest_27 : decode cX2_widest 27 = .ok (.ireturn, 1) := by decide +kernel
abbrev cX2_next : ByteArray := prog_3_method_23_code
def yX2_next : MethodName := ⟨RX2, "next", "(I)I"⟩
theorem dX2_next_0 : decode cX2_next 0 = .ok (.iconst 0, 1) := by decide +kernel
theorem dX2_next_1 : decode cX2_next 1 = .ok (.istore_n 2, 1) := by decide +kernel
theorem dX2_next_2 : decode cX2_next 2 = .ok (.iload_n 2, 1) := by decide +kernel
theorem dX2_next_3 : decode cX2_next 3 = .ok (.aload_n 0, 1) := by decide +kernel
theorem dX2_next_4 : decode cX2_next 4 = .ok (.getfield 26, 3) := by decide +kernel
theorem dX2_next_7 : decode cX2_next 7 = .ok (.if_icmp .ge 24, 3) := by decide +kernel
theorem dX2_next_10 : decode cX2_next 10 = .ok (.iload_n 2, 1) := by decide +kernel
theorem dX2_next_11 : decode cX2_next 11 = .ok (.iload_n 1, 1) := by decide +kernel
theorem dX2_next_12 : decode cX2_next 12 = .ok (.if_icmp .le 13, 3) := by decide +kernel
theorem dX2_next_15 : decode cX2_next 15 = .ok (.aload_n 0, 1) := by decide +kernel
theorem dX2_next_16 : decode cX2_next 16 = .ok (.iload_n 2, 1) := by decide +kernel
theorem dX2_next_17 : decode cX2_next 17 = .ok (.invokevirtual 65, 3) := by decide +kernel
theorem dX2_next_20 : decode cX2_next 20 = .ok (.ifCond .eq 5, 3) := by decide +kernel
theorem dX2_next_23 : decode cX2_next 23 = .ok (.iload_n 2, 1) := by decide +kernel
theorem dX2_next_24 : decode cX2_next 24 = .ok (.ireturn, 1) := by decide +kernel
theorem dX2_next_25 : decode cX2_next 25 = .ok (.iinc 2 1, 3) := by decide +kernel
theorem dX2_next_28 : decode cX2_next 28 = .ok (.goto (-26), 3) := by decide +kernel
theorem dX2_next_31 : decode cX2_next 31 = .ok (.iconst (-1), 1) := by decide +kernel
theorem dX2_next_32 : decode cX2_next 32 = .ok (.ireturn, 1) := by decide +kernel
abbrev cX2_meets : ByteArray := prog_3_method_24_code
def yX2_meets : MethodName := ⟨RX2, "meets", "(I)I"⟩
theorem dX2_meets_0 : decode cX2_meets 0 = .ok (.iload_n 1, 1) := by decide +kernel
theorem dX2_meets_1 : decode cX2_meets 1 = .ok (.ifCond .lt 11, 3) := by decide +kernel
theorem dX2_meets_4 : decode cX2_meets 4 = .ok (.iload_n 1, 1) := by decide +kernel
theorem dX2_meets_5 : decode cX2_meets 5 = .ok (.aload_n 0, 1) := by decide +kernel
theorem dX2_meets_6 : decode cX2_meets 6 = .ok (.getfield 26, 3) := by decide +kernel
theorem dX2_meets_9 : decode cX2_meets 9 = .ok (.if_icmp .lt 5, 3) := by decide +kernel
theorem dX2_meets_12 : decode cX2_meets 12 = .ok (.iconst (-1), 1) := by decide +kernel
theorem dX2_meets_13 : decode cX2_meets 13 = .ok (.ireturn, 1) := by decide +kernel
theorem dX2_meets_14 : decode cX2_meets 14 = .ok (.aload_n 0, 1) := by decide +kernel
theorem dX2_meets_15 : decode cX2_meets 15 = .ok (.iload_n 1, 1) := by decide +kernel
theorem dX2_meets_16 : decode cX2_meets 16 = .ok (.invokevirtual 65, 3) := by decide +kernel
theorem dX2_meets_19 : decode cX2_meets 19 = .ok (.ifCond .eq 7, 3) := by decide +kernel
theorem dX2_meets_22 : decode cX2_meets 22 = .ok (.iconst 1, 1) := by decide +kernel
theorem dX2_meets_23 : decode cX2_meets 23 = .ok (.goto 4, 3) := by decide +kernel
theorem dX2_meets_26 : decode cX2_meets 26 = .ok (.iconst 0, 1) := by decide +kernel
theorem dX2_meets_27 : decode cX2_meets 27 = .ok (.ireturn, 1) := by decide +kernel
abbrev cX2_shortest : ByteArray := prog_3_method_25_code
def yX2_shortest : MethodName := ⟨RX2, "shortest", "()I"⟩
theorem dX2_shortest_0 : decode cX2_shortest 0 = .ok (.iconst (-1), 1) := by decide +kernel
theorem dX2_shortest_1 : decode cX2_shortest 1 = .ok (.istore_n 1, 1) := by decide +kernel
theorem dX2_shortest_2 : decode cX2_shortest 2 = .ok (.iconst 0, 1) := by decide +kernel
theorem dX2_shortest_3 : decode cX2_shortest 3 = .ok (.istore_n 2, 1) := by decide +kernel
theorem dX2_shortest_4 : decode cX2_shortest 4 = .ok (.iload_n 2, 1) := by decide +kernel
theorem dX2_shortest_5 : decode cX2_shortest 5 = .ok (.aload_n 0, 1) := by decide +kernel
theorem dX2_shortest_6 : decode cX2_shortest 6 = .ok (.getfield 26, 3) := by decide +kernel
theorem dX2_shortest_9 : decode cX2_shortest 9 = .ok (.if_icmp .ge 67, 3) := by decide +kernel
theorem dX2_shortest_12 : decode cX2_shortest 12 = .ok (.iconst 0, 1) := by decide +kernel
theorem dX2_shortest_13 : decode cX2_shortest 13 = .ok (.istore_n 3, 1) := by decide +kernel
theorem dX2_shortest_14 : decode cX2_shortest 14 = .ok (.iconst 0, 1) := by decide +kernel
theorem dX2_shortest_15 : decode cX2_shortest 15 = .ok (.istore 4, 2) := by decide +kernel
theorem dX2_shortest_17 : decode cX2_shortest 17 = .ok (.iload 4, 2) := by decide +kernel
theorem dX2_shortest_19 : decode cX2_shortest 19 = .ok (.aload_n 0, 1) := by decide +kernel
theorem dX2_shortest_20 : decode cX2_shortest 20 = .ok (.getfield 22, 3) := by decide +kernel
theorem dX2_shortest_23 : decode cX2_shortest 23 = .ok (.if_icmp .ge 28, 3) := by decide +kernel
theorem dX2_shortest_26 : decode cX2_shortest 26 = .ok (.aload_n 0, 1) := by decide +kernel
theorem dX2_shortest_27 : decode cX2_shortest 27 = .ok (.iload_n 2, 1) := by decide +kernel
theorem dX2_shortest_28 : decode cX2_shortest 28 = .ok (.iload 4, 2) := by decide +kernel
theorem dX2_shortest_30 : decode cX2_shortest 30 = .ok (.invokevirtual 50, 3) := by decide +kernel
theorem dX2_shortest_33 : decode cX2_shortest 33 = .ok (.iload_n 3, 1) := by decide +kernel
theorem dX2_shortest_34 : decode cX2_shortest 34 = .ok (.if_icmp .le 11, 3) := by decide +kernel
theorem dX2_shortest_37 : decode cX2_shortest 37 = .ok (.aload_n 0, 1) := by decide +kernel
theorem dX2_shortest_38 : decode cX2_shortest 38 = .ok (.iload_n 2, 1) := by decide +kernel
theorem dX2_shortest_39 : decode cX2_shortest 39 = .ok (.iload 4, 2) := by decide +kernel
theorem dX2_shortest_41 : decode cX2_shortest 41 = .ok (.invokevirtual 50, 3) := by decide +kernel
theorem dX2_shortest_44 : decode cX2_shortest 44 = .ok (.istore_n 3, 1) := by decide +kernel
theorem dX2_shortest_45 : decode cX2_shortest 45 = .ok (.iinc 4 1, 3) := by decide +kernel
theorem dX2_shortest_48 : decode cX2_shortest 48 = .ok (.goto (-31), 3) := by decide +kernel
theorem dX2_shortest_51 : decode cX2_shortest 51 = .ok (.iload_n 1, 1) := by decide +kernel
theorem dX2_shortest_52 : decode cX2_shortest 52 = .ok (.ifCond .lt 8, 3) := by decide +kernel
theorem dX2_shortest_55 : decode cX2_shortest 55 = .ok (.iload_n 3, 1) := by decide +kernel
theorem dX2_shortest_56 : decode cX2_shortest 56 = .ok (.iload_n 1, 1) := by decide +kernel
theorem dX2_shortest_57 : decode cX2_shortest 57 = .ok (.if_icmp .ge 13, 3) := by decide +kernel
theorem dX2_shortest_60 : decode cX2_shortest 60 = .ok (.aload_n 0, 1) := by decide +kernel
theorem dX2_shortest_61 : decode cX2_shortest 61 = .ok (.iload_n 2, 1) := by decide +kernel
theorem dX2_shortest_62 : decode cX2_shortest 62 = .ok (.invokevirtual 65, 3) := by decide +kernel
theorem dX2_shortest_65 : decode cX2_shortest 65 = .ok (.ifCond .eq 5, 3) := by decide +kernel
theorem dX2_shortest_68 : decode cX2_shortest 68 = .ok (.iload_n 3, 1) := by decide +kernel
theorem dX2_shortest_69 : decode cX2_shortest 69 = .ok (.istore_n 1, 1) := by decide +kernel
theorem dX2_shortest_70 : decode cX2_shortest 70 = .ok (.iinc 2 1, 3) := by decide +kernel
theorem dX2_shortest_73 : decode cX2_shortest 73 = .ok (.goto (-69), 3) := by decide +kernel
theorem dX2_shortest_76 : decode cX2_shortest 76 = .ok (.iload_n 1, 1) := by decide +kernel
theorem dX2_shortest_77 : decode cX2_shortest 77 = .ok (.ireturn, 1) := by decide +kernel
abbrev cX2_entailed : ByteArray := prog_3_method_26_code
def yX2_entailed : MethodName := ⟨RX2, "entailed", "()I"⟩
theorem dX2_entailed_0 : decode cX2_entailed 0 = .ok (.aload_n 0, 1) := by decide +kernel
theorem dX2_entailed_1 : decode cX2_entailed 1 = .ok (.getfield 33, 3) := by decide +kernel
theorem dX2_entailed_4 : decode cX2_entailed 4 = .ok (.ifCond .ne 5, 3) := by decide +kernel
theorem dX2_entailed_7 : decode cX2_entailed 7 = .ok (.iconst (-1), 1) := by decide +kernel
theorem dX2_entailed_8 : decode cX2_entailed 8 = .ok (.ireturn, 1) := by decide +kernel
theorem dX2_entailed_9 : decode cX2_entailed 9 = .ok (.iconst 0, 1) := by decide +kernel
theorem dX2_entailed_10 : decode cX2_entailed 10 = .ok (.istore_n 1, 1) := by decide +kernel
theorem dX2_entailed_11 : decode cX2_entailed 11 = .ok (.iload_n 1, 1) := by decide +kernel
theorem dX2_entailed_12 : decode cX2_entailed 12 = .ok (.aload_n 0, 1) := by decide +kernel
theorem dX2_entailed_13 : decode cX2_entailed 13 = .ok (.getfield 26, 3) := by decide +kernel
theorem dX2_entailed_16 : decode cX2_entailed 16 = .ok (.if_icmp .ge 29, 3) := by decide +kernel
theorem dX2_entailed_19 : decode cX2_entailed 19 = .ok (.aload_n 0, 1) := by decide +kernel
theorem dX2_entailed_20 : decode cX2_entailed 20 = .ok (.bipush 8, 2) := by decide +kernel
theorem dX2_entailed_22 : decode cX2_entailed 22 = .ok (.iload_n 1, 1) := by decide +kernel
theorem dX2_entailed_23 : decode cX2_entailed 23 = .ok (.invokevirtual 54, 3) := by decide +kernel
theorem dX2_entailed_26 : decode cX2_entailed 26 = .ok (.ifCond .ne 13, 3) := by decide +kernel
theorem dX2_entailed_29 : decode cX2_entailed 29 = .ok (.aload_n 0, 1) := by decide +kernel
theorem dX2_entailed_30 : decode cX2_entailed 30 = .ok (.iload_n 1, 1) := by decide +kernel
theorem dX2_entailed_31 : decode cX2_entailed 31 = .ok (.invokevirtual 65, 3) := by decide +kernel
theorem dX2_entailed_34 : decode cX2_entailed 34 = .ok (.ifCond .eq 5, 3) := by decide +kernel
theorem dX2_entailed_37 : decode cX2_entailed 37 = .ok (.iconst 0, 1) := by decide +kernel
theorem dX2_entailed_38 : decode cX2_entailed 38 = .ok (.ireturn, 1) := by decide +kernel
theorem dX2_entailed_39 : decode cX2_entailed 39 = .ok (.iinc 1 1, 3) := by decide +kernel
theorem dX2_entailed_42 : decode cX2_entailed 42 = .ok (.goto (-31), 3) := by decide +kernel
theorem dX2_entailed_45 : decode cX2_entailed 45 = .ok (.iconst 1, 1) := by decide +kernel
theorem dX2_entailed_46 : decode cX2_entailed 46 = .ok (.ireturn, 1) := by decide +kernel
abbrev cX2_redundant : ByteArray := prog_3_method_27_code
def yX2_redundant : MethodName := ⟨RX2, "redundant", "(I)I"⟩
theorem dX2_redundant_0 : decode cX2_redundant 0 = .ok (.iload_n 1, 1) := by decide +kernel
theorem dX2_redundant_1 : decode cX2_redundant 1 = .ok (.ifCond .lt 11, 3) := by decide +kernel
theorem dX2_redundant_4 : decode cX2_redundant 4 = .ok (.iload_n 1, 1) := by decide +kernel
theorem dX2_redundant_5 : decode cX2_redundant 5 = .ok (.aload_n 0, 1) := by decide +kernel
theorem dX2_redundant_6 : decode cX2_redundant 6 = .ok (.getfield 40, 3) := by decide +kernel
theorem dX2_redundant_9 : decode cX2_redundant 9 = .ok (.if_icmp .lt 5, 3) := by decide +kernel
theorem dX2_redundant_12 : decode cX2_redundant 12 = .ok (.iconst (-1), 1) := by decide +kernel
theorem dX2_redundant_13 : decode cX2_redundant 13 = .ok (.ireturn, 1) := by decide +kernel
theorem dX2_redundant_14 : decode cX2_redundant 14 = .ok (.iconst 0, 1) := by decide +kernel
theorem dX2_redundant_15 : decode cX2_redundant 15 = .ok (.istore_n 2, 1) := by decide +kernel
theorem dX2_redundant_16 : decode cX2_redundant 16 = .ok (.iload_n 2, 1) := by decide +kernel
theorem dX2_redundant_17 : decode cX2_redundant 17 = .ok (.aload_n 0, 1) := by decide +kernel
theorem dX2_redundant_18 : decode cX2_redundant 18 = .ok (.getfield 26, 3) := by decide +kernel
theorem dX2_redundant_21 : decode cX2_redundant 21 = .ok (.if_icmp .ge 33, 3) := by decide +kernel
theorem dX2_redundant_24 : decode cX2_redundant 24 = .ok (.aload_n 0, 1) := by decide +kernel
theorem dX2_redundant_25 : decode cX2_redundant 25 = .ok (.iload_n 1, 1) := by decide +kernel
theorem dX2_redundant_26 : decode cX2_redundant 26 = .ok (.iload_n 2, 1) := by decide +kernel
theorem dX2_redundant_27 : decode cX2_redundant 27 = .ok (.invokevirtual 54, 3) := by decide +kernel
theorem dX2_redundant_30 : decode cX2_redundant 30 = .ok (.ifCond .ne 18, 3) := by decide +kernel
theorem dX2_redundant_33 : decode cX2_redundant 33 = .ok (.aload_n 0, 1) := by decide +kernel
theorem dX2_redundant_34 : decode cX2_redundant 34 = .ok (.iload_n 2, 1) := by decide +kernel
theorem dX2_redundant_35 : decode cX2_redundant 35 = .ok (.aload_n 0, 1) := by decide +kernel
theorem dX2_redundant_36 : decode cX2_redundant 36 = .ok (.getfield 40, 3) := by decide +kernel
theorem dX2_redundant_39 : decode cX2_redundant 39 = .ok (.iload_n 1, 1) := by decide +kernel
theorem dX2_redundant_40 : decode cX2_redundant 40 = .ok (.invokevirtual 58, 3) := by decide +kernel
theorem dX2_redundant_43 : decode cX2_redundant 43 = .ok (.ifCond .eq 5, 3) := by decide +kernel
theorem dX2_redundant_46 : decode cX2_redundant 46 = .ok (.iconst 0, 1) := by decide +kernel
theorem dX2_redundant_47 : decode cX2_redundant 47 = .ok (.ireturn, 1) := by decide +kernel
theorem dX2_redundant_48 : decode cX2_redundant 48 = .ok (.iinc 2 1, 3) := by decide +kernel
theorem dX2_redundant_51 : decode cX2_redundant 51 = .ok (.goto (-35), 3) := by decide +kernel
theorem dX2_redundant_54 : decode cX2_redundant 54 = .ok (.iconst 1, 1) := by decide +kernel
theorem dX2_redundant_55 : decode cX2_redundant 55 = .ok (.ireturn, 1) := by decide +kernel
end
section
set_option maxRecDepth 100000
abbrev cX2_excess : ByteArray := prog_3_method_28_code
def yX2_excess : MethodName := ⟨RX2, "excess", "()I"⟩
theorem dX2_excess_0 : decode cX2_excess 0 = .ok (.iconst 0, 1) := by decide +kernel
theorem dX2_excess_1 : decode cX2_excess 1 = .ok (.istore_n 1, 1) := by decide +kernel
theorem dX2_excess_2 : decode cX2_excess 2 = .ok (.iload_n 1, 1) := by decide +kernel
theorem dX2_excess_3 : decode cX2_excess 3 = .ok (.aload_n 0, 1) := by decide +kernel
theorem dX2_excess_4 : decode cX2_excess 4 = .ok (.getfield 40, 3) := by decide +kernel
theorem dX2_excess_7 : decode cX2_excess 7 = .ok (.if_icmp .ge 22, 3) := by decide +kernel
theorem dX2_excess_10 : decode cX2_excess 10 = .ok (.aload_n 0, 1) := by decide +kernel
theorem dX2_excess_11 : decode cX2_excess 11 = .ok (.aload_n 0, 1) := by decide +kernel
theorem dX2_excess_12 : decode cX2_excess 12 = .ok (.getfield 40, 3) := by decide +kernel
theorem dX2_excess_15 : decode cX2_excess 15 = .ok (.iload_n 1, 1) := by decide +kernel
theorem dX2_excess_16 : decode cX2_excess 16 = .ok (.isub, 1) := by decide +kernel
theorem dX2_excess_17 : decode cX2_excess 17 = .ok (.invokevirtual 62, 3) := by decide +kernel
theorem dX2_excess_20 : decode cX2_excess 20 = .ok (.ifCond .ne 9, 3) := by decide +kernel
theorem dX2_excess_23 : decode cX2_excess 23 = .ok (.iinc 1 1, 3) := by decide +kernel
theorem dX2_excess_26 : decode cX2_excess 26 = .ok (.goto (-24), 3) := by decide +kernel
theorem dX2_excess_29 : decode cX2_excess 29 = .ok (.iload_n 1, 1) := by decide +kernel
theorem dX2_excess_30 : decode cX2_excess 30 = .ok (.ireturn, 1) := by decide +kernel
end
section
set_option maxRecDepth 100000
abbrev cL_law : ByteArray := code
theorem dL_law_0 : decode cL_law 0 = .ok (.new 7, 3) := by decide +kernel
theorem dL_law_3 : decode cL_law 3 = .ok (.dup, 1) := by decide +kernel
theorem dL_law_4 : decode cL_law 4 = .ok (.aload_n 0, 1) := by decide +kernel
theorem dL_law_5 : decode cL_law 5 = .ok (.iconst 0, 1) := by decide +kernel
theorem dL_law_6 : decode cL_law 6 = .ok (.invokestatic 9, 3) := by decide +kernel
theorem dL_law_9 : decode cL_law 9 = .ok (.invokespecial 15, 3) := by decide +kernel
theorem dL_law_12 : decode cL_law 12 = .ok (.astore_n 1, 1) := by decide +kernel
theorem dL_law_13 : decode cL_law 13 = .ok (.new 18, 3) := by decide +kernel
theorem dL_law_16 : decode cL_law 16 = .ok (.dup, 1) := by decide +kernel
theorem dL_law_17 : decode cL_law 17 = .ok (.aload_n 0, 1) := by decide +kernel
theorem dL_law_18 : decode cL_law 18 = .ok (.iconst 0, 1) := by decide +kernel
theorem dL_law_19 : decode cL_law 19 = .ok (.invokestatic 9, 3) := by decide +kernel
theorem dL_law_22 : decode cL_law 22 = .ok (.invokespecial 20, 3) := by decide +kernel
theorem dL_law_25 : decode cL_law 25 = .ok (.astore_n 2, 1) := by decide +kernel
theorem dL_law_26 : decode cL_law 26 = .ok (.iconst 1, 1) := by decide +kernel
theorem dL_law_27 : decode cL_law 27 = .ok (.istore_n 3, 1) := by decide +kernel
theorem dL_law_28 : decode cL_law 28 = .ok (.iload_n 3, 1) := by decide +kernel
theorem dL_law_29 : decode cL_law 29 = .ok (.aload_n 0, 1) := by decide +kernel
theorem dL_law_30 : decode cL_law 30 = .ok (.arraylength, 1) := by decide +kernel
theorem dL_law_31 : decode cL_law 31 = .ok (.iconst 4, 1) := by decide +kernel
theorem dL_law_32 : decode cL_law 32 = .ok (.isub, 1) := by decide +kernel
theorem dL_law_33 : decode cL_law 33 = .ok (.if_icmp .gt 458, 3) := by decide +kernel
theorem dL_law_36 : decode cL_law 36 = .ok (.aload_n 0, 1) := by decide +kernel
theorem dL_law_37 : decode cL_law 37 = .ok (.iload_n 3, 1) := by decide +kernel
theorem dL_law_38 : decode cL_law 38 = .ok (.iaload, 1) := by decide +kernel
theorem dL_law_39 : decode cL_law 39 = .ok (.bipush 31, 2) := by decide +kernel
theorem dL_law_41 : decode cL_law 41 = .ok (.iand, 1) := by decide +kernel
theorem dL_law_42 : decode cL_law 42 = .ok (.tableswitch 443 0 16 #[82, 95, 138, 151, 164, 207, 230, 243, 256, 279, 302, 335, 358, 381, 394, 407, 430], 82) := by decide +kernel
theorem dL_law_124 : decode cL_law 124 = .ok (.aload_n 1, 1) := by decide +kernel
theorem dL_law_125 : decode cL_law 125 = .ok (.invokevirtual 21, 3) := by decide +kernel
theorem dL_law_128 : decode cL_law 128 = .ok (.aload_n 2, 1) := by decide +kernel
theorem dL_law_129 : decode cL_law 129 = .ok (.invokevirtual 25, 3) := by decide +kernel
theorem dL_law_132 : decode cL_law 132 = .ok (.if_icmp .eq 353, 3) := by decide +kernel
theorem dL_law_135 : decode cL_law 135 = .ok (.iconst 0, 1) := by decide +kernel
theorem dL_law_136 : decode cL_law 136 = .ok (.ireturn, 1) := by decide +kernel
theorem dL_law_137 : decode cL_law 137 = .ok (.aload_n 1, 1) := by decide +kernel
theorem dL_law_138 : decode cL_law 138 = .ok (.aload_n 0, 1) := by decide +kernel
theorem dL_law_139 : decode cL_law 139 = .ok (.iload_n 3, 1) := by decide +kernel
theorem dL_law_140 : decode cL_law 140 = .ok (.iconst 1, 1) := by decide +kernel
theorem dL_law_141 : decode cL_law 141 = .ok (.iadd, 1) := by decide +kernel
theorem dL_law_142 : decode cL_law 142 = .ok (.iaload, 1) := by decide +kernel
theorem dL_law_143 : decode cL_law 143 = .ok (.aload_n 0, 1) := by decide +kernel
theorem dL_law_144 : decode cL_law 144 = .ok (.iload_n 3, 1) := by decide +kernel
theorem dL_law_145 : decode cL_law 145 = .ok (.iconst 2, 1) := by decide +kernel
theorem dL_law_146 : decode cL_law 146 = .ok (.iadd, 1) := by decide +kernel
theorem dL_law_147 : decode cL_law 147 = .ok (.iaload, 1) := by decide +kernel
theorem dL_law_148 : decode cL_law 148 = .ok (.aload_n 0, 1) := by decide +kernel
theorem dL_law_149 : decode cL_law 149 = .ok (.iload_n 3, 1) := by decide +kernel
theorem dL_law_150 : decode cL_law 150 = .ok (.iconst 3, 1) := by decide +kernel
theorem dL_law_151 : decode cL_law 151 = .ok (.iadd, 1) := by decide +kernel
theorem dL_law_152 : decode cL_law 152 = .ok (.iaload, 1) := by decide +kernel
theorem dL_law_153 : decode cL_law 153 = .ok (.invokevirtual 26, 3) := by decide +kernel
theorem dL_law_156 : decode cL_law 156 = .ok (.aload_n 2, 1) := by decide +kernel
theorem dL_law_157 : decode cL_law 157 = .ok (.aload_n 0, 1) := by decide +kernel
theorem dL_law_158 : decode cL_law 158 = .ok (.iload_n 3, 1) := by decide +kernel
theorem dL_law_159 : decode cL_law 159 = .ok (.iconst 1, 1) := by decide +kernel
theorem dL_law_160 : decode cL_law 160 = .ok (.iadd, 1) := by decide +kernel
theorem dL_law_161 : decode cL_law 161 = .ok (.iaload, 1) := by decide +kernel
theorem dL_law_162 : decode cL_law 162 = .ok (.aload_n 0, 1) := by decide +kernel
theorem dL_law_163 : decode cL_law 163 = .ok (.iload_n 3, 1) := by decide +kernel
theorem dL_law_164 : decode cL_law 164 = .ok (.iconst 2, 1) := by decide +kernel
theorem dL_law_165 : decode cL_law 165 = .ok (.iadd, 1) := by decide +kernel
theorem dL_law_166 : decode cL_law 166 = .ok (.iaload, 1) := by decide +kernel
theorem dL_law_167 : decode cL_law 167 = .ok (.aload_n 0, 1) := by decide +kernel
theorem dL_law_168 : decode cL_law 168 = .ok (.iload_n 3, 1) := by decide +kernel
theorem dL_law_169 : decode cL_law 169 = .ok (.iconst 3, 1) := by decide +kernel
theorem dL_law_170 : decode cL_law 170 = .ok (.iadd, 1) := by decide +kernel
theorem dL_law_171 : decode cL_law 171 = .ok (.iaload, 1) := by decide +kernel
theorem dL_law_172 : decode cL_law 172 = .ok (.invokevirtual 30, 3) := by decide +kernel
theorem dL_law_175 : decode cL_law 175 = .ok (.if_icmp .eq 310, 3) := by decide +kernel
theorem dL_law_178 : decode cL_law 178 = .ok (.iconst 0, 1) := by decide +kernel
theorem dL_law_179 : decode cL_law 179 = .ok (.ireturn, 1) := by decide +kernel
theorem dL_law_180 : decode cL_law 180 = .ok (.aload_n 1, 1) := by decide +kernel
theorem dL_law_181 : decode cL_law 181 = .ok (.invokevirtual 31, 3) := by decide +kernel
theorem dL_law_184 : decode cL_law 184 = .ok (.aload_n 2, 1) := by decide +kernel
theorem dL_law_185 : decode cL_law 185 = .ok (.invokevirtual 34, 3) := by decide +kernel
theorem dL_law_188 : decode cL_law 188 = .ok (.if_icmp .eq 297, 3) := by decide +kernel
theorem dL_law_191 : decode cL_law 191 = .ok (.iconst 0, 1) := by decide +kernel
theorem dL_law_192 : decode cL_law 192 = .ok (.ireturn, 1) := by decide +kernel
theorem dL_law_193 : decode cL_law 193 = .ok (.aload_n 1, 1) := by decide +kernel
theorem dL_law_194 : decode cL_law 194 = .ok (.invokevirtual 35, 3) := by decide +kernel
theorem dL_law_197 : decode cL_law 197 = .ok (.aload_n 2, 1) := by decide +kernel
theorem dL_law_198 : decode cL_law 198 = .ok (.invokevirtual 38, 3) := by decide +kernel
theorem dL_law_201 : decode cL_law 201 = .ok (.if_icmp .eq 284, 3) := by decide +kernel
theorem dL_law_204 : decode cL_law 204 = .ok (.iconst 0, 1) := by decide +kernel
theorem dL_law_205 : decode cL_law 205 = .ok (.ireturn, 1) := by decide +kernel
theorem dL_law_206 : decode cL_law 206 = .ok (.aload_n 1, 1) := by decide +kernel
theorem dL_law_207 : decode cL_law 207 = .ok (.aload_n 0, 1) := by decide +kernel
theorem dL_law_208 : decode cL_law 208 = .ok (.iload_n 3, 1) := by decide +kernel
theorem dL_law_209 : decode cL_law 209 = .ok (.iconst 1, 1) := by decide +kernel
theorem dL_law_210 : decode cL_law 210 = .ok (.iadd, 1) := by decide +kernel
theorem dL_law_211 : decode cL_law 211 = .ok (.iaload, 1) := by decide +kernel
theorem dL_law_212 : decode cL_law 212 = .ok (.aload_n 0, 1) := by decide +kernel
theorem dL_law_213 : decode cL_law 213 = .ok (.iload_n 3, 1) := by decide +kernel
theorem dL_law_214 : decode cL_law 214 = .ok (.iconst 2, 1) := by decide +kernel
theorem dL_law_215 : decode cL_law 215 = .ok (.iadd, 1) := by decide +kernel
theorem dL_law_216 : decode cL_law 216 = .ok (.iaload, 1) := by decide +kernel
theorem dL_law_217 : decode cL_law 217 = .ok (.aload_n 0, 1) := by decide +kernel
theorem dL_law_218 : decode cL_law 218 = .ok (.iload_n 3, 1) := by decide +kernel
theorem dL_law_219 : decode cL_law 219 = .ok (.iconst 3, 1) := by decide +kernel
end
section
set_option maxRecDepth 100000
theorem dL_law_220 : decode cL_law 220 = .ok (.iadd, 1) := by decide +kernel
theorem dL_law_221 : decode cL_law 221 = .ok (.iaload, 1) := by decide +kernel
theorem dL_law_222 : decode cL_law 222 = .ok (.invokevirtual 39, 3) := by decide +kernel
theorem dL_law_225 : decode cL_law 225 = .ok (.aload_n 2, 1) := by decide +kernel
theorem dL_law_226 : decode cL_law 226 = .ok (.aload_n 0, 1) := by decide +kernel
theorem dL_law_227 : decode cL_law 227 = .ok (.iload_n 3, 1) := by decide +kernel
theorem dL_law_228 : decode cL_law 228 = .ok (.iconst 1, 1) := by decide +kernel
theorem dL_law_229 : decode cL_law 229 = .ok (.iadd, 1) := by decide +kernel
theorem dL_law_230 : decode cL_law 230 = .ok (.iaload, 1) := by decide +kernel
theorem dL_law_231 : decode cL_law 231 = .ok (.aload_n 0, 1) := by decide +kernel
theorem dL_law_232 : decode cL_law 232 = .ok (.iload_n 3, 1) := by decide +kernel
theorem dL_law_233 : decode cL_law 233 = .ok (.iconst 2, 1) := by decide +kernel
theorem dL_law_234 : decode cL_law 234 = .ok (.iadd, 1) := by decide +kernel
theorem dL_law_235 : decode cL_law 235 = .ok (.iaload, 1) := by decide +kernel
theorem dL_law_236 : decode cL_law 236 = .ok (.aload_n 0, 1) := by decide +kernel
theorem dL_law_237 : decode cL_law 237 = .ok (.iload_n 3, 1) := by decide +kernel
theorem dL_law_238 : decode cL_law 238 = .ok (.iconst 3, 1) := by decide +kernel
theorem dL_law_239 : decode cL_law 239 = .ok (.iadd, 1) := by decide +kernel
theorem dL_law_240 : decode cL_law 240 = .ok (.iaload, 1) := by decide +kernel
theorem dL_law_241 : decode cL_law 241 = .ok (.invokevirtual 42, 3) := by decide +kernel
theorem dL_law_244 : decode cL_law 244 = .ok (.if_icmp .eq 241, 3) := by decide +kernel
theorem dL_law_247 : decode cL_law 247 = .ok (.iconst 0, 1) := by decide +kernel
theorem dL_law_248 : decode cL_law 248 = .ok (.ireturn, 1) := by decide +kernel
theorem dL_law_249 : decode cL_law 249 = .ok (.aload_n 1, 1) := by decide +kernel
theorem dL_law_250 : decode cL_law 250 = .ok (.aload_n 0, 1) := by decide +kernel
theorem dL_law_251 : decode cL_law 251 = .ok (.iload_n 3, 1) := by decide +kernel
theorem dL_law_252 : decode cL_law 252 = .ok (.iconst 1, 1) := by decide +kernel
theorem dL_law_253 : decode cL_law 253 = .ok (.iadd, 1) := by decide +kernel
theorem dL_law_254 : decode cL_law 254 = .ok (.iaload, 1) := by decide +kernel
theorem dL_law_255 : decode cL_law 255 = .ok (.invokevirtual 43, 3) := by decide +kernel
theorem dL_law_258 : decode cL_law 258 = .ok (.aload_n 2, 1) := by decide +kernel
theorem dL_law_259 : decode cL_law 259 = .ok (.aload_n 0, 1) := by decide +kernel
theorem dL_law_260 : decode cL_law 260 = .ok (.iload_n 3, 1) := by decide +kernel
theorem dL_law_261 : decode cL_law 261 = .ok (.iconst 1, 1) := by decide +kernel
theorem dL_law_262 : decode cL_law 262 = .ok (.iadd, 1) := by decide +kernel
theorem dL_law_263 : decode cL_law 263 = .ok (.iaload, 1) := by decide +kernel
theorem dL_law_264 : decode cL_law 264 = .ok (.invokevirtual 47, 3) := by decide +kernel
theorem dL_law_267 : decode cL_law 267 = .ok (.if_icmp .eq 218, 3) := by decide +kernel
theorem dL_law_270 : decode cL_law 270 = .ok (.iconst 0, 1) := by decide +kernel
theorem dL_law_271 : decode cL_law 271 = .ok (.ireturn, 1) := by decide +kernel
theorem dL_law_272 : decode cL_law 272 = .ok (.aload_n 1, 1) := by decide +kernel
theorem dL_law_273 : decode cL_law 273 = .ok (.invokevirtual 48, 3) := by decide +kernel
theorem dL_law_276 : decode cL_law 276 = .ok (.aload_n 2, 1) := by decide +kernel
theorem dL_law_277 : decode cL_law 277 = .ok (.invokevirtual 51, 3) := by decide +kernel
theorem dL_law_280 : decode cL_law 280 = .ok (.if_icmp .eq 205, 3) := by decide +kernel
theorem dL_law_283 : decode cL_law 283 = .ok (.iconst 0, 1) := by decide +kernel
theorem dL_law_284 : decode cL_law 284 = .ok (.ireturn, 1) := by decide +kernel
theorem dL_law_285 : decode cL_law 285 = .ok (.aload_n 1, 1) := by decide +kernel
theorem dL_law_286 : decode cL_law 286 = .ok (.invokevirtual 52, 3) := by decide +kernel
theorem dL_law_289 : decode cL_law 289 = .ok (.aload_n 2, 1) := by decide +kernel
theorem dL_law_290 : decode cL_law 290 = .ok (.invokevirtual 55, 3) := by decide +kernel
theorem dL_law_293 : decode cL_law 293 = .ok (.if_icmp .eq 192, 3) := by decide +kernel
theorem dL_law_296 : decode cL_law 296 = .ok (.iconst 0, 1) := by decide +kernel
theorem dL_law_297 : decode cL_law 297 = .ok (.ireturn, 1) := by decide +kernel
theorem dL_law_298 : decode cL_law 298 = .ok (.aload_n 1, 1) := by decide +kernel
theorem dL_law_299 : decode cL_law 299 = .ok (.aload_n 0, 1) := by decide +kernel
theorem dL_law_300 : decode cL_law 300 = .ok (.iload_n 3, 1) := by decide +kernel
theorem dL_law_301 : decode cL_law 301 = .ok (.iconst 1, 1) := by decide +kernel
theorem dL_law_302 : decode cL_law 302 = .ok (.iadd, 1) := by decide +kernel
theorem dL_law_303 : decode cL_law 303 = .ok (.iaload, 1) := by decide +kernel
theorem dL_law_304 : decode cL_law 304 = .ok (.invokevirtual 56, 3) := by decide +kernel
theorem dL_law_307 : decode cL_law 307 = .ok (.aload_n 2, 1) := by decide +kernel
theorem dL_law_308 : decode cL_law 308 = .ok (.aload_n 0, 1) := by decide +kernel
theorem dL_law_309 : decode cL_law 309 = .ok (.iload_n 3, 1) := by decide +kernel
theorem dL_law_310 : decode cL_law 310 = .ok (.iconst 1, 1) := by decide +kernel
theorem dL_law_311 : decode cL_law 311 = .ok (.iadd, 1) := by decide +kernel
theorem dL_law_312 : decode cL_law 312 = .ok (.iaload, 1) := by decide +kernel
theorem dL_law_313 : decode cL_law 313 = .ok (.invokevirtual 59, 3) := by decide +kernel
theorem dL_law_316 : decode cL_law 316 = .ok (.if_icmp .eq 169, 3) := by decide +kernel
theorem dL_law_319 : decode cL_law 319 = .ok (.iconst 0, 1) := by decide +kernel
theorem dL_law_320 : decode cL_law 320 = .ok (.ireturn, 1) := by decide +kernel
theorem dL_law_321 : decode cL_law 321 = .ok (.aload_n 1, 1) := by decide +kernel
theorem dL_law_322 : decode cL_law 322 = .ok (.aload_n 0, 1) := by decide +kernel
theorem dL_law_323 : decode cL_law 323 = .ok (.iload_n 3, 1) := by decide +kernel
theorem dL_law_324 : decode cL_law 324 = .ok (.iconst 1, 1) := by decide +kernel
theorem dL_law_325 : decode cL_law 325 = .ok (.iadd, 1) := by decide +kernel
theorem dL_law_326 : decode cL_law 326 = .ok (.iaload, 1) := by decide +kernel
theorem dL_law_327 : decode cL_law 327 = .ok (.invokevirtual 60, 3) := by decide +kernel
theorem dL_law_330 : decode cL_law 330 = .ok (.aload_n 2, 1) := by decide +kernel
theorem dL_law_331 : decode cL_law 331 = .ok (.aload_n 0, 1) := by decide +kernel
theorem dL_law_332 : decode cL_law 332 = .ok (.iload_n 3, 1) := by decide +kernel
theorem dL_law_333 : decode cL_law 333 = .ok (.iconst 1, 1) := by decide +kernel
theorem dL_law_334 : decode cL_law 334 = .ok (.iadd, 1) := by decide +kernel
theorem dL_law_335 : decode cL_law 335 = .ok (.iaload, 1) := by decide +kernel
theorem dL_law_336 : decode cL_law 336 = .ok (.invokevirtual 63, 3) := by decide +kernel
theorem dL_law_339 : decode cL_law 339 = .ok (.if_icmp .eq 146, 3) := by decide +kernel
theorem dL_law_342 : decode cL_law 342 = .ok (.iconst 0, 1) := by decide +kernel
theorem dL_law_343 : decode cL_law 343 = .ok (.ireturn, 1) := by decide +kernel
theorem dL_law_344 : decode cL_law 344 = .ok (.aload_n 1, 1) := by decide +kernel
theorem dL_law_345 : decode cL_law 345 = .ok (.aload_n 0, 1) := by decide +kernel
theorem dL_law_346 : decode cL_law 346 = .ok (.iload_n 3, 1) := by decide +kernel
theorem dL_law_347 : decode cL_law 347 = .ok (.iconst 1, 1) := by decide +kernel
theorem dL_law_348 : decode cL_law 348 = .ok (.iadd, 1) := by decide +kernel
theorem dL_law_349 : decode cL_law 349 = .ok (.iaload, 1) := by decide +kernel
theorem dL_law_350 : decode cL_law 350 = .ok (.aload_n 0, 1) := by decide +kernel
theorem dL_law_351 : decode cL_law 351 = .ok (.iload_n 3, 1) := by decide +kernel
theorem dL_law_352 : decode cL_law 352 = .ok (.iconst 2, 1) := by decide +kernel
theorem dL_law_353 : decode cL_law 353 = .ok (.iadd, 1) := by decide +kernel
theorem dL_law_354 : decode cL_law 354 = .ok (.iaload, 1) := by decide +kernel
theorem dL_law_355 : decode cL_law 355 = .ok (.invokevirtual 64, 3) := by decide +kernel
end
section
set_option maxRecDepth 100000
theorem dL_law_358 : decode cL_law 358 = .ok (.aload_n 2, 1) := by decide +kernel
theorem dL_law_359 : decode cL_law 359 = .ok (.aload_n 0, 1) := by decide +kernel
theorem dL_law_360 : decode cL_law 360 = .ok (.iload_n 3, 1) := by decide +kernel
theorem dL_law_361 : decode cL_law 361 = .ok (.iconst 1, 1) := by decide +kernel
theorem dL_law_362 : decode cL_law 362 = .ok (.iadd, 1) := by decide +kernel
theorem dL_law_363 : decode cL_law 363 = .ok (.iaload, 1) := by decide +kernel
theorem dL_law_364 : decode cL_law 364 = .ok (.aload_n 0, 1) := by decide +kernel
theorem dL_law_365 : decode cL_law 365 = .ok (.iload_n 3, 1) := by decide +kernel
theorem dL_law_366 : decode cL_law 366 = .ok (.iconst 2, 1) := by decide +kernel
theorem dL_law_367 : decode cL_law 367 = .ok (.iadd, 1) := by decide +kernel
theorem dL_law_368 : decode cL_law 368 = .ok (.iaload, 1) := by decide +kernel
theorem dL_law_369 : decode cL_law 369 = .ok (.invokevirtual 68, 3) := by decide +kernel
theorem dL_law_372 : decode cL_law 372 = .ok (.if_icmp .eq 113, 3) := by decide +kernel
theorem dL_law_375 : decode cL_law 375 = .ok (.iconst 0, 1) := by decide +kernel
theorem dL_law_376 : decode cL_law 376 = .ok (.ireturn, 1) := by decide +kernel
theorem dL_law_377 : decode cL_law 377 = .ok (.aload_n 1, 1) := by decide +kernel
theorem dL_law_378 : decode cL_law 378 = .ok (.aload_n 0, 1) := by decide +kernel
theorem dL_law_379 : decode cL_law 379 = .ok (.iload_n 3, 1) := by decide +kernel
theorem dL_law_380 : decode cL_law 380 = .ok (.iconst 1, 1) := by decide +kernel
theorem dL_law_381 : decode cL_law 381 = .ok (.iadd, 1) := by decide +kernel
theorem dL_law_382 : decode cL_law 382 = .ok (.iaload, 1) := by decide +kernel
theorem dL_law_383 : decode cL_law 383 = .ok (.invokevirtual 69, 3) := by decide +kernel
theorem dL_law_386 : decode cL_law 386 = .ok (.aload_n 2, 1) := by decide +kernel
theorem dL_law_387 : decode cL_law 387 = .ok (.aload_n 0, 1) := by decide +kernel
theorem dL_law_388 : decode cL_law 388 = .ok (.iload_n 3, 1) := by decide +kernel
theorem dL_law_389 : decode cL_law 389 = .ok (.iconst 1, 1) := by decide +kernel
theorem dL_law_390 : decode cL_law 390 = .ok (.iadd, 1) := by decide +kernel
theorem dL_law_391 : decode cL_law 391 = .ok (.iaload, 1) := by decide +kernel
theorem dL_law_392 : decode cL_law 392 = .ok (.invokevirtual 72, 3) := by decide +kernel
theorem dL_law_395 : decode cL_law 395 = .ok (.if_icmp .eq 90, 3) := by decide +kernel
theorem dL_law_398 : decode cL_law 398 = .ok (.iconst 0, 1) := by decide +kernel
theorem dL_law_399 : decode cL_law 399 = .ok (.ireturn, 1) := by decide +kernel
theorem dL_law_400 : decode cL_law 400 = .ok (.aload_n 1, 1) := by decide +kernel
theorem dL_law_401 : decode cL_law 401 = .ok (.aload_n 0, 1) := by decide +kernel
theorem dL_law_402 : decode cL_law 402 = .ok (.iload_n 3, 1) := by decide +kernel
theorem dL_law_403 : decode cL_law 403 = .ok (.iconst 1, 1) := by decide +kernel
theorem dL_law_404 : decode cL_law 404 = .ok (.iadd, 1) := by decide +kernel
theorem dL_law_405 : decode cL_law 405 = .ok (.iaload, 1) := by decide +kernel
theorem dL_law_406 : decode cL_law 406 = .ok (.invokevirtual 73, 3) := by decide +kernel
theorem dL_law_409 : decode cL_law 409 = .ok (.aload_n 2, 1) := by decide +kernel
theorem dL_law_410 : decode cL_law 410 = .ok (.aload_n 0, 1) := by decide +kernel
theorem dL_law_411 : decode cL_law 411 = .ok (.iload_n 3, 1) := by decide +kernel
theorem dL_law_412 : decode cL_law 412 = .ok (.iconst 1, 1) := by decide +kernel
theorem dL_law_413 : decode cL_law 413 = .ok (.iadd, 1) := by decide +kernel
theorem dL_law_414 : decode cL_law 414 = .ok (.iaload, 1) := by decide +kernel
theorem dL_law_415 : decode cL_law 415 = .ok (.invokevirtual 76, 3) := by decide +kernel
theorem dL_law_418 : decode cL_law 418 = .ok (.if_icmp .eq 67, 3) := by decide +kernel
theorem dL_law_421 : decode cL_law 421 = .ok (.iconst 0, 1) := by decide +kernel
theorem dL_law_422 : decode cL_law 422 = .ok (.ireturn, 1) := by decide +kernel
theorem dL_law_423 : decode cL_law 423 = .ok (.aload_n 1, 1) := by decide +kernel
theorem dL_law_424 : decode cL_law 424 = .ok (.invokevirtual 77, 3) := by decide +kernel
theorem dL_law_427 : decode cL_law 427 = .ok (.aload_n 2, 1) := by decide +kernel
theorem dL_law_428 : decode cL_law 428 = .ok (.invokevirtual 80, 3) := by decide +kernel
theorem dL_law_431 : decode cL_law 431 = .ok (.if_icmp .eq 54, 3) := by decide +kernel
theorem dL_law_434 : decode cL_law 434 = .ok (.iconst 0, 1) := by decide +kernel
theorem dL_law_435 : decode cL_law 435 = .ok (.ireturn, 1) := by decide +kernel
theorem dL_law_436 : decode cL_law 436 = .ok (.aload_n 1, 1) := by decide +kernel
theorem dL_law_437 : decode cL_law 437 = .ok (.invokevirtual 81, 3) := by decide +kernel
theorem dL_law_440 : decode cL_law 440 = .ok (.aload_n 2, 1) := by decide +kernel
theorem dL_law_441 : decode cL_law 441 = .ok (.invokevirtual 84, 3) := by decide +kernel
theorem dL_law_444 : decode cL_law 444 = .ok (.if_icmp .eq 41, 3) := by decide +kernel
theorem dL_law_447 : decode cL_law 447 = .ok (.iconst 0, 1) := by decide +kernel
theorem dL_law_448 : decode cL_law 448 = .ok (.ireturn, 1) := by decide +kernel
theorem dL_law_449 : decode cL_law 449 = .ok (.aload_n 1, 1) := by decide +kernel
theorem dL_law_450 : decode cL_law 450 = .ok (.aload_n 0, 1) := by decide +kernel
theorem dL_law_451 : decode cL_law 451 = .ok (.iload_n 3, 1) := by decide +kernel
theorem dL_law_452 : decode cL_law 452 = .ok (.iconst 1, 1) := by decide +kernel
theorem dL_law_453 : decode cL_law 453 = .ok (.iadd, 1) := by decide +kernel
theorem dL_law_454 : decode cL_law 454 = .ok (.iaload, 1) := by decide +kernel
theorem dL_law_455 : decode cL_law 455 = .ok (.invokevirtual 85, 3) := by decide +kernel
theorem dL_law_458 : decode cL_law 458 = .ok (.aload_n 2, 1) := by decide +kernel
theorem dL_law_459 : decode cL_law 459 = .ok (.aload_n 0, 1) := by decide +kernel
theorem dL_law_460 : decode cL_law 460 = .ok (.iload_n 3, 1) := by decide +kernel
theorem dL_law_461 : decode cL_law 461 = .ok (.iconst 1, 1) := by decide +kernel
theorem dL_law_462 : decode cL_law 462 = .ok (.iadd, 1) := by decide +kernel
theorem dL_law_463 : decode cL_law 463 = .ok (.iaload, 1) := by decide +kernel
theorem dL_law_464 : decode cL_law 464 = .ok (.invokevirtual 88, 3) := by decide +kernel
theorem dL_law_467 : decode cL_law 467 = .ok (.if_icmp .eq 18, 3) := by decide +kernel
theorem dL_law_470 : decode cL_law 470 = .ok (.iconst 0, 1) := by decide +kernel
theorem dL_law_471 : decode cL_law 471 = .ok (.ireturn, 1) := by decide +kernel
theorem dL_law_472 : decode cL_law 472 = .ok (.aload_n 1, 1) := by decide +kernel
theorem dL_law_473 : decode cL_law 473 = .ok (.invokevirtual 89, 3) := by decide +kernel
theorem dL_law_476 : decode cL_law 476 = .ok (.aload_n 2, 1) := by decide +kernel
theorem dL_law_477 : decode cL_law 477 = .ok (.invokevirtual 92, 3) := by decide +kernel
theorem dL_law_480 : decode cL_law 480 = .ok (.if_icmp .eq 5, 3) := by decide +kernel
theorem dL_law_483 : decode cL_law 483 = .ok (.iconst 0, 1) := by decide +kernel
theorem dL_law_484 : decode cL_law 484 = .ok (.ireturn, 1) := by decide +kernel
theorem dL_law_485 : decode cL_law 485 = .ok (.iinc 3 4, 3) := by decide +kernel
theorem dL_law_488 : decode cL_law 488 = .ok (.goto (-460), 3) := by decide +kernel
theorem dL_law_491 : decode cL_law 491 = .ok (.iconst 1, 1) := by decide +kernel
theorem dL_law_492 : decode cL_law 492 = .ok (.ireturn, 1) := by decide +kernel
end
section
/-! MATH: plans and times, constraints, difference matrices, the start matrix -/
theorem p8_0 : p8 0 = 1 := by decide +kernel
theorem p8_1 : p8 1 = 8 := by decide +kernel
theorem p8_2 : p8 2 = 64 := by decide +kernel
theorem p8_3 : p8 3 = 512 := by decide +kernel
theorem p8_4 : p8 4 = 4096 := by decide +kernel
/-- an answer that says whether P -/
def isB (z : Int) (P : Prop) : Prop := (z = 1 ∧ P) ∨ (z = 0 ∧ ¬ P)
theorem isB_01 {z : Int} {P : Prop} (h : isB z P) : z = 0 ∨ z = 1 := by rcases h with h | h <;> omega
theorem isB_cg {z : Int} {P Q : Prop} (h : isB z P) (e : P ↔ Q) : isB z Q := by
  rcases h with h | h
  · exact Or.inl ⟨h.1, e.mp h.2⟩
  · exact Or.inr ⟨h.1, fun q => h.2 (e.mpr q)⟩
theorem isB_un {z y : Int} {P : Prop} (h : isB z P) (h2 : isB y P) : z = y := by
  rcases h with h | h <;> rcases h2 with g | g
  · omega
  · exact absurd h.2 g.2
  · exact absurd g.2 h.2
  · omega
theorem nar01 {z : Int} (h : z = 0 ∨ z = 1) : narrow .boolean (vI z) = vI z := by rcases h with rfl | rfl <;> rfl
/-- the time of event i in plan p (0 for the origin) -/
def tim (n p i : Int) : Int := if n ≤ i then 0 else (p / p8 (n - 1 - i)) % 8
theorem tim_rg (n p i : Int) : 0 ≤ tim n p i ∧ tim n p i ≤ 7 := by
  unfold tim
  split <;> omega
theorem tim_n {n p i : Int} (h : n ≤ i) : tim n p i = 0 := if_pos h
theorem tim_i {n p i : Int} (h : i < n) : tim n p i = (p / p8 (n - 1 - i)) % 8 := if_neg (by omega)
/-- constraint c (its comparisons at 3c ..) is met by the times t -/
def mt (z e b l : Int → Int) (c : Int) (t : Int → Int) : Prop := ∃ a : Int, 0 ≤ a ∧ a < z c ∧ t (e (3 * c + a)) - t (b (3 * c + a)) ≤ l (3 * c + a)
/-- the first ct constraints but sk are met -/
def sol (ct sk : Int) (z e b l : Int → Int) (t : Int → Int) : Prop := ∀ c : Int, 0 ≤ c → c < ct → c ≠ sk → mt z e b l c t
/-- the constraints are well formed -/
def okC (n ct : Int) (z e b l : Int → Int) : Prop := (2 ≤ n ∧ n ≤ 4) ∧ (0 ≤ ct ∧ ct ≤ 8) ∧ ∀ c : Int, 0 ≤ c → c < ct → (1 ≤ z c ∧ z c ≤ 3) ∧ ∀ a : Int, 0 ≤ a → a < z c → (0 ≤ e (3 * c + a) ∧ e (3 * c + a) ≤ n) ∧ (0 ≤ b (3 * c + a) ∧ b (3 * c + a) ≤ n) ∧ e (3 * c + a) ≠ b (3 * c + a) ∧ (-10 ≤ l (3 * c + a) ∧ l (3 * c + a) ≤ 10)
theorem okC_le {n ct ct' : Int} {z e b l : Int → Int} (h : okC n ct z e b l) (h0 : 0 ≤ ct') (h1 : ct' ≤ ct) : okC n ct' z e b l := ⟨h.1, by have := h.2.1; omega, fun c h2 h3 => h.2.2 c h2 (by omega)⟩
theorem mt_cg {n ct : Int} {z e b l : Int → Int} (hok : okC n ct z e b l) {c d : Int} (h0 : 0 ≤ c) (h1 : c < ct) {t t' : Int → Int} (ht : ∀ i : Int, 0 ≤ i → i ≤ n → t' i = t i - d) : mt z e b l c t' ↔ mt z e b l c t := by
  have hk := (hok.2.2 c h0 h1).2
  constructor
  · rintro ⟨a, g0, g1, g2⟩
    obtain ⟨k1, k2, -, -⟩ := hk a g0 g1
    have e1 := ht _ k1.1 k1.2
    have e2 := ht _ k2.1 k2.2
    exact ⟨a, g0, g1, by omega⟩
  · rintro ⟨a, g0, g1, g2⟩
    obtain ⟨k1, k2, -, -⟩ := hk a g0 g1
    have e1 := ht _ k1.1 k1.2
    have e2 := ht _ k2.1 k2.2
    exact ⟨a, g0, g1, by omega⟩
theorem sol_cg {n ct sk : Int} {z e b l : Int → Int} (hok : okC n ct z e b l) {d : Int} {t t' : Int → Int} (ht : ∀ i : Int, 0 ≤ i → i ≤ n → t' i = t i - d) : sol ct sk z e b l t' ↔ sol ct sk z e b l t :=
  ⟨fun h c h0 h1 h2 => (mt_cg hok h0 h1 ht).mp (h c h0 h1 h2), fun h c h0 h1 h2 => (mt_cg hok h0 h1 ht).mpr (h c h0 h1 h2)⟩
/-- times t are allowed by the matrix at o -/
def dbm (f : Int → Int) (o : Int) (t : Int → Int) : Prop := ∀ i j : Int, 0 ≤ i → i < 5 → 0 ≤ j → j < 5 → t i - t j ≤ f (o + 5 * i + j)
/-- the matrix at o is closed -/
def clo (f : Int → Int) (o : Int) : Prop := (∀ i : Int, 0 ≤ i → i < 5 → f (o + 5 * i + i) = 0) ∧ (∀ i j : Int, 0 ≤ i → i < 5 → 0 ≤ j → j < 5 → f (o + 5 * i + j) ≤ 7) ∧ ∀ i j r : Int, 0 ≤ i → i < 5 → 0 ≤ j → j < 5 → 0 ≤ r → r < 5 → f (o + 5 * i + j) ≤ f (o + 5 * i + r) + f (o + 5 * r + j)
theorem clo_rg {f : Int → Int} {o : Int} (h : clo f o) {i j : Int} (hi : 0 ≤ i) (hi5 : i < 5) (hj : 0 ≤ j) (hj5 : j < 5) : -7 ≤ f (o + 5 * i + j) ∧ f (o + 5 * i + j) ≤ 7 := by
  have h1 := h.1 i hi hi5
  have h2 := h.2.1 i j hi hi5 hj hj5
  have h3 := h.2.1 j i hj hj5 hi hi5
  have h4 := h.2.2 i i j hi hi5 hi hi5 hj hj5
  omega
theorem clo_eq {f g : Int → Int} {o o' : Int} (h : clo f o) (e : ∀ m : Int, 0 ≤ m → m < 25 → g (o' + m) = f (o + m)) : clo g o' := by
  have e2 : ∀ i j : Int, 0 ≤ i → i < 5 → 0 ≤ j → j < 5 → g (o' + 5 * i + j) = f (o + 5 * i + j) := by
    intro i j h1 h2 h3 h4
    have := e (5 * i + j) (by omega) (by omega)
    rw [show o' + 5 * i + j = o' + (5 * i + j) by omega, this, show o + 5 * i + j = o + (5 * i + j) by omega]
  refine ⟨fun i h1 h2 => ?_, fun i j h1 h2 h3 h4 => ?_, fun i j r h1 h2 h3 h4 h5 h6 => ?_⟩
  · rw [e2 i i h1 h2 h1 h2]
    exact h.1 i h1 h2
  · rw [e2 i j h1 h2 h3 h4]
    exact h.2.1 i j h1 h2 h3 h4
  · rw [e2 i j h1 h2 h3 h4, e2 i r h1 h2 h5 h6, e2 r j h5 h6 h3 h4]
    exact h.2.2 i j r h1 h2 h3 h4 h5 h6
theorem dbm_eq {f g : Int → Int} {o o' : Int} (e : ∀ m : Int, 0 ≤ m → m < 25 → g (o' + m) = f (o + m)) {t : Int → Int} : dbm g o' t ↔ dbm f o t := by
  have e2 : ∀ i j : Int, 0 ≤ i → i < 5 → 0 ≤ j → j < 5 → g (o' + 5 * i + j) = f (o + 5 * i + j) := by
    intro i j h1 h2 h3 h4
    have := e (5 * i + j) (by omega) (by omega)
    rw [show o' + 5 * i + j = o' + (5 * i + j) by omega, this, show o + 5 * i + j = o + (5 * i + j) by omega]
  constructor
  · intro h i j h1 h2 h3 h4
    rw [← e2 i j h1 h2 h3 h4]
    exact h i j h1 h2 h3 h4
  · intro h i j h1 h2 h3 h4
    rw [e2 i j h1 h2 h3 h4]
    exact h i j h1 h2 h3 h4
/-- a closed matrix is tight -/
theorem clo_tight {f : Int → Int} {o : Int} (h : clo f o) {i0 j0 : Int} (hi : 0 ≤ i0) (hi5 : i0 < 5) (hj : 0 ≤ j0) (hj5 : j0 < 5) : ∃ t : Int → Int, dbm f o t ∧ t i0 - t j0 = f (o + 5 * i0 + j0) := by
  refine ⟨fun r => f (o + 5 * r + j0), fun i j h1 h2 h3 h4 => ?_, ?_⟩
  · have := h.2.2 i j0 j h1 h2 hj hj5 h3 h4
    show f (o + 5 * i + j0) - f (o + 5 * j + j0) ≤ _
    omega
  · have := h.1 j0 hj hj5
    show f (o + 5 * i0 + j0) - f (o + 5 * j0 + j0) = _
    omega
/-- the matrix with one more comparison, t i - t j ≤ lim -/
def tgt (f : Int → Int) (o i j lim p q : Int) : Int := if f (o + 5 * p + i) + lim + f (o + 5 * j + q) < f (o + 5 * p + q) then f (o + 5 * p + i) + lim + f (o + 5 * j + q) else f (o + 5 * p + q)
theorem tgt_le {f : Int → Int} {o i j lim p q : Int} : tgt f o i j lim p q ≤ f (o + 5 * p + q) ∧ tgt f o i j lim p q ≤ f (o + 5 * p + i) + lim + f (o + 5 * j + q) ∧ (tgt f o i j lim p q = f (o + 5 * p + q) ∨ tgt f o i j lim p q = f (o + 5 * p + i) + lim + f (o + 5 * j + q)) := by
  unfold tgt
  split <;> omega
theorem tg_clo {f g : Int → Int} {o o' i j lim : Int} (h : clo f o) (hi : 0 ≤ i ∧ i < 5) (hj : 0 ≤ j ∧ j < 5) (hl : 0 ≤ f (o + 5 * j + i) + lim) (hg : ∀ p q : Int, 0 ≤ p → p < 5 → 0 ≤ q → q < 5 → g (o' + 5 * p + q) = tgt f o i j lim p q) : clo g o' ∧ ∀ t : Int → Int, dbm g o' t ↔ dbm f o t ∧ t i - t j ≤ lim := by
  refine ⟨⟨fun p h1 h2 => ?_, fun p q h1 h2 h3 h4 => ?_, fun p q r h1 h2 h3 h4 h5 h6 => ?_⟩, fun t => ⟨fun ht => ⟨fun p q h1 h2 h3 h4 => ?_, ?_⟩, fun ht p q h1 h2 h3 h4 => ?_⟩⟩
  · rw [hg p p h1 h2 h1 h2]
    have e1 := h.1 p h1 h2
    have e2 := h.2.2 j i p hj.1 hj.2 hi.1 hi.2 h1 h2
    have e3 := tgt_le (f := f) (o := o) (i := i) (j := j) (lim := lim) (p := p) (q := p)
    omega
  · rw [hg p q h1 h2 h3 h4]
    have e1 := h.2.1 p q h1 h2 h3 h4
    have e3 := tgt_le (f := f) (o := o) (i := i) (j := j) (lim := lim) (p := p) (q := q)
    omega
  · rw [hg p q h1 h2 h3 h4, hg p r h1 h2 h5 h6, hg r q h5 h6 h3 h4]
    have a1 := tgt_le (f := f) (o := o) (i := i) (j := j) (lim := lim) (p := p) (q := q)
    have a2 := tgt_le (f := f) (o := o) (i := i) (j := j) (lim := lim) (p := p) (q := r)
    have a3 := tgt_le (f := f) (o := o) (i := i) (j := j) (lim := lim) (p := r) (q := q)
    have b1 := h.2.2 p q r h1 h2 h3 h4 h5 h6
    have b2 := h.2.2 p i r h1 h2 hi.1 hi.2 h5 h6
    have b3 := h.2.2 j q r hj.1 hj.2 h3 h4 h5 h6
    have b4 := h.2.2 j i r hj.1 hj.2 hi.1 hi.2 h5 h6
    obtain ⟨a11, a12, -⟩ := a1
    obtain ⟨-, -, a2⟩ := a2
    obtain ⟨-, -, a3⟩ := a3
    rcases a2 with a2 | a2 <;> rcases a3 with a3 | a3 <;> omega
  · have e1 := ht p q h1 h2 h3 h4
    rw [hg p q h1 h2 h3 h4] at e1
    have e3 := tgt_le (f := f) (o := o) (i := i) (j := j) (lim := lim) (p := p) (q := q)
    omega
  · have e1 := ht i j hi.1 hi.2 hj.1 hj.2
    rw [hg i j hi.1 hi.2 hj.1 hj.2] at e1
    have e3 := tgt_le (f := f) (o := o) (i := i) (j := j) (lim := lim) (p := i) (q := j)
    have e4 := h.1 i hi.1 hi.2
    have e5 := h.1 j hj.1 hj.2
    omega
  · rw [hg p q h1 h2 h3 h4]
    have e3 := tgt_le (f := f) (o := o) (i := i) (j := j) (lim := lim) (p := p) (q := q)
    have e4 := ht.1 p q h1 h2 h3 h4
    have e5 := ht.1 p i h1 h2 hi.1 hi.2
    have e6 := ht.1 j q hj.1 hj.2 h3 h4
    have e7 := ht.2
    omega
/-- the start matrix f (bad: it allows nothing) says P of the times -/
def SI (f : Int → Int) (bad : Int) (P : (Int → Int) → Prop) : Prop := (bad = 0 ∧ clo f 0 ∧ ∀ t : Int → Int, dbm f 0 t ↔ P t) ∨ (bad = 1 ∧ ∀ t : Int → Int, ¬ P t)
theorem SI_01 {f : Int → Int} {bad : Int} {P : (Int → Int) → Prop} (h : SI f bad P) : bad = 0 ∨ bad = 1 := by rcases h with h | h <;> omega
theorem SI_cg {f : Int → Int} {bad : Int} {P Q : (Int → Int) → Prop} (h : SI f bad P) (e : ∀ t, P t ↔ Q t) : SI f bad Q := by
  rcases h with h | h
  · exact Or.inl ⟨h.1, h.2.1, fun t => (h.2.2 t).trans (e t)⟩
  · exact Or.inr ⟨h.1, fun t q => h.2 t ((e t).mpr q)⟩
def osf (n m : Int) : Int := if m / 5 = m % 5 ∨ m / 5 = n then 0 else 7
/-- every event is from 0 to 7 after the origin n -/
def bs (n : Int) (t : Int → Int) : Prop := ∀ i j : Int, 0 ≤ i → i < 5 → 0 ≤ j → j < 5 → t i - t j ≤ (if i = j ∨ i = n then 0 else 7)
theorem os_SI {n : Int} {f : Int → Int} (h : ∀ m : Int, 0 ≤ m → m < 25 → f m = osf n m) : SI f 0 (bs n) := by
  have h5 : ∀ i j : Int, 0 ≤ i → i < 5 → 0 ≤ j → j < 5 → f (0 + 5 * i + j) = (if i = j ∨ i = n then 0 else 7) := by
    intro i j h1 h2 h3 h4
    rw [h _ (by omega) (by omega)]
    unfold osf
    rw [show (0 + 5 * i + j) / 5 = i by omega, show (0 + 5 * i + j) % 5 = j by omega]
  refine Or.inl ⟨rfl, ⟨fun i h1 h2 => ?_, fun i j h1 h2 h3 h4 => ?_, fun i j r h1 h2 h3 h4 h5' h6 => ?_⟩, fun t => ⟨fun ht i j h1 h2 h3 h4 => ?_, fun ht i j h1 h2 h3 h4 => ?_⟩⟩
  · rw [h5 i i h1 h2 h1 h2, if_pos (Or.inl rfl)]
  · rw [h5 i j h1 h2 h3 h4]
    split <;> omega
  · rw [h5 i j h1 h2 h3 h4, h5 i r h1 h2 h5' h6, h5 r j h5' h6 h3 h4]
    split <;> split <;> split <;> omega
  · rw [← h5 i j h1 h2 h3 h4]
    exact ht i j h1 h2 h3 h4
  · rw [h5 i j h1 h2 h3 h4]
    exact ht i j h1 h2 h3 h4
theorem bs_rg {n : Int} {t : Int → Int} (hn : 2 ≤ n ∧ n ≤ 4) (h : bs n t) {i : Int} (h0 : 0 ≤ i) (h1 : i < n) : 0 ≤ t i - t n ∧ t i - t n ≤ 7 := by
  have e1 := h i n h0 (by omega) (by omega) (by omega)
  have e2 := h n i (by omega) (by omega) h0 (by omega)
  rw [if_neg (by omega)] at e1
  rw [if_pos (Or.inr rfl)] at e2
  omega
theorem tim_bs (n p : Int) : bs n (tim n p) := by
  intro i j h1 h2 h3 h4
  have e1 := tim_rg n p i
  have e2 := tim_rg n p j
  split
  · rename_i hh
    rcases hh with hh | hh
    · subst hh
      omega
    · have : tim n p i = 0 := tim_n (by omega)
      omega
  · omega
theorem plan_of {n : Int} {t : Int → Int} (hn : 2 ≤ n ∧ n ≤ 4) (h : bs n t) : ∃ p : Int, 0 ≤ p ∧ p < p8 n ∧ ∀ i : Int, 0 ≤ i → i ≤ n → tim n p i = t i - t n := by
  have hr := fun i h0 h1 => bs_rg hn h (i := i) h0 h1
  rcases (show n = 2 ∨ n = 3 ∨ n = 4 by omega) with rfl | rfl | rfl
  · have a0 := hr 0 (by decide) (by decide)
    have a1 := hr 1 (by decide) (by decide)
    refine ⟨8 * (t 0 - t 2) + (t 1 - t 2), by omega, by rw [p8_2]; omega, fun i h0 h1 => ?_⟩
    rcases (show i = 0 ∨ i = 1 ∨ i = 2 by omega) with rfl | rfl | rfl
    · rw [tim_i (by decide), show (2 - 1 - 0 : Int) = 1 by decide, p8_1]; omega
    · rw [tim_i (by decide), show (2 - 1 - 1 : Int) = 0 by decide, p8_0]; omega
    · rw [tim_n (by decide)]; omega
  · have a0 := hr 0 (by decide) (by decide)
    have a1 := hr 1 (by decide) (by decide)
    have a2 := hr 2 (by decide) (by decide)
    refine ⟨64 * (t 0 - t 3) + 8 * (t 1 - t 3) + (t 2 - t 3), by omega, by rw [p8_3]; omega, fun i h0 h1 => ?_⟩
    rcases (show i = 0 ∨ i = 1 ∨ i = 2 ∨ i = 3 by omega) with rfl | rfl | rfl | rfl
    · rw [tim_i (by decide), show (3 - 1 - 0 : Int) = 2 by decide, p8_2]; omega
    · rw [tim_i (by decide), show (3 - 1 - 1 : Int) = 1 by decide, p8_1]; omega
    · rw [tim_i (by decide), show (3 - 1 - 2 : Int) = 0 by decide, p8_0]; omega
    · rw [tim_n (by decide)]; omega
  · have a0 := hr 0 (by decide) (by decide)
    have a1 := hr 1 (by decide) (by decide)
    have a2 := hr 2 (by decide) (by decide)
    have a3 := hr 3 (by decide) (by decide)
    refine ⟨512 * (t 0 - t 4) + 64 * (t 1 - t 4) + 8 * (t 2 - t 4) + (t 3 - t 4), by omega, by rw [p8_4]; omega, fun i h0 h1 => ?_⟩
    rcases (show i = 0 ∨ i = 1 ∨ i = 2 ∨ i = 3 ∨ i = 4 by omega) with rfl | rfl | rfl | rfl | rfl
    · rw [tim_i (by decide), show (4 - 1 - 0 : Int) = 3 by decide, p8_3]; omega
    · rw [tim_i (by decide), show (4 - 1 - 1 : Int) = 2 by decide, p8_2]; omega
    · rw [tim_i (by decide), show (4 - 1 - 2 : Int) = 1 by decide, p8_1]; omega
    · rw [tim_i (by decide), show (4 - 1 - 3 : Int) = 0 by decide, p8_0]; omega
    · rw [tim_n (by decide)]; omega
/-- a plan that meets the constraints -/
def dom (n ct sk : Int) (z e b l : Int → Int) (p : Int) : Prop := (0 ≤ p ∧ p < p8 n) ∧ sol ct sk z e b l (tim n p)
/-- times allowed by P that meet the constraints, and plans: the same -/
theorem dom_of {n ct sk : Int} {z e b l : Int → Int} (hok : okC n ct z e b l) {t : Int → Int} (hb : bs n t) (hs : sol ct sk z e b l t) : ∃ p : Int, dom n ct sk z e b l p ∧ ∀ i : Int, 0 ≤ i → i ≤ n → tim n p i = t i - t n := by
  obtain ⟨p, h0, h1, h2⟩ := plan_of hok.1 hb
  exact ⟨p, ⟨⟨h0, h1⟩, (sol_cg hok h2).mpr hs⟩, h2⟩
/-- one step of tightening the start matrix in place -/
theorem ts_inv {f g : Int → Int} {i j lim m : Int} (h : clo f 0) (hi : 0 ≤ i ∧ i < 5) (hj : 0 ≤ j ∧ j < 5) (hl : 0 ≤ f (0 + 5 * j + i) + lim) (hm : 0 ≤ m ∧ m < 25) (hg : ∀ r : Int, 0 ≤ r → r < 25 → g r = if r < m then tgt f 0 i j lim (r / 5) (r % 5) else f r) :
    g (0 + 5 * (m / 5) + i) = f (0 + 5 * (m / 5) + i) ∧ g (0 + 5 * j + m % 5) = f (0 + 5 * j + m % 5) ∧ g m = f (0 + 5 * (m / 5) + m % 5) := by
  refine ⟨?_, ?_, ?_⟩
  · rw [hg _ (by omega) (by omega)]
    split
    · rw [show (0 + 5 * (m / 5) + i) / 5 = m / 5 by omega, show (0 + 5 * (m / 5) + i) % 5 = i by omega]
      unfold tgt
      split <;> omega
    · rfl
  · rw [hg _ (by omega) (by omega)]
    split
    · rw [show (0 + 5 * j + m % 5) / 5 = j by omega, show (0 + 5 * j + m % 5) % 5 = m % 5 by omega]
      unfold tgt
      split <;> omega
    · rfl
  · rw [hg _ (by omega) (by omega), if_neg (by omega), show 0 + 5 * (m / 5) + m % 5 = m by omega]
theorem ts_end {f g : Int → Int} {i j lim : Int} {P : (Int → Int) → Prop} (h : clo f 0) (hP : ∀ t : Int → Int, dbm f 0 t ↔ P t) (hi : 0 ≤ i ∧ i < 5) (hj : 0 ≤ j ∧ j < 5) (hl : 0 ≤ f (0 + 5 * j + i) + lim) (hg : ∀ r : Int, 0 ≤ r → r < 25 → g r = tgt f 0 i j lim (r / 5) (r % 5)) : SI g 0 (fun t => P t ∧ t i - t j ≤ lim) := by
  obtain ⟨c1, c2⟩ := tg_clo (g := g) (o' := 0) h hi hj hl (fun p q h1 h2 h3 h4 => by
    rw [hg _ (by omega) (by omega), show (0 + 5 * p + q) / 5 = p by omega, show (0 + 5 * p + q) % 5 = q by omega])
  exact Or.inl ⟨rfl, c1, fun t => (c2 t).trans (and_congr_left' (hP t))⟩
theorem ts_any {f : Int → Int} {i j lim : Int} {P : (Int → Int) → Prop} (h : clo f 0) (hP : ∀ t : Int → Int, dbm f 0 t ↔ P t) (hi : 0 ≤ i ∧ i < 5) (hj : 0 ≤ j ∧ j < 5) (hl : f (0 + 5 * i + j) ≤ lim) : SI f 0 (fun t => P t ∧ t i - t j ≤ lim) := by
  refine Or.inl ⟨rfl, h, fun t => (hP t).trans ⟨fun q => ⟨q, ?_⟩, fun q => q.1⟩⟩
  have := (hP t).mpr q i j hi.1 hi.2 hj.1 hj.2
  omega
theorem ts_bad {f : Int → Int} {i j lim : Int} {P : (Int → Int) → Prop} (hP : ∀ t : Int → Int, dbm f 0 t ↔ P t) (hi : 0 ≤ i ∧ i < 5) (hj : 0 ≤ j ∧ j < 5) (hl : f (0 + 5 * j + i) + lim < 0) : SI f 1 (fun t => P t ∧ t i - t j ≤ lim) := by
  refine Or.inr ⟨rfl, fun t q => ?_⟩
  have := (hP t).mpr q.1 j i hj.1 hj.2 hi.1 hi.2
  have := q.2
  omega
end
section
/-! MATH 2: helpers of loops, answers' predicates, stores -/
theorem i_ls {P : Int → Prop} {a : Int} (h : ∀ x : Int, 0 ≤ x → x < a → P x) (ha : P a) : ∀ x : Int, 0 ≤ x → x < a + 1 → P x := by
  intro x h0 h1
  rcases (show x < a ∨ x = a by omega) with q | q
  · exact h x h0 q
  · rw [q]; exact ha
theorem i_l0 {P : Int → Prop} : ∀ x : Int, 0 ≤ x → x < 0 → P x := fun x h0 h1 => absurd h1 (by omega)
theorem isB_t {z : Int} {P : Prop} (h : isB z P) (hz : ¬ z = 0) : P := by
  rcases h with h | h
  · exact h.2
  · exact absurd h.1 hz
theorem isB_f {z : Int} {P : Prop} (h : isB z P) (hz : z = 0) : ¬ P := by
  rcases h with h | h
  · omega
  · exact h.2
theorem isB_1 {z : Int} {P : Prop} (h : isB z P) (hz : ¬ z = 0) : isB 1 P := Or.inl ⟨rfl, isB_t h hz⟩
theorem isB_0 {z : Int} {P : Prop} (h : isB z P) (hz : z = 0) : isB 0 P := Or.inr ⟨rfl, isB_f h hz⟩
theorem p8n {n : Int} (hn : 2 ≤ n ∧ n ≤ 4) : 64 ≤ p8 n ∧ p8 n ≤ 4096 := by
  rcases (show n = 2 ∨ n = 3 ∨ n = 4 by omega) with rfl | rfl | rfl
  · rw [p8_2]; decide
  · rw [p8_3]; decide
  · rw [p8_4]; decide
/-- most is the greatest val of those below p that are S, or -200 -/
def mxP (val : Int → Int) (S : Int → Prop) (p most : Int) : Prop := (most = -200 ∧ ∀ x : Int, 0 ≤ x → x < p → ¬ S x) ∨ ((-7 ≤ most ∧ most ≤ 7) ∧ (∃ x : Int, 0 ≤ x ∧ x < p ∧ S x ∧ val x = most) ∧ ∀ x : Int, 0 ≤ x → x < p → S x → val x ≤ most)
theorem mxP_rg {val : Int → Int} {S : Int → Prop} {p most : Int} (h : mxP val S p most) : most = -200 ∨ (-7 ≤ most ∧ most ≤ 7) := by rcases h with h | h <;> omega
theorem mx_no {val : Int → Int} {S : Int → Prop} {p most : Int} (h : mxP val S p most) (hs : ¬ S p) : mxP val S (p + 1) most := by
  rcases h with h | ⟨h1, ⟨x, x0, x1, x2, x3⟩, h3⟩
  · exact Or.inl ⟨h.1, i_ls h.2 hs⟩
  · exact Or.inr ⟨h1, ⟨x, x0, by omega, x2, x3⟩, i_ls h3 (fun q => absurd q hs)⟩
theorem mx_le {val : Int → Int} {S : Int → Prop} {p most : Int} (h : mxP val S p most) (hv : -7 ≤ val p) (hs : val p ≤ most) : mxP val S (p + 1) most := by
  rcases h with h | ⟨h1, ⟨x, x0, x1, x2, x3⟩, h3⟩
  · omega
  · exact Or.inr ⟨h1, ⟨x, x0, by omega, x2, x3⟩, i_ls h3 (fun _ => hs)⟩
theorem mx_new {val : Int → Int} {S : Int → Prop} {p most v : Int} (h : mxP val S p most) (hp : 0 ≤ p) (hS : S p) (hv : v = val p) (hr : -7 ≤ v ∧ v ≤ 7) (hs : most < v) : mxP val S (p + 1) v := by
  subst hv
  refine Or.inr ⟨hr, ⟨p, hp, by omega, hS, rfl⟩, i_ls (fun x x0 x1 x2 => ?_) (fun _ => Int.le_refl _)⟩
  rcases h with h | ⟨-, -, h3⟩
  · exact absurd x2 (h.2 x x0 x1)
  · have := h3 x x0 x1 x2
    omega
theorem mx_un {val : Int → Int} {S : Int → Prop} {p y z : Int} (h : mxP val S p y) (h2 : mxP val S p z) : y = z := by
  rcases h with h | ⟨h1, ⟨x, x0, x1, x2, x3⟩, h3⟩ <;> rcases h2 with g | ⟨g1, ⟨w, w0, w1, w2, w3⟩, g3⟩
  · omega
  · exact absurd w2 (h.2 w w0 w1)
  · exact absurd x2 (g.2 x x0 x1)
  · have := h3 w w0 w1 w2
    have := g3 x x0 x1 x2
    omega
/-- the answers of the mutators -/
def altZ (n ds i j m : Int) : Int := if i < 0 ∨ n < i ∨ j < 0 ∨ n < j then -1 else if i = j then -2 else if m < -10 ∨ 10 < m then -3 else if ds = 3 then -4 else ds + 1
def apZ (n ct pair gap span : Int) : Int := if pair < 0 ∨ n ≤ pair / 8 ∨ n ≤ pair % 8 then -1 else if pair / 8 = pair % 8 then -2 else if gap < 0 ∨ 7 < gap then -3 else if span < 0 ∨ 7 < span then -4 else if 5 < ct then -5 else ct + 3
/-- a of three places copied from block fr to block to -/
def cp (f : Int → Int) (fr to a : Int) : Int → Int := fun x => if 3 * to ≤ x ∧ x < 3 * to + a then f (3 * fr + (x - 3 * to)) else f x
theorem cp_0 (f : Int → Int) (fr to : Int) : f = cp f fr to 0 := by
  funext x
  unfold cp
  rw [if_neg (by omega)]
theorem cp_s {f g h : Int → Int} {fr to a : Int} (hg : g = cp f fr to a) (ha : 0 ≤ a ∧ a < 3) (hne : fr ≠ to) (hh : h = iU g (3 * to + a) (g (3 * fr + a))) : h = cp f fr to (a + 1) := by
  subst hg
  subst hh
  funext x
  unfold iU cp
  by_cases hx : x = 3 * to + a
  · rw [if_pos hx, if_neg (by omega), if_pos (by omega)]
    congr 1
    omega
  · rw [if_neg hx]
    by_cases h2 : 3 * to ≤ x ∧ x < 3 * to + a
    · rw [if_pos h2, if_pos (by omega)]
    · rw [if_neg h2, if_neg (by omega)]
/-- places lo .. hi-1 taken from d places on -/
def shf (f : Int → Int) (d lo hi : Int) : Int → Int := fun x => if lo ≤ x ∧ x < hi then f (x + d) else f x
theorem shf_0 (f : Int → Int) (d lo : Int) : f = shf f d lo lo := by
  funext x
  unfold shf
  rw [if_neg (by omega)]
theorem shf_1 {f g h : Int → Int} {lo hi : Int} (hg : g = shf f 1 lo hi) (h0 : lo ≤ hi) (hh : h = iU g hi (g (hi + 1))) : h = shf f 1 lo (hi + 1) := by
  subst hg
  subst hh
  funext x
  unfold iU shf
  by_cases hx : x = hi
  · rw [if_pos hx, if_neg (by omega), if_pos (by omega), hx]
  · rw [if_neg hx]
    by_cases h2 : lo ≤ x ∧ x < hi
    · rw [if_pos h2, if_pos (by omega)]
    · rw [if_neg h2, if_neg (by omega)]
theorem shf_3 {f g h : Int → Int} {pos c : Int} (hg : g = shf f 3 (3 * pos) (3 * c)) (h0 : pos ≤ c) (hh : h = cp g (c + 1) c 3) : h = shf f 3 (3 * pos) (3 * (c + 1)) := by
  subst hg
  subst hh
  funext x
  unfold cp shf
  by_cases hx : 3 * c ≤ x ∧ x < 3 * c + 3
  · rw [if_pos hx, if_neg (by omega), if_pos (by omega)]
    congr 1
    omega
  · rw [if_neg hx]
    by_cases h2 : 3 * pos ≤ x ∧ x < 3 * c
    · rw [if_pos h2, if_pos (by omega)]
    · rw [if_neg h2, if_neg (by omega)]
end
section
/-! MATH 3: answers' predicates, 2 -/
/-- the least that is S, or -1 -/
def leS (S : Int → Prop) (z : Int) : Prop := (z = -1 ∧ ∀ x : Int, ¬ S x) ∨ (S z ∧ ∀ x : Int, S x → z ≤ x)
theorem leS_un {S : Int → Prop} {y z : Int} (h : leS S y) (h2 : leS S z) : y = z := by
  rcases h with h | h <;> rcases h2 with g | g
  · omega
  · exact absurd g.1 (h.2 _)
  · exact absurd h.1 (g.2 _)
  · have := h.2 _ g.1
    have := g.2 _ h.1
    omega
/-- la is the latest time of the first e events of plan p -/
def laP (n p e la : Int) : Prop := (0 ≤ la ∧ la ≤ 7) ∧ (∀ x : Int, 0 ≤ x → x < e → tim n p x ≤ la) ∧ (la = 0 ∨ ∃ x : Int, 0 ≤ x ∧ x < e ∧ tim n p x = la)
theorem laP_0 {n p : Int} : laP n p 0 0 := ⟨by decide, i_l0, Or.inl rfl⟩
theorem laP_rg {n p e la : Int} (h : laP n p e la) : 0 ≤ la ∧ la ≤ 7 := h.1
theorem laP_le {n p e la : Int} (h : laP n p e la) (hv : tim n p e ≤ la) : laP n p (e + 1) la := by
  refine ⟨h.1, i_ls h.2.1 hv, ?_⟩
  rcases h.2.2 with g | ⟨x, x0, x1, x2⟩
  · exact Or.inl g
  · exact Or.inr ⟨x, x0, by omega, x2⟩
theorem laP_gt {n p e la v : Int} (h : laP n p e la) (he : 0 ≤ e) (hv : v = tim n p e) (hlt : la < v) : laP n p (e + 1) v := by
  have := tim_rg n p e
  refine ⟨by omega, i_ls (fun x x0 x1 => ?_) (by omega), Or.inr ⟨e, he, by omega, hv.symm⟩⟩
  have := h.2.1 x x0 x1
  omega
/-- z is the least latest time of the plans below p that are S, or -1 -/
def shP (n : Int) (S : Int → Prop) (p z : Int) : Prop := (z = -1 ∧ ∀ x : Int, 0 ≤ x → x < p → ¬ S x) ∨ ((0 ≤ z ∧ z ≤ 7) ∧ (∃ x : Int, 0 ≤ x ∧ x < p ∧ S x ∧ ∀ e : Int, 0 ≤ e → e < n → tim n x e ≤ z) ∧ ∀ x : Int, 0 ≤ x → x < p → S x → ∀ v : Int, 0 ≤ v → (∀ e : Int, 0 ≤ e → e < n → tim n x e ≤ v) → z ≤ v)
theorem shP_rg {n : Int} {S : Int → Prop} {p z : Int} (h : shP n S p z) : -1 ≤ z ∧ z ≤ 7 := by rcases h with h | h <;> omega
theorem sh_no {n : Int} {S : Int → Prop} {p z : Int} (h : shP n S p z) (hs : ¬ S p) : shP n S (p + 1) z := by
  rcases h with h | ⟨h1, ⟨x, x0, x1, x2⟩, h3⟩
  · exact Or.inl ⟨h.1, i_ls h.2 hs⟩
  · exact Or.inr ⟨h1, ⟨x, x0, by omega, x2⟩, i_ls h3 (fun q => absurd q hs)⟩
theorem laP_v {n p la v : Int} (hla : laP n p n la) (hv : 0 ≤ v) (h : ∀ e : Int, 0 ≤ e → e < n → tim n p e ≤ v) : la ≤ v := by
  rcases hla.2.2 with g | ⟨x, x0, x1, x2⟩
  · omega
  · have := h x x0 x1
    omega
theorem sh_le {n : Int} {S : Int → Prop} {p z la : Int} (h : shP n S p z) (hla : laP n p n la) (hz : 0 ≤ z ∧ z ≤ la) : shP n S (p + 1) z := by
  rcases h with h | ⟨h1, ⟨x, x0, x1, x2⟩, h3⟩
  · omega
  · refine Or.inr ⟨h1, ⟨x, x0, by omega, x2⟩, i_ls h3 (fun _ v v0 hv => ?_)⟩
    have := laP_v hla v0 hv
    omega
theorem sh_new {n : Int} {S : Int → Prop} {p z la : Int} (h : shP n S p z) (hp : 0 ≤ p) (hS : S p) (hla : laP n p n la) (hlt : z < 0 ∨ la < z) : shP n S (p + 1) la := by
  refine Or.inr ⟨hla.1, ⟨p, hp, by omega, hS, hla.2.1⟩, i_ls (fun x x0 x1 x2 v v0 hv => ?_) (fun _ v v0 hv => laP_v hla v0 hv)⟩
  rcases h with h | ⟨h1, -, h3⟩
  · exact absurd x2 (h.2 x x0 x1)
  · have := h3 x x0 x1 x2 v v0 hv
    omega
theorem sh_un {n : Int} {S : Int → Prop} {p y z : Int} (h : shP n S p y) (h2 : shP n S p z) : y = z := by
  rcases h with h | ⟨h1, ⟨x, x0, x1, x2, x3⟩, h3⟩ <;> rcases h2 with g | ⟨g1, ⟨w, w0, w1, w2, w3⟩, g3⟩
  · omega
  · exact absurd w2 (h.2 w w0 w1)
  · exact absurd x2 (g.2 x x0 x1)
  · have := h3 w w0 w1 w2 z g1.1 w3
    have := g3 x x0 x1 x2 y h1.1 x3
    omega
/-- t constraints from the end on must go -/
def exP (n ct : Int) (z e b l : Int → Int) (t : Int) : Prop := (0 ≤ t ∧ t ≤ ct) ∧ (∀ x : Int, 0 ≤ x → x < t → ¬ ∃ p : Int, dom n (ct - x) (-1) z e b l p) ∧ ∃ p : Int, dom n (ct - t) (-1) z e b l p
theorem exP_un {n ct : Int} {z e b l : Int → Int} {s t : Int} (h : exP n ct z e b l s) (g : exP n ct z e b l t) : s = t := by
  rcases (show s < t ∨ s = t ∨ t < s by omega) with q | q | q
  · exact absurd h.2.2 (g.2.1 s h.1.1 q)
  · exact q
  · exact absurd g.2.2 (h.2.1 t g.1.1 q)
/-- three constraints more, for two events apart -/
def apS (n ct i j gap span : Int) (z e b l z' e' b' l' : Int → Int) : Prop := (0 ≤ i ∧ i < n ∧ 0 ≤ j ∧ j < n ∧ i ≠ j ∧ 0 ≤ gap ∧ gap ≤ 7 ∧ 0 ≤ span ∧ span ≤ 7 ∧ ct ≤ 5) ∧ (∀ x : Int, x < ct ∨ ct + 3 ≤ x → z' x = z x) ∧ (z' ct = 2 ∧ z' (ct + 1) = 1 ∧ z' (ct + 2) = 1) ∧ (∀ x : Int, x < 3 * ct ∨ 3 * ct + 9 ≤ x → e' x = e x ∧ b' x = b x ∧ l' x = l x) ∧ (e' (3 * ct) = i ∧ b' (3 * ct) = j ∧ l' (3 * ct) = -gap) ∧ (e' (3 * ct + 1) = j ∧ b' (3 * ct + 1) = i ∧ l' (3 * ct + 1) = -gap) ∧ (e' (3 * ct + 3) = i ∧ b' (3 * ct + 3) = j ∧ l' (3 * ct + 3) = span) ∧ (e' (3 * ct + 6) = j ∧ b' (3 * ct + 6) = i ∧ l' (3 * ct + 6) = span)
theorem iU4 {f f1 f2 f3 f4 : Int → Int} {ct v1 v2 v3 v4 i1 i2 i3 i4 : Int} (h1 : f1 = iU f i1 v1) (h2 : f2 = iU f1 i2 v2) (h3 : f3 = iU f2 i3 v3) (h4 : f4 = iU f3 i4 v4) (e1 : i1 = 3 * ct) (e2 : i2 = 3 * ct + 1) (e3 : i3 = 3 * ct + 3) (e4 : i4 = 3 * ct + 6) : (∀ x : Int, x < 3 * ct ∨ 3 * ct + 9 ≤ x → f4 x = f x) ∧ f4 (3 * ct) = v1 ∧ f4 (3 * ct + 1) = v2 ∧ f4 (3 * ct + 3) = v3 ∧ f4 (3 * ct + 6) = v4 := by
  subst h1 h2 h3 h4 e1 e2 e3 e4
  refine ⟨fun x hx => ?_, ?_, ?_, ?_, ?_⟩
  · rw [iU_n (by omega), iU_n (by omega), iU_n (by omega), iU_n (by omega)]
  · rw [iU_n (by omega), iU_n (by omega), iU_n (by omega), iU_s]
  · rw [iU_n (by omega), iU_n (by omega), iU_s]
  · rw [iU_n (by omega), iU_s]
  · rw [iU_s]
theorem apS_of {n ct i j gap span : Int} {z z0 z1 z2 z3 z4 e e1 e2 e3 e4 b b1 b2 b3 b4 l l1 l2 l3 l4 : Int → Int} (hi : 0 ≤ i ∧ i < n) (hj : 0 ≤ j ∧ j < n) (hij : i ≠ j) (hg : 0 ≤ gap ∧ gap ≤ 7 ∧ 0 ≤ span ∧ span ≤ 7) (hc : ct ≤ 5) (hz : ∀ x : Int, x < ct ∨ ct + 3 ≤ x → z0 x = z x)
    (y0 : z0 ct = 0) (y1 : z0 (ct + 1) = 0) (y2 : z0 (ct + 2) = 0)
    (k1 : z1 = iU z0 ct (0 + 1)) (k2 : e1 = iU e (3 * ct + 0) i) (k3 : b1 = iU b (3 * ct + 0) j) (k4 : l1 = iU l (3 * ct + 0) (-gap))
    (m1 : z2 = iU z1 ct (1 + 1)) (m2 : e2 = iU e1 (3 * ct + 1) j) (m3 : b2 = iU b1 (3 * ct + 1) i) (m4 : l2 = iU l1 (3 * ct + 1) (-gap))
    (o1 : z3 = iU z2 (ct + 1) (0 + 1)) (o2 : e3 = iU e2 (3 * (ct + 1) + 0) i) (o3 : b3 = iU b2 (3 * (ct + 1) + 0) j) (o4 : l3 = iU l2 (3 * (ct + 1) + 0) span)
    (r1 : z4 = iU z3 (ct + 2) (0 + 1)) (r2 : e4 = iU e3 (3 * (ct + 2) + 0) j) (r3 : b4 = iU b3 (3 * (ct + 2) + 0) i) (r4 : l4 = iU l3 (3 * (ct + 2) + 0) span) : apS n ct i j gap span z e b l z4 e4 b4 l4 := by
  obtain ⟨a0, a1, a2, a3, a4⟩ := iU4 (ct := ct) k2 m2 o2 r2 (by omega) (by omega) (by omega) (by omega)
  obtain ⟨b0', b1', b2', b3', b4'⟩ := iU4 (ct := ct) k3 m3 o3 r3 (by omega) (by omega) (by omega) (by omega)
  obtain ⟨c0, c1, c2, c3, c4⟩ := iU4 (ct := ct) k4 m4 o4 r4 (by omega) (by omega) (by omega) (by omega)
  refine ⟨by omega, fun x hx => ?_, ⟨?_, ?_, ?_⟩, fun x hx => ⟨a0 x hx, b0' x hx, c0 x hx⟩, ⟨a1, b1', c1⟩, ⟨a2, b2', c2⟩, ⟨a3, b3', c3⟩, ⟨a4, b4', c4⟩⟩
  · rw [r1, iU_n (by omega), o1, iU_n (by omega), m1, iU_n (by omega), k1, iU_n (by omega)]
    exact hz x hx
  · rw [r1, iU_n (by omega), o1, iU_n (by omega), m1]
    exact iU_s
  · rw [r1, iU_n (by omega), o1]
    exact iU_s
  · rw [r1]
    exact iU_s
end
section
/-! MATH 4: the class's matrices, step by step -/
theorem SI_bad {f : Int → Int} {bad : Int} {P Q : (Int → Int) → Prop} (h : SI f bad P) (hb : ¬ bad = 0) : SI f bad (fun t => P t ∧ Q t) := by
  rcases h with h | h
  · exact absurd h.1 hb
  · exact Or.inr ⟨h.1, fun t q => h.2 t q.1⟩
theorem SI_0 {f : Int → Int} {bad : Int} {P : (Int → Int) → Prop} (h : SI f bad P) (hb : bad = 0) : clo f 0 ∧ ∀ t : Int → Int, dbm f 0 t ↔ P t := by
  rcases h with h | h
  · exact h.2
  · omega
theorem SI_none {f : Int → Int} {bad : Int} {P : (Int → Int) → Prop} (h : SI f bad P) (hb : ¬ bad = 0) : ∀ t : Int → Int, ¬ P t := by
  rcases h with h | h
  · exact absurd h.1 hb
  · exact h.2
theorem os_s0 {n m : Int} {f g h : Int → Int} (hf : ∀ r : Int, 0 ≤ r → r < m → f r = osf n r) (hg : g = iU f m 7) (hh : h = iU g m 0) (hc : m / 5 = m % 5 ∨ m / 5 = n) : ∀ r : Int, 0 ≤ r → r < m + 1 → h r = osf n r := by
  subst hh hg
  refine i_ls (fun r r0 r1 => ?_) ?_
  · rw [iU_n (by omega), iU_n (by omega)]
    exact hf r r0 r1
  · rw [iU_s]
    unfold osf
    rw [if_pos hc]
theorem os_s7 {n m : Int} {f g : Int → Int} (hf : ∀ r : Int, 0 ≤ r → r < m → f r = osf n r) (hg : g = iU f m 7) (hc : ¬ (m / 5 = m % 5 ∨ m / 5 = n)) : ∀ r : Int, 0 ≤ r → r < m + 1 → g r = osf n r := by
  subst hg
  refine i_ls (fun r r0 r1 => ?_) ?_
  · rw [iU_n (by omega)]
    exact hf r r0 r1
  · rw [iU_s]
    unfold osf
    rw [if_neg hc]
theorem ts_step {f g h : Int → Int} {i j lim m v : Int} (hg : ∀ r : Int, 0 ≤ r → r < 25 → g r = if r < m then tgt f 0 i j lim (r / 5) (r % 5) else f r) (hv : v = tgt f 0 i j lim (m / 5) (m % 5)) (hh : h = iU g m v) : ∀ r : Int, 0 ≤ r → r < 25 → h r = if r < m + 1 then tgt f 0 i j lim (r / 5) (r % 5) else f r := by
  subst hh
  intro r r0 r1
  by_cases hr : r = m
  · subst hr
    rw [iU_s, if_pos (by omega)]
    exact hv
  · rw [iU_n hr, hg r r0 r1]
    by_cases h2 : r < m
    · rw [if_pos h2, if_pos (by omega)]
    · rw [if_neg h2, if_neg (by omega)]
theorem tgt_lt {f : Int → Int} {o i j lim p q v : Int} (hv : v = f (o + 5 * p + i) + lim + f (o + 5 * j + q)) (h : v < f (o + 5 * p + q)) : v = tgt f o i j lim p q := by
  unfold tgt
  rw [if_pos (by omega)]
  exact hv
theorem tgt_ge {f : Int → Int} {o i j lim p q v : Int} (hv : v = f (o + 5 * p + q)) (h : v ≤ f (o + 5 * p + i) + lim + f (o + 5 * j + q)) : v = tgt f o i j lim p q := by
  unfold tgt
  rw [if_neg (by omega)]
  exact hv
theorem cpo_A {f g h : Int → Int} {d m v : Int} (hA : ∀ r : Int, 0 ≤ r → r < m → g (25 * d + 25 + r) = f (25 * d + r)) (hv : v = f (25 * d + m)) (hh : h = iU g (25 * d + 25 + m) v) : ∀ r : Int, 0 ≤ r → r < m + 1 → h (25 * d + 25 + r) = f (25 * d + r) := by
  subst hh
  refine i_ls (fun r r0 r1 => ?_) ?_
  · rw [iU_n (by omega)]
    exact hA r r0 r1
  · rw [iU_s]
    exact hv
theorem cpo_B {f g h : Int → Int} {d m v : Int} (h0 : 0 ≤ m) (hB : ∀ r : Int, r < 25 * d + 25 ∨ 25 * d + 25 + m ≤ r → g r = f r) (hh : h = iU g (25 * d + 25 + m) v) : ∀ r : Int, r < 25 * d + 25 ∨ 25 * d + 25 + (m + 1) ≤ r → h r = f r := by
  subst hh
  intro r hr
  rw [iU_n (by omega)]
  exact hB r (by omega)
/-- one step of tightening at a depth d: the cells from 25 d on, out of those from 25 d - 25 on -/
theorem tg_A {f g h : Int → Int} {d i j lim m v : Int} (hA : ∀ r : Int, 0 ≤ r → r < 25 → g (25 * d + r) = if r < m then tgt f (25 * d - 25) i j lim (r / 5) (r % 5) else f (25 * d - 25 + r)) (hv : v = tgt f (25 * d - 25) i j lim (m / 5) (m % 5)) (hh : h = iU g (25 * d + m) v) : ∀ r : Int, 0 ≤ r → r < 25 → h (25 * d + r) = if r < m + 1 then tgt f (25 * d - 25) i j lim (r / 5) (r % 5) else f (25 * d - 25 + r) := by
  subst hh
  intro r r0 r1
  by_cases hr : r = m
  · subst hr
    rw [iU_s, if_pos (by omega)]
    exact hv
  · rw [iU_n (by omega), hA r r0 r1]
    by_cases h2 : r < m
    · rw [if_pos h2, if_pos (by omega)]
    · rw [if_neg h2, if_neg (by omega)]
theorem tg_A0 {f g : Int → Int} {d i j lim m : Int} (hA : ∀ r : Int, 0 ≤ r → r < 25 → g (25 * d + r) = if r < m then tgt f (25 * d - 25) i j lim (r / 5) (r % 5) else f (25 * d - 25 + r)) (hv : f (25 * d - 25 + m) = tgt f (25 * d - 25) i j lim (m / 5) (m % 5)) : ∀ r : Int, 0 ≤ r → r < 25 → g (25 * d + r) = if r < m + 1 then tgt f (25 * d - 25) i j lim (r / 5) (r % 5) else f (25 * d - 25 + r) := by
  intro r r0 r1
  by_cases hr : r = m
  · subst hr
    rw [hA r r0 r1, if_neg (by omega), if_pos (by omega)]
    exact hv
  · rw [hA r r0 r1]
    by_cases h2 : r < m
    · rw [if_pos h2, if_pos (by omega)]
    · rw [if_neg h2, if_neg (by omega)]
theorem tg_B {f g h : Int → Int} {d m v : Int} (h0 : 0 ≤ m ∧ m < 25) (hB : ∀ r : Int, r < 25 * d ∨ 25 * d + 25 ≤ r → g r = f r) (hh : h = iU g (25 * d + m) v) : ∀ r : Int, r < 25 * d ∨ 25 * d + 25 ≤ r → h r = f r := by
  subst hh
  intro r hr
  rw [iU_n (by omega)]
  exact hB r hr
theorem ix5 {f : Int → Int} (o m : Int) (h : 0 ≤ m) : f (o + m) = f (o + 5 * (m / 5) + m % 5) := by
  congr 1
  omega
/-- the constraint d is met anyway by whatever the matrix at 25 d allows -/
def anyw (sk : Int) (z e b l mx : Int → Int) (d : Int) : Prop := d = sk ∨ ∃ q : Int, 3 * d ≤ q ∧ q < 3 * d + z d ∧ mx (25 * d + 5 * e q + b q) ≤ l q
/-- what is left to try at depth d, with comparisons from r on -/
def rm1 (sk : Int) (z e b l mx : Int → Int) (d r : Int) (t : Int → Int) : Prop := dbm mx (25 * d) t ∧ ((anyw sk z e b l mx d ∧ r = 0) ∨ (¬ anyw sk z e b l mx d ∧ ∃ a : Int, r ≤ a ∧ a < z d ∧ t (e (3 * d + a)) - t (b (3 * d + a)) ≤ l (3 * d + a)))
theorem okC_abs {n ct : Int} {z e b l : Int → Int} (h : okC n ct z e b l) {d : Int} (h0 : 0 ≤ d) (h1 : d < ct) : ∀ q : Int, 3 * d ≤ q → q < 3 * d + z d → (0 ≤ e q ∧ e q ≤ n) ∧ (0 ≤ b q ∧ b q ≤ n) ∧ e q ≠ b q ∧ (-10 ≤ l q ∧ l q ≤ 10) := by
  intro q q0 q1
  have := (h.2.2 d h0 h1).2 (q - 3 * d) (by omega) (by omega)
  rw [show 3 * d + (q - 3 * d) = q by omega] at this
  exact this
theorem anyw_mt {n ct sk : Int} {z e b l mx : Int → Int} (hok : okC n ct z e b l) {d : Int} (h0 : 0 ≤ d) (h1 : d < ct) (ha : anyw sk z e b l mx d) (hne : d ≠ sk) {t : Int → Int} (ht : dbm mx (25 * d) t) : mt z e b l d t := by
  rcases ha with ha | ⟨q, q0, q1, q2⟩
  · exact absurd ha hne
  · have hn := hok.1
    obtain ⟨k1, k2, -, -⟩ := okC_abs hok h0 h1 q q0 q1
    have := ht (e q) (b q) k1.1 (by omega) k2.1 (by omega)
    refine ⟨q - 3 * d, by omega, by omega, ?_⟩
    rw [show 3 * d + (q - 3 * d) = q by omega]
    omega
/-- what a step at depth d comes to -/
def goP (sk : Int) (z e b l mx tn mx' tn' : Int → Int) (d r : Int) : Prop := (∀ m : Int, m < 25 * d + 25 ∨ 25 * d + 50 ≤ m → mx' m = mx m) ∧ (∀ m : Int, m ≠ d → tn' m = tn m) ∧
  ((r = 1 ∧ clo mx' (25 * d + 25) ∧ (tn d + 1 ≤ tn' d ∧ tn' d ≤ 3) ∧ (∀ t : Int → Int, dbm mx' (25 * d + 25) t → dbm mx (25 * d) t ∧ (d ≠ sk → mt z e b l d t)) ∧ ∀ t : Int → Int, rm1 sk z e b l mx d (tn d) t → rm1 sk z e b l mx d (tn' d) t ∨ dbm mx' (25 * d + 25) t) ∨ (r = 0 ∧ ∀ t : Int → Int, ¬ rm1 sk z e b l mx d (tn d) t))
theorem goP_01 {sk : Int} {z e b l mx tn mx' tn' : Int → Int} {d r : Int} (h : goP sk z e b l mx tn mx' tn' d r) : r = 0 ∨ r = 1 := by rcases h.2.2 with h | h <;> omega
theorem go_1 {n ct sk : Int} {z e b l mx tn mx' tn' : Int → Int} {d : Int} (hok : okC n ct z e b l) (h0 : 0 ≤ d) (h1 : d < ct) (hc : clo mx (25 * d)) (ha : anyw sk z e b l mx d) (ht : tn' = iU tn d (tn d + 1)) (htn : 0 ≤ tn d)
    (hm : (∀ m : Int, 0 ≤ m → m < 25 → mx' (25 * d + 25 + m) = mx (25 * d + m)) ∧ ∀ m : Int, m < 25 * d + 25 ∨ 25 * d + 50 ≤ m → mx' m = mx m) (hr : tn' d = 1) : goP sk z e b l mx tn mx' tn' d 1 := by
  subst ht
  rw [iU_s] at hr
  refine ⟨hm.2, fun m hmd => iU_n hmd, Or.inl ⟨rfl, clo_eq hc hm.1, by rw [iU_s]; omega, fun t q => ?_, fun t q => Or.inr ((dbm_eq hm.1).mpr q.1)⟩⟩
  have q1 := (dbm_eq hm.1).mp q
  exact ⟨q1, fun hne => anyw_mt hok h0 h1 ha hne q1⟩
theorem go_2 {sk : Int} {z e b l mx tn mx' tn' : Int → Int} {d : Int} (ha : anyw sk z e b l mx d) (ht : tn' = iU tn d (tn d + 1)) (hm : ∀ m : Int, m < 25 * d + 25 ∨ 25 * d + 50 ≤ m → mx' m = mx m) (hr : ¬ tn' d = 1) : goP sk z e b l mx tn mx' tn' d 0 := by
  subst ht
  rw [iU_s] at hr
  refine ⟨hm, fun m hmd => iU_n hmd, Or.inr ⟨rfl, fun t q => ?_⟩⟩
  rcases q.2 with q | q
  · omega
  · exact q.1 ha
/-- comparison a can't be met at depth d -/
def infe (e b l mx : Int → Int) (d a : Int) : Prop := mx (25 * d + 5 * b (3 * d + a) + e (3 * d + a)) + l (3 * d + a) < 0
theorem infe_no {n ct : Int} {z e b l mx : Int → Int} (hok : okC n ct z e b l) {d a : Int} (h0 : 0 ≤ d) (h1 : d < ct) (ha : 0 ≤ a ∧ a < z d) (hi : infe e b l mx d a) {t : Int → Int} (ht : dbm mx (25 * d) t) : ¬ (t (e (3 * d + a)) - t (b (3 * d + a)) ≤ l (3 * d + a)) := by
  have hn := hok.1
  obtain ⟨k1, k2, -, -⟩ := (hok.2.2 d h0 h1).2 a ha.1 ha.2
  have := ht (b (3 * d + a)) (e (3 * d + a)) k2.1 (by omega) k1.1 (by omega)
  unfold infe at hi
  omega
theorem go_3 {n ct sk : Int} {z e b l mx tn mx1 mx' tn' : Int → Int} {d a : Int} (hok : okC n ct z e b l) (h0 : 0 ≤ d) (h1 : d < ct) (hc : clo mx (25 * d)) (hna : ¬ anyw sk z e b l mx d) (htn : 0 ≤ tn d) (ha : tn d ≤ a ∧ a < z d) (ht : ∀ m : Int, m ≠ d → tn' m = tn m) (ht2 : tn' d = a + 1)
    (hinf : ∀ x : Int, tn d ≤ x → x < a → infe e b l mx d x) (hfe : 0 ≤ mx (25 * d + 5 * b (3 * d + a) + e (3 * d + a)) + l (3 * d + a))
    (hm : (∀ m : Int, 0 ≤ m → m < 25 → mx1 (25 * d + 25 + m) = mx (25 * d + m)) ∧ ∀ m : Int, m < 25 * d + 25 ∨ 25 * d + 50 ≤ m → mx1 m = mx m)
    (hg : (∀ p q : Int, 0 ≤ p → p < 5 → 0 ≤ q → q < 5 → mx' (25 * (d + 1) + 5 * p + q) = tgt mx1 (25 * (d + 1) - 25) (e (3 * d + a)) (b (3 * d + a)) (l (3 * d + a)) p q) ∧ ∀ m : Int, m < 25 * (d + 1) ∨ 25 * (d + 1) + 25 ≤ m → mx' m = mx1 m) : goP sk z e b l mx tn mx' tn' d 1 := by
  have hn := hok.1
  obtain ⟨hz, hk⟩ := hok.2.2 d h0 h1
  obtain ⟨k1, k2, -, -⟩ := hk a (by omega) ha.2
  have hsame : ∀ m : Int, m < 25 * d + 25 ∨ 25 * d + 50 ≤ m → mx' m = mx m := fun m hm2 => (hg.2 m (by omega)).trans (hm.2 m hm2)
  have hg2 : ∀ p q : Int, 0 ≤ p → p < 5 → 0 ≤ q → q < 5 → mx' (25 * d + 25 + 5 * p + q) = tgt mx (25 * d) (e (3 * d + a)) (b (3 * d + a)) (l (3 * d + a)) p q := by
    intro p q p0 p1 q0 q1
    have e1 := hg.1 p q p0 p1 q0 q1
    rw [show 25 * (d + 1) + 5 * p + q = 25 * d + 25 + 5 * p + q by omega, show 25 * (d + 1) - 25 = 25 * d by omega] at e1
    rw [e1]
    unfold tgt
    rw [hm.2 (25 * d + 5 * p + e (3 * d + a)) (by omega), hm.2 (25 * d + 5 * b (3 * d + a) + q) (by omega), hm.2 (25 * d + 5 * p + q) (by omega)]
  obtain ⟨c1, c2⟩ := tg_clo (g := mx') (o' := 25 * d + 25) hc ⟨k1.1, by omega⟩ ⟨k2.1, by omega⟩ hfe hg2
  refine ⟨hsame, ht, Or.inl ⟨rfl, c1, by omega, fun t q => ?_, fun t q => ?_⟩⟩
  · obtain ⟨q1, q2⟩ := (c2 t).mp q
    exact ⟨q1, fun _ => ⟨a, by omega, ha.2, q2⟩⟩
  · obtain ⟨q0, q⟩ := q
    rcases q with q | ⟨-, x, x0, x1, x2⟩
    · exact absurd q.1 hna
    · rcases (show x < a ∨ x = a ∨ a < x by omega) with g | g | g
      · exact absurd x2 (infe_no hok h0 h1 ⟨by omega, x1⟩ (hinf x x0 g) q0)
      · subst g
        exact Or.inr ((c2 t).mpr ⟨q0, x2⟩)
      · exact Or.inl ⟨q0, Or.inr ⟨hna, x, by omega, x1, x2⟩⟩
theorem go_4 {n ct sk : Int} {z e b l mx tn tn' : Int → Int} {d : Int} (hok : okC n ct z e b l) (h0 : 0 ≤ d) (h1 : d < ct) (hna : ¬ anyw sk z e b l mx d) (htn : 0 ≤ tn d) (ht : ∀ m : Int, m ≠ d → tn' m = tn m) (hinf : ∀ x : Int, tn d ≤ x → x < tn' d → infe e b l mx d x) (hz : z d ≤ tn' d) : goP sk z e b l mx tn mx tn' d 0 := by
  refine ⟨fun _ _ => rfl, ht, Or.inr ⟨rfl, fun t q => ?_⟩⟩
  obtain ⟨q0, q⟩ := q
  rcases q with q | ⟨-, x, x0, x1, x2⟩
  · exact hna q.1
  · exact infe_no hok h0 h1 ⟨by omega, x1⟩ (hinf x x0 (by omega)) q0 x2
end
section
/-! MATH 5: the search -/
/-- what is left to try at depth r -/
def rm2 (ct sk : Int) (z e b l mx tn : Int → Int) (r : Int) (t : Int → Int) : Prop := (r < ct ∧ rm1 sk z e b l mx r (tn r) t) ∨ (r = ct ∧ dbm mx (25 * r) t)
theorem rm2_dbm {ct sk : Int} {z e b l mx tn : Int → Int} {r : Int} {t : Int → Int} (h : rm2 ct sk z e b l mx tn r t) : dbm mx (25 * r) t := by
  rcases h with h | h
  · exact h.2.1
  · exact h.2
theorem anyw_cg {n ct sk : Int} {z e b l mx mx' : Int → Int} (hok : okC n ct z e b l) {d : Int} (h0 : 0 ≤ d) (h1 : d < ct) (hm : ∀ m : Int, 0 ≤ m → m < 25 → mx' (25 * d + m) = mx (25 * d + m)) : anyw sk z e b l mx' d ↔ anyw sk z e b l mx d := by
  have hn := hok.1
  have key : ∀ q : Int, 3 * d ≤ q → q < 3 * d + z d → mx' (25 * d + 5 * e q + b q) = mx (25 * d + 5 * e q + b q) := by
    intro q q0 q1
    obtain ⟨k1, k2, -, -⟩ := okC_abs hok h0 h1 q q0 q1
    have := hm (5 * e q + b q) (by omega) (by omega)
    rw [show 25 * d + 5 * e q + b q = 25 * d + (5 * e q + b q) by omega]
    exact this
  constructor
  · rintro (h | ⟨q, q0, q1, q2⟩)
    · exact Or.inl h
    · exact Or.inr ⟨q, q0, q1, by rw [← key q q0 q1]; exact q2⟩
  · rintro (h | ⟨q, q0, q1, q2⟩)
    · exact Or.inl h
    · exact Or.inr ⟨q, q0, q1, by rw [key q q0 q1]; exact q2⟩
theorem rm1_cg {n ct sk : Int} {z e b l mx mx' : Int → Int} (hok : okC n ct z e b l) {d r : Int} (h0 : 0 ≤ d) (h1 : d < ct) (hm : ∀ m : Int, 0 ≤ m → m < 25 → mx' (25 * d + m) = mx (25 * d + m)) {t : Int → Int} : rm1 sk z e b l mx' d r t ↔ rm1 sk z e b l mx d r t := by
  have h2 := anyw_cg (sk := sk) hok h0 h1 hm
  have h3 : dbm mx' (25 * d) t ↔ dbm mx (25 * d) t := dbm_eq hm
  unfold rm1
  rw [h2, h3]
theorem rm2_new {ct sk : Int} {z e b l mx tn : Int → Int} {d : Int} (h0 : 0 ≤ d) (h1 : d ≤ ct) (ht : tn d = 0) {t : Int → Int} (hd : dbm mx (25 * d) t) (hs : sol ct sk z e b l t) : rm2 ct sk z e b l mx tn d t := by
  rcases (show d < ct ∨ d = ct by omega) with q | q
  · refine Or.inl ⟨q, hd, ?_⟩
    rw [ht]
    by_cases ha : anyw sk z e b l mx d
    · exact Or.inl ⟨ha, rfl⟩
    · obtain ⟨a, a0, a1, a2⟩ := hs d h0 q (fun e => ha (Or.inl e))
      exact Or.inr ⟨ha, a, a0, a1, a2⟩
  · exact Or.inr ⟨q, hd⟩
/-- the search's state: at depth d, with any (something found) and the best difference -/
def seI (ct sk i j : Int) (z e b l : Int → Int) (P : (Int → Int) → Prop) (d any be : Int) (mx tn : Int → Int) : Prop :=
  (-1 ≤ d ∧ d ≤ ct) ∧ (∀ r : Int, 0 ≤ r → r ≤ d → clo mx (25 * r) ∧ (0 ≤ tn r ∧ tn r ≤ 3) ∧ ∀ t : Int → Int, dbm mx (25 * r) t → P t ∧ ∀ c : Int, 0 ≤ c → c < r → c ≠ sk → mt z e b l c t) ∧
  ((any = 0 ∧ be = -1000) ∨ (any = 1 ∧ 0 ≤ i ∧ (-7 ≤ be ∧ be ≤ 7) ∧ ∃ t : Int → Int, P t ∧ sol ct sk z e b l t ∧ t i - t j = be)) ∧
  ∀ t : Int → Int, P t → sol ct sk z e b l t → (any = 1 ∧ t i - t j ≤ be) ∨ ∃ r : Int, 0 ≤ r ∧ r ≤ d ∧ rm2 ct sk z e b l mx tn r t
/-- the search's answer -/
def seP (ct sk i j : Int) (z e b l : Int → Int) (P : (Int → Int) → Prop) (r be : Int) : Prop := isB r (∃ t : Int → Int, P t ∧ sol ct sk z e b l t) ∧ (0 ≤ i → r = 1 → (-7 ≤ be ∧ be ≤ 7) ∧ (∃ t : Int → Int, P t ∧ sol ct sk z e b l t ∧ t i - t j = be) ∧ ∀ t : Int → Int, P t → sol ct sk z e b l t → t i - t j ≤ be)
theorem seI_rg {ct sk i j : Int} {z e b l : Int → Int} {P : (Int → Int) → Prop} {d any be : Int} {mx tn : Int → Int} (h : seI ct sk i j z e b l P d any be mx tn) : (-1 ≤ d ∧ d ≤ ct) ∧ ((any = 0 ∧ be = -1000) ∨ (any = 1 ∧ 0 ≤ i ∧ (-7 ≤ be ∧ be ≤ 7))) := by
  obtain ⟨h1, -, h3, -⟩ := h
  refine ⟨h1, ?_⟩
  rcases h3 with h3 | ⟨a, b, c, -⟩
  · exact Or.inl h3
  · exact Or.inr ⟨a, b, c⟩
theorem se_0 {ct sk i j : Int} {z e b l : Int → Int} {P : (Int → Int) → Prop} {st mx tn : Int → Int} (hct : 0 ≤ ct) (hst : clo st 0 ∧ ∀ t : Int → Int, dbm st 0 t ↔ P t) (hm : ∀ m : Int, 0 ≤ m → m < 25 → mx m = st m) (ht : tn 0 = 0) : seI ct sk i j z e b l P 0 0 (-1000) mx tn := by
  have e1 : ∀ m : Int, 0 ≤ m → m < 25 → mx (25 * 0 + m) = st (0 + m) := by
    intro m m0 m1
    rw [show (25 * 0 + m : Int) = m by omega, show (0 + m : Int) = m by omega]
    exact hm m m0 m1
  have c0 : clo mx (25 * 0) := clo_eq hst.1 e1
  have d0 : ∀ t : Int → Int, dbm mx (25 * 0) t ↔ P t := fun t => (dbm_eq e1).trans (hst.2 t)
  refine ⟨by omega, fun r r0 r1 => ?_, Or.inl ⟨rfl, rfl⟩, fun t pt st => Or.inr ⟨0, by omega, by omega, rm2_new (by omega) hct ht ((d0 t).mpr pt) st⟩⟩
  have hr : r = 0 := by omega
  subst hr
  exact ⟨c0, by omega, fun t q => ⟨(d0 t).mp q, fun c c0 c1 => absurd c1 (by omega)⟩⟩
theorem se_end {ct sk i j : Int} {z e b l : Int → Int} {P : (Int → Int) → Prop} {d any be : Int} {mx tn : Int → Int} (h : seI ct sk i j z e b l P d any be mx tn) (hd : d < 0) : seP ct sk i j z e b l P any be := by
  obtain ⟨h1, h2, h3, h4⟩ := h
  have h5 : ∀ t : Int → Int, P t → sol ct sk z e b l t → any = 1 ∧ t i - t j ≤ be := by
    intro t pt st
    rcases h4 t pt st with g | ⟨r, r0, r1, -⟩
    · exact g
    · omega
  rcases h3 with h3 | ⟨g1, g2, g3, t, g4, g5, g6⟩
  · refine ⟨Or.inr ⟨h3.1, fun ⟨t, pt, st⟩ => ?_⟩, fun _ r1 => ?_⟩
    · have := (h5 t pt st).1
      omega
    · omega
  · exact ⟨Or.inl ⟨g1, t, g4, g5⟩, fun _ _ => ⟨g3, ⟨t, g4, g5, g6⟩, fun t pt st => (h5 t pt st).2⟩⟩
theorem se_hit {ct sk i j : Int} {z e b l : Int → Int} {P : (Int → Int) → Prop} {d any be be' : Int} {mx tn : Int → Int} (h : seI ct sk i j z e b l P d any be mx tn) (hd : d = ct) (h0 : 0 ≤ d) (hi : i < 0) : seP ct sk i j z e b l P 1 be' := by
  obtain ⟨c1, -, c3⟩ := h.2.1 d h0 (by omega)
  obtain ⟨t, t1, -⟩ := clo_tight c1 (i0 := 0) (j0 := 0) (by omega) (by omega) (by omega) (by omega)
  obtain ⟨k1, k2⟩ := c3 t t1
  refine ⟨Or.inl ⟨rfl, t, k1, fun c c0 c1 => k2 c c0 (by omega)⟩, fun g => absurd g (by omega)⟩
theorem se_reach {ct sk i j : Int} {z e b l : Int → Int} {P : (Int → Int) → Prop} {d any be : Int} {mx tn : Int → Int} (h : seI ct sk i j z e b l P d any be mx tn) (h0 : 0 ≤ d) (hi : 0 ≤ i ∧ i < 5) (hj : 0 ≤ j ∧ j < 5) : -7 ≤ mx (25 * d + 5 * i + j) ∧ mx (25 * d + 5 * i + j) ≤ 7 := clo_rg (h.2.1 d h0 (by omega)).1 hi.1 hi.2 hj.1 hj.2
theorem se_leaf {ct sk i j : Int} {z e b l : Int → Int} {P : (Int → Int) → Prop} {d any be re be' : Int} {mx tn : Int → Int} (h : seI ct sk i j z e b l P d any be mx tn) (hd : d = ct) (h0 : 0 ≤ d) (hi : 0 ≤ i ∧ i < 5) (hj : 0 ≤ j ∧ j < 5) (hr : re = mx (25 * d + 5 * i + j)) (hb : be' = if be < re then re else be) : seI ct sk i j z e b l P (d + -1) 1 be' mx tn := by
  have hrg := se_reach h h0 hi hj
  obtain ⟨h1, h2, h3, h4⟩ := h
  obtain ⟨c1, -, c3⟩ := h2 d h0 (by omega)
  obtain ⟨t, t1, t2⟩ := clo_tight c1 hi.1 hi.2 hj.1 hj.2
  obtain ⟨k1, k2⟩ := c3 t t1
  have hs : sol ct sk z e b l t := fun c c0 c1 => k2 c c0 (by omega)
  have hbe : be ≤ be' ∧ re ≤ be' ∧ ((be' = re ∧ be < re) ∨ (be' = be ∧ re ≤ be)) := by
    rw [hb]
    split <;> omega
  refine ⟨by omega, fun r r0 r1 => h2 r r0 (by omega), Or.inr ⟨rfl, hi.1, ?_⟩, fun t' pt st => ?_⟩
  · rcases hbe.2.2 with g | g
    · exact ⟨by omega, t, k1, hs, by omega⟩
    · rcases h3 with h3 | ⟨-, -, g3, t', g4, g5, g6⟩
      · omega
      · exact ⟨by omega, t', g4, g5, by omega⟩
  · rcases h4 t' pt st with g | ⟨r, r0, r1, r2⟩
    · exact Or.inl ⟨rfl, by omega⟩
    · rcases (show r = d ∨ r < d by omega) with q | q
      · subst q
        have := rm2_dbm r2 i j hi.1 hi.2 hj.1 hj.2
        exact Or.inl ⟨rfl, by omega⟩
      · exact Or.inr ⟨r, r0, by omega, r2⟩
theorem se_prune {ct sk i j : Int} {z e b l : Int → Int} {P : (Int → Int) → Prop} {d any be re : Int} {mx tn : Int → Int} (h : seI ct sk i j z e b l P d any be mx tn) (ha : ¬ any = 0) (h0 : 0 ≤ d) (hi : 0 ≤ i → 0 ≤ i ∧ i < 5) (hj : 0 ≤ i → 0 ≤ j ∧ j < 5) (hr : 0 ≤ i → re = mx (25 * d + 5 * i + j)) (hb : re ≤ be) : seI ct sk i j z e b l P (d + -1) any be mx tn := by
  obtain ⟨h1, h2, h3, h4⟩ := h
  have h3' := h3
  rcases h3 with h3 | ⟨g1, g2, -, -⟩
  · omega
  have hi := hi g2
  have hj := hj g2
  have hr := hr g2
  refine ⟨by omega, fun r r0 r1 => h2 r r0 (by omega), h3', fun t pt st => ?_⟩
  rcases h4 t pt st with g | ⟨r, r0, r1, r2⟩
  · exact Or.inl g
  · rcases (show r = d ∨ r < d by omega) with q | q
    · subst q
      have := rm2_dbm r2 i j hi.1 hi.2 hj.1 hj.2
      exact Or.inl ⟨g1, by omega⟩
    · exact Or.inr ⟨r, r0, by omega, r2⟩
theorem se_go0 {n ct sk i j : Int} {z e b l : Int → Int} {P : (Int → Int) → Prop} {d any be : Int} {mx tn mx' tn' : Int → Int} (hok : okC n ct z e b l) (h : seI ct sk i j z e b l P d any be mx tn) (h0 : 0 ≤ d) (h1 : d < ct) (hg : goP sk z e b l mx tn mx' tn' d 0) : seI ct sk i j z e b l P (d + -1) any be mx' tn' := by
  obtain ⟨a1, a2, a3, a4⟩ := h
  obtain ⟨g1, g2, g3⟩ := hg
  rcases g3 with g3 | ⟨-, g3⟩
  · exact absurd g3.1 (by omega)
  have hm : ∀ r : Int, 0 ≤ r → r < d → ∀ m : Int, 0 ≤ m → m < 25 → mx' (25 * r + m) = mx (25 * r + m) := fun r r0 r1 m m0 m1 => g1 _ (by omega)
  refine ⟨by omega, fun r r0 r1 => ?_, a3, fun t pt st => ?_⟩
  · obtain ⟨b1, b2, b3⟩ := a2 r r0 (by omega)
    have e1 := hm r r0 (by omega)
    refine ⟨clo_eq b1 e1, by rw [g2 r (by omega)]; exact b2, fun t q => b3 t ((dbm_eq e1).mp q)⟩
  · rcases a4 t pt st with g | ⟨r, r0, r1, r2⟩
    · exact Or.inl g
    · rcases (show r = d ∨ r < d by omega) with q | q
      · subst q
        rcases r2 with r2 | r2
        · exact absurd r2.2 (g3 t)
        · omega
      · refine Or.inr ⟨r, r0, by omega, ?_⟩
        have e1 := hm r r0 q
        rcases r2 with r2 | r2
        · refine Or.inl ⟨r2.1, ?_⟩
          rw [g2 r (by omega)]
          exact (rm1_cg hok r0 r2.1 e1).mpr r2.2
        · exact Or.inr ⟨r2.1, (dbm_eq e1).mpr r2.2⟩
theorem se_go1 {n ct sk i j : Int} {z e b l : Int → Int} {P : (Int → Int) → Prop} {d any be : Int} {mx tn mx' tn' tn2 : Int → Int} (hok : okC n ct z e b l) (h : seI ct sk i j z e b l P d any be mx tn) (h0 : 0 ≤ d) (h1 : d < ct) (hg : goP sk z e b l mx tn mx' tn' d 1) (ht : tn2 = iU tn' (d + 1) 0) : seI ct sk i j z e b l P (d + 1) any be mx' tn2 := by
  subst ht
  obtain ⟨a1, a2, a3, a4⟩ := h
  obtain ⟨g1, g2, g3⟩ := hg
  rcases g3 with ⟨-, c1, c2, c3, c4⟩ | g3
  case inr => exact absurd g3.1 (by omega)
  have hm : ∀ r : Int, 0 ≤ r → r ≤ d → ∀ m : Int, 0 ≤ m → m < 25 → mx' (25 * r + m) = mx (25 * r + m) := fun r r0 r1 m m0 m1 => g1 _ (by omega)
  have e25 : 25 * (d + 1) = 25 * d + 25 := by omega
  refine ⟨by omega, fun r r0 r1 => ?_, a3, fun t pt st => ?_⟩
  · rcases (show r < d ∨ r = d ∨ r = d + 1 by omega) with q | q | q
    · obtain ⟨b1, b2, b3⟩ := a2 r r0 (by omega)
      have e1 := hm r r0 (by omega)
      refine ⟨clo_eq b1 e1, by rw [iU_n (by omega), g2 r (by omega)]; exact b2, fun t q => b3 t ((dbm_eq e1).mp q)⟩
    · subst q
      obtain ⟨b1, b2, b3⟩ := a2 r r0 (by omega)
      have e1 := hm r r0 (by omega)
      refine ⟨clo_eq b1 e1, by rw [iU_n (by omega)]; omega, fun t q => b3 t ((dbm_eq e1).mp q)⟩
    · subst q
      obtain ⟨b1, b2, b3⟩ := a2 d h0 (by omega)
      rw [e25]
      refine ⟨c1, by rw [iU_s]; omega, fun t q => ?_⟩
      obtain ⟨k1, k2⟩ := c3 t q
      obtain ⟨m1, m2⟩ := b3 t k1
      refine ⟨m1, fun c c0 c1 cs => ?_⟩
      rcases (show c < d ∨ c = d by omega) with w | w
      · exact m2 c c0 w cs
      · subst w
        exact k2 cs
  · rcases a4 t pt st with g | ⟨r, r0, r1, r2⟩
    · exact Or.inl g
    · rcases (show r = d ∨ r < d by omega) with q | q
      · subst q
        rcases r2 with r2 | r2
        · rcases c4 t r2.2 with w | w
          · refine Or.inr ⟨r, r0, by omega, Or.inl ⟨r2.1, ?_⟩⟩
            rw [iU_n (by omega)]
            exact (rm1_cg hok r0 r2.1 (hm r r0 (by omega))).mpr w
          · refine Or.inr ⟨r + 1, by omega, by omega, rm2_new (by omega) (by omega) iU_s ?_ st⟩
            rw [e25]
            exact w
        · omega
      · refine Or.inr ⟨r, r0, by omega, ?_⟩
        have e1 := hm r r0 (by omega)
        rcases r2 with r2 | r2
        · refine Or.inl ⟨r2.1, ?_⟩
          rw [iU_n (by omega), g2 r (by omega)]
          exact (rm1_cg hok r0 r2.1 e1).mpr r2.2
        · exact Or.inr ⟨r2.1, (dbm_eq e1).mpr r2.2⟩
/-! the steps that are left -/
def se3 (r : Int) : Int := (3 : Int) ^ (8 - r).toNat
theorem se3_s {r : Int} (h : 0 ≤ r ∧ r ≤ 7) : se3 r = 3 * se3 (r + 1) := by
  unfold se3
  rw [show (8 - r).toNat = (8 - (r + 1)).toNat + 1 by omega, Int.pow_succ]
  omega
theorem se3_1 (r : Int) : 1 ≤ se3 r := by
  unfold se3
  have : (0 : Int) < 3 ^ (8 - r).toNat := Int.pow_pos (by decide)
  omega
def seG (x r : Int) : Int := 1 + (3 - x) * (se3 r - 1)
theorem seG_1 {x r : Int} (h : 0 ≤ x ∧ x ≤ 3) : 1 ≤ seG x r := by
  have h1 := se3_1 r
  unfold seG
  rcases (show x = 0 ∨ x = 1 ∨ x = 2 ∨ x = 3 by omega) with rfl | rfl | rfl | rfl <;> omega
def seF (tn : Int → Int) : Nat → Int
  | 0 => 0
  | m + 1 => seF tn m + seG (tn (m : Int)) (m : Int)
theorem seF_cg {tn tn' : Int → Int} : ∀ m : Nat, (∀ r : Int, 0 ≤ r → r < (m : Int) → tn' r = tn r) → seF tn' m = seF tn m
  | 0, _ => rfl
  | m + 1, h => by
    show seF tn' m + seG (tn' (m : Int)) (m : Int) = seF tn m + seG (tn (m : Int)) (m : Int)
    rw [seF_cg m (fun r r0 r1 => h r r0 (by omega)), h (m : Int) (by omega) (by omega)]
theorem seF_nn {tn : Int → Int} : ∀ m : Nat, (∀ r : Int, 0 ≤ r → r < (m : Int) → 0 ≤ tn r ∧ tn r ≤ 3) → 0 ≤ seF tn m
  | 0, _ => Int.le_refl 0
  | m + 1, h => by
    have h1 := seF_nn m (fun r r0 r1 => h r r0 (by omega))
    have h2 := seG_1 (r := (m : Int)) (h (m : Int) (by omega) (by omega))
    show 0 ≤ seF tn m + seG (tn (m : Int)) (m : Int)
    omega
/-- the steps that are left at depth d -/
def seL (tn : Int → Int) (d : Int) : Int := seF tn (d + 1).toNat
theorem seL_0 {tn : Int → Int} (h : tn 0 = 0) : seL tn 0 = 19681 := by
  show 0 + seG (tn 0) 0 = 19681
  rw [h]
  decide +kernel
theorem seL_s {tn : Int → Int} {d : Int} (h : 0 ≤ d) : seL tn d = seL tn (d + -1) + seG (tn d) d := by
  obtain ⟨m, rfl⟩ := iI_nat h
  unfold seL
  rw [show ((m : Int) + 1).toNat = m + 1 by omega, show ((m : Int) + -1 + 1).toNat = m by omega]
  rfl
theorem seI_nn {ct sk i j : Int} {z e b l : Int → Int} {P : (Int → Int) → Prop} {d any be : Int} {mx tn : Int → Int} (h : seI ct sk i j z e b l P d any be mx tn) : 0 ≤ seL tn d := by
  refine seF_nn _ (fun r r0 r1 => (h.2.1 r r0 ?_).2.1)
  have := h.1
  omega
theorem se_dn {ct sk i j : Int} {z e b l : Int → Int} {P : (Int → Int) → Prop} {d any be : Int} {mx tn tn' : Int → Int} (h : seI ct sk i j z e b l P d any be mx tn) (h0 : 0 ≤ d) (ht : ∀ m : Int, m ≠ d → tn' m = tn m) {s : Int} (hs : s + seL tn d ≤ 19681) : s + 1 + seL tn' (d + -1) ≤ 19681 := by
  have h1 := (h.2.1 d h0 (by omega)).2.1
  have h2 := seG_1 (r := d) h1
  have h3 := seL_s (tn := tn) h0
  have h4 : seL tn' (d + -1) = seL tn (d + -1) := seF_cg _ (fun r r0 r1 => ht r (by omega))
  omega
theorem se_up {n ct sk i j : Int} {z e b l : Int → Int} {P : (Int → Int) → Prop} {d any be : Int} {mx tn mx' tn' tn2 : Int → Int} (hok : okC n ct z e b l) (h : seI ct sk i j z e b l P d any be mx tn) (h0 : 0 ≤ d) (h1 : d < ct) (hg : goP sk z e b l mx tn mx' tn' d 1) (ht : tn2 = iU tn' (d + 1) 0) {s : Int} (hs : s + seL tn d ≤ 19681) : s + 1 + seL tn2 (d + 1) ≤ 19681 := by
  have hct := hok.2.1
  obtain ⟨g1, g2, g3⟩ := hg
  rcases g3 with ⟨-, -, c2, -, -⟩ | g3
  case inr => exact absurd g3.1 (by omega)
  have b1 := (h.2.1 d h0 (by omega)).2.1
  have e1 : seL tn2 (d + 1) = seL tn2 d + seG 0 (d + 1) := by
    have := seL_s (tn := tn2) (d := d + 1) (by omega)
    rw [show d + 1 + -1 = d by omega, ht, iU_s] at this
    rw [← ht] at this
    exact this
  have e2 : seL tn2 d = seL tn2 (d + -1) + seG (tn' d) d := by
    have := seL_s (tn := tn2) h0
    rw [this, ht, iU_n (by omega)]
  have e3 : seL tn2 (d + -1) = seL tn (d + -1) := seF_cg _ (fun r r0 r1 => by rw [ht, iU_n (by omega)]; exact g2 r (by omega))
  have e4 := seL_s (tn := tn) h0
  have e5 := se3_s (r := d) (by omega)
  have e6 := se3_1 (d + 1)
  have e7 : seG (tn' d) d + seG 0 (d + 1) + 1 ≤ seG (tn d) d := by
    unfold seG
    generalize tn' d = x at c2 ⊢
    generalize tn d = y at c2 b1 ⊢
    rcases (show y = 0 ∨ y = 1 ∨ y = 2 by omega) with rfl | rfl | rfl <;> rcases (show x = 1 ∨ x = 2 ∨ x = 3 by omega) with rfl | rfl | rfl <;> omega
  omega
end
section
/-! MATH 6: from the search's answers to those of the plans -/
/-- one more clause of a row of them -/
theorem SI_ls {f : Int → Int} {bad lo a : Int} {B : (Int → Int) → Prop} {Q : Int → (Int → Int) → Prop} (h : SI f bad (fun t => (B t ∧ ∀ x : Int, lo ≤ x → x < a → Q x t) ∧ Q a t)) (ha : lo ≤ a) : SI f bad (fun t => B t ∧ ∀ x : Int, lo ≤ x → x < a + 1 → Q x t) := by
  refine SI_cg h (fun t => ⟨fun ⟨⟨q1, q2⟩, q3⟩ => ⟨q1, fun x x0 x1 => ?_⟩, fun ⟨q1, q2⟩ => ⟨⟨q1, fun x x0 x1 => q2 x x0 (by omega)⟩, q2 a ha (by omega)⟩⟩)
  rcases (show x < a ∨ x = a by omega) with g | g
  · exact q2 x x0 g
  · rw [g]; exact q3
theorem SI_l0 {f : Int → Int} {bad lo : Int} {B : (Int → Int) → Prop} {Q : Int → (Int → Int) → Prop} (h : SI f bad B) : SI f bad (fun t => B t ∧ ∀ x : Int, lo ≤ x → x < lo → Q x t) := SI_cg h (fun t => ⟨fun q => ⟨q, fun x x0 x1 => absurd x1 (by omega)⟩, fun q => q.1⟩)
theorem SI_ls2 {f : Int → Int} {bad lo a : Int} {B : (Int → Int) → Prop} {Q R : Int → (Int → Int) → Prop} (h : SI f bad (fun t => ((B t ∧ ∀ x : Int, lo ≤ x → x < a → Q x t ∧ R x t) ∧ Q a t) ∧ R a t)) (ha : lo ≤ a) : SI f bad (fun t => B t ∧ ∀ x : Int, lo ≤ x → x < a + 1 → Q x t ∧ R x t) :=
  SI_ls (Q := fun x t => Q x t ∧ R x t) (SI_cg h (fun t => ⟨fun q => ⟨q.1.1, q.1.2, q.2⟩, fun q => ⟨⟨q.1, q.2.1⟩, q.2.2⟩⟩)) ha
/-- whether there is a plan -/
theorem sv_is {n ct sk r : Int} {z e b l : Int → Int} (hok : okC n ct z e b l) (h : isB r (∃ t : Int → Int, bs n t ∧ sol ct sk z e b l t)) : isB r (∃ p : Int, dom n ct sk z e b l p) := by
  refine isB_cg h ⟨fun ⟨t, tb, ts⟩ => ?_, fun ⟨p, p1, p2⟩ => ⟨tim n p, tim_bs n p, p2⟩⟩
  obtain ⟨p, hp, -⟩ := dom_of hok tb ts
  exact ⟨p, hp⟩
/-- the greatest difference -/
theorem sv_mx {n ct i j r be : Int} {z e b l : Int → Int} (hok : okC n ct z e b l) (h : seP ct (-1) i j z e b l (bs n) r be) (hi : 0 ≤ i ∧ i ≤ n) (hj : 0 ≤ j ∧ j ≤ n) {y : Int} (hy : (r = 0 ∧ y = -200) ∨ (¬ r = 0 ∧ y = be)) : mxP (fun p => tim n p i - tim n p j) (fun p => sol ct (-1) z e b l (tim n p)) (p8 n) y := by
  obtain ⟨h1, h2⟩ := h
  rcases hy with ⟨hy, rfl⟩ | ⟨hy, rfl⟩
  · refine Or.inl ⟨rfl, fun x _ _ hx => isB_f h1 hy ⟨tim n x, tim_bs n x, hx⟩⟩
  · have hr : r = 1 := by have := isB_01 h1; omega
    obtain ⟨g1, ⟨t, t1, t2, t3⟩, g3⟩ := h2 hi.1 hr
    refine Or.inr ⟨g1, ?_, fun x _ _ hx => g3 _ (tim_bs n x) hx⟩
    obtain ⟨p, ⟨p0, p1⟩, p2⟩ := dom_of hok t1 t2
    refine ⟨p, p0.1, p0.2, p1, ?_⟩
    show tim n p i - tim n p j = y
    rw [p2 i hi.1 hi.2, p2 j hj.1 hj.2]
    omega
/-- none of some comparisons is met -/
def ngQ (E B Li : Int → Int) (x : Int) (t : Int → Int) : Prop := t (B x) - t (E x) ≤ -(Li x) - 1
theorem ng_dom {n ct sk lo hi r : Int} {z e b l E B Li : Int → Int} (hok : okC n ct z e b l) (hE : ∀ x : Int, lo ≤ x → x < hi → (0 ≤ E x ∧ E x ≤ n) ∧ (0 ≤ B x ∧ B x ≤ n)) (h : isB r (∃ t : Int → Int, (bs n t ∧ ∀ x : Int, lo ≤ x → x < hi → ngQ E B Li x t) ∧ sol ct sk z e b l t)) : isB r (∃ p : Int, dom n ct sk z e b l p ∧ ¬ ∃ x : Int, lo ≤ x ∧ x < hi ∧ tim n p (E x) - tim n p (B x) ≤ Li x) := by
  refine isB_cg h ⟨fun ⟨t, ⟨t1, t2⟩, t3⟩ => ?_, fun ⟨p, p1, p2⟩ => ⟨tim n p, ⟨tim_bs n p, fun x x0 x1 => ?_⟩, p1.2⟩⟩
  · obtain ⟨p, hp, p2⟩ := dom_of hok t1 t3
    refine ⟨p, hp, fun ⟨x, x0, x1, x2⟩ => ?_⟩
    obtain ⟨k1, k2⟩ := hE x x0 x1
    rw [p2 _ k1.1 k1.2, p2 _ k2.1 k2.2] at x2
    have := t2 x x0 x1
    unfold ngQ at this
    omega
  · unfold ngQ
    by_cases q : tim n p (E x) - tim n p (B x) ≤ Li x
    · exact absurd ⟨x, x0, x1, q⟩ p2
    · omega
theorem ng_1 {r : Int} {D : Int → Prop} {M : Int → Prop} (h : isB r (∃ p : Int, D p ∧ ¬ M p)) (hr : r = 0) : isB 1 (∀ p : Int, D p → M p) := by
  refine Or.inl ⟨rfl, fun p hp => ?_⟩
  by_cases q : M p
  · exact q
  · exact absurd ⟨p, hp, q⟩ (isB_f h hr)
theorem ng_0 {r : Int} {D : Int → Prop} {M : Int → Prop} (h : isB r (∃ p : Int, D p ∧ ¬ M p)) (hr : ¬ r = 0) : isB 0 (∀ p : Int, D p → M p) := by
  refine Or.inr ⟨rfl, fun q => ?_⟩
  obtain ⟨p, p1, p2⟩ := isB_t h hr
  exact p2 (q p p1)
theorem mt_abs {z e b l : Int → Int} {c : Int} {t : Int → Int} : (∃ x : Int, 3 * c ≤ x ∧ x < 3 * c + z c ∧ t (e x) - t (b x) ≤ l x) ↔ mt z e b l c t := by
  constructor
  · rintro ⟨x, x0, x1, x2⟩
    refine ⟨x - 3 * c, by omega, by omega, ?_⟩
    rw [show 3 * c + (x - 3 * c) = x by omega]
    exact x2
  · rintro ⟨a, a0, a1, a2⟩
    exact ⟨3 * c + a, by omega, by omega, a2⟩
/-- the shortest plan -/
theorem sh_is {n ct last r : Int} {z e b l : Int → Int} (hok : okC n ct z e b l) (h : isB r (∃ t : Int → Int, (bs n t ∧ ∀ x : Int, 0 ≤ x → x < n → t x - t n ≤ last) ∧ sol ct (-1) z e b l t)) : isB r (∃ p : Int, dom n ct (-1) z e b l p ∧ ∀ x : Int, 0 ≤ x → x < n → tim n p x ≤ last) := by
  refine isB_cg h ⟨fun ⟨t, ⟨t1, t2⟩, t3⟩ => ?_, fun ⟨p, p1, p2⟩ => ⟨tim n p, ⟨tim_bs n p, fun x x0 x1 => ?_⟩, p1.2⟩⟩
  · obtain ⟨p, hp, p2⟩ := dom_of hok t1 t3
    refine ⟨p, hp, fun x x0 x1 => ?_⟩
    rw [p2 x x0 (by omega)]
    exact t2 x x0 x1
  · have e1 := p2 x x0 x1
    have e2 : tim n p n = 0 := tim_n (Int.le_refl n)
    omega
theorem sh_hit {n ct last : Int} {z e b l : Int → Int} (hl : 0 ≤ last ∧ last ≤ 7) (hno : ∀ v : Int, 0 ≤ v → v < last → ¬ ∃ p : Int, dom n ct (-1) z e b l p ∧ ∀ x : Int, 0 ≤ x → x < n → tim n p x ≤ v) (h : ∃ p : Int, dom n ct (-1) z e b l p ∧ ∀ x : Int, 0 ≤ x → x < n → tim n p x ≤ last) : shP n (fun p => sol ct (-1) z e b l (tim n p)) (p8 n) last := by
  obtain ⟨p, p1, p2⟩ := h
  refine Or.inr ⟨hl, ⟨p, p1.1.1, p1.1.2, p1.2, p2⟩, fun x x0 x1 x2 v v0 hv => ?_⟩
  rcases (show v < last ∨ last ≤ v by omega) with q | q
  · exact absurd ⟨x, ⟨⟨x0, x1⟩, x2⟩, hv⟩ (hno v v0 q)
  · exact q
theorem sh_none {n ct : Int} {z e b l : Int → Int} (hno : ∀ v : Int, 0 ≤ v → v < 8 → ¬ ∃ p : Int, dom n ct (-1) z e b l p ∧ ∀ x : Int, 0 ≤ x → x < n → tim n p x ≤ v) : shP n (fun p => sol ct (-1) z e b l (tim n p)) (p8 n) (-1) :=
  Or.inl ⟨rfl, fun x x0 x1 x2 => hno 7 (by omega) (by omega) ⟨x, ⟨⟨x0, x1⟩, x2⟩, fun e _ _ => (tim_rg n x e).2⟩⟩
/-! numbers of plans -/
theorem p8_s {m : Int} (h : 0 ≤ m) : p8 (m + 1) = 8 * p8 m := by
  unfold p8
  rw [show (m + 1).toNat = m.toNat + 1 by omega, Int.pow_succ]
  omega
theorem p8_p (m : Int) : 1 ≤ p8 m := by
  unfold p8
  have : (0 : Int) < 8 ^ m.toNat := Int.pow_pos (by decide)
  omega
theorem p8_div {m : Int} (h : 0 ≤ m) (x : Int) : x / p8 (m + 1) = x / p8 m / 8 := by
  have h1 := p8_p m
  rw [p8_s h, Int.mul_comm, Int.ediv_ediv_of_nonneg (by omega)]
theorem p8_mono {a b m : Int} (h : a ≤ b) : a / p8 m ≤ b / p8 m := Int.ediv_le_ediv (by have := p8_p m; omega) h
theorem p8_1d (x : Int) : x / p8 0 = x := by
  rw [p8_0]
  omega
theorem p8_big {n x : Int} (h0 : 0 ≤ x) (h1 : x < p8 n) : x / p8 n = 0 := Int.ediv_eq_zero_of_lt h0 h1
/-- the plans that begin with the prefix pf of e digits, and whose next digit is at least le -/
def ffS (n ct : Int) (z e b l : Int → Int) (pf ev le q : Int) : Prop := dom n ct (-1) z e b l q ∧ q / p8 (n - ev) = pf ∧ le ≤ tim n q ev
/-- firstFrom's second loop, at event p with the digits nu -/
def ffI (n ct : Int) (z e b l : Int → Int) (pf ev le p nu : Int) (P : (Int → Int) → Prop) : Prop :=
  (∀ (t : Int → Int) (q : Int), P t → (∀ i : Int, 0 ≤ i → i ≤ n → tim n q i = t i - t n) → P (tim n q)) ∧ (∀ t : Int → Int, P t → bs n t) ∧
  (∀ q : Int, dom n ct (-1) z e b l q → (P (tim n q) ↔ ffS n ct z e b l pf ev le q ∧ q / p8 (n - p) = nu)) ∧ (∀ q : Int, ffS n ct z e b l pf ev le q → nu ≤ q / p8 (n - p)) ∧
  ((p = ev ∧ nu = pf) ∨ ∃ q : Int, ffS n ct z e b l pf ev le q ∧ q / p8 (n - p) = nu)
/-- digit x of a prefix of ev digits -/
def ffD (pf ev x : Int) : Int := (pf / p8 (ev - 1 - x)) % 8
theorem ff_dig {n ev pf q : Int} (hn : 2 ≤ n ∧ n ≤ 4) (he : 0 ≤ ev ∧ ev < n) (hp : 0 ≤ pf ∧ pf < p8 ev) (hq : 0 ≤ q ∧ q < p8 n) : (∀ x : Int, 0 ≤ x → x < ev → tim n q x = ffD pf ev x) ↔ q / p8 (n - ev) = pf := by
  have step : ∀ x : Int, 0 ≤ x → x < ev → tim n q x = ((q / p8 (n - ev)) / p8 (ev - 1 - x)) % 8 := by
    intro x x0 x1
    have h1 := p8_p (n - ev)
    rw [tim_i (by omega), Int.ediv_ediv_of_nonneg (by omega)]
    congr 2
    unfold p8
    rw [show (n - 1 - x).toNat = (n - ev).toNat + (ev - 1 - x).toNat by omega, Int.pow_add]
  have h1 : 0 ≤ q / p8 (n - ev) := Int.ediv_nonneg hq.1 (by have := p8_p (n - ev); omega)
  have h2 : q / p8 (n - ev) < p8 ev := by
    refine Int.ediv_lt_of_lt_mul (by have := p8_p (n - ev); omega) ?_
    have : p8 ev * p8 (n - ev) = p8 n := by
      unfold p8
      rw [← Int.pow_add, show ev.toNat + (n - ev).toNat = n.toNat by omega]
    omega
  constructor
  · intro h
    have h3 : ∀ x : Int, 0 ≤ x → x < ev → ((q / p8 (n - ev)) / p8 (ev - 1 - x)) % 8 = (pf / p8 (ev - 1 - x)) % 8 := fun x x0 x1 => (step x x0 x1).symm.trans (h x x0 x1)
    generalize q / p8 (n - ev) = y at h1 h2 h3 ⊢
    rcases (show ev = 0 ∨ ev = 1 ∨ ev = 2 ∨ ev = 3 by omega) with rfl | rfl | rfl | rfl
    · rw [p8_0] at hp h2
      omega
    · have a0 := h3 0 (by decide) (by decide)
      rw [show (1 - 1 - 0 : Int) = 0 by decide, p8_0] at a0
      rw [p8_1] at hp h2
      omega
    · have a0 := h3 0 (by decide) (by decide)
      have a1 := h3 1 (by decide) (by decide)
      rw [show (2 - 1 - 0 : Int) = 1 by decide, p8_1] at a0
      rw [show (2 - 1 - 1 : Int) = 0 by decide, p8_0] at a1
      rw [p8_2] at hp h2
      omega
    · have a0 := h3 0 (by decide) (by decide)
      have a1 := h3 1 (by decide) (by decide)
      have a2 := h3 2 (by decide) (by decide)
      rw [show (3 - 1 - 0 : Int) = 2 by decide, p8_2] at a0
      rw [show (3 - 1 - 1 : Int) = 1 by decide, p8_1] at a1
      rw [show (3 - 1 - 2 : Int) = 0 by decide, p8_0] at a2
      rw [p8_3] at hp h2
      omega
  · intro h x x0 x1
    rw [step x x0 x1, h]
    rfl
/-- where the second loop begins -/
theorem ff_0 {n ct : Int} {z e b l : Int → Int} {pf ev le : Int} (hok : okC n ct z e b l) (he : 0 ≤ ev ∧ ev < n) (hp : 0 ≤ pf ∧ pf < p8 ev) : ffI n ct z e b l pf ev le ev pf (fun t => (bs n t ∧ ∀ x : Int, 0 ≤ x → x < ev → t x - t n ≤ ffD pf ev x ∧ t n - t x ≤ -(ffD pf ev x)) ∧ t n - t ev ≤ -le) := by
  refine ⟨fun t q ⟨⟨_, h2⟩, h3⟩ hq => ⟨⟨tim_bs n q, fun x x0 x1 => ?_⟩, ?_⟩, fun t h => h.1.1, fun q hq => ?_, fun q hq => ?_, Or.inl ⟨rfl, rfl⟩⟩
  · rw [hq x x0 (by omega), hq n (by omega) (by omega)]
    have := h2 x x0 x1
    omega
  · rw [hq n (by omega) (by omega), hq ev (by omega) (by omega)]
    omega
  · have e0 : tim n q n = 0 := tim_n (Int.le_refl n)
    have hd := ff_dig hok.1 he hp hq.1
    constructor
    · rintro ⟨⟨_, h2⟩, h3⟩
      have h4 := hd.mp (fun x x0 x1 => by have := h2 x x0 x1; omega)
      exact ⟨⟨hq, h4, by omega⟩, h4⟩
    · rintro ⟨⟨_, h2, h3⟩, _⟩
      have h4 := hd.mpr h2
      refine ⟨⟨tim_bs n q, fun x x0 x1 => ?_⟩, by omega⟩
      have := h4 x x0 x1
      omega
  · rw [hq.2.1]
    omega
theorem ff_none {n ct : Int} {z e b l : Int → Int} {pf ev le p nu be r : Int} {P : (Int → Int) → Prop} (h : ffI n ct z e b l pf ev le p nu P) (hs : seP ct (-1) n p z e b l P r be) (hr : r = 0) : leS (ffS n ct z e b l pf ev le) (-1) := by
  obtain ⟨h1, h2, h3, h4, h5⟩ := h
  have hno : ∀ q : Int, dom n ct (-1) z e b l q → ¬ P (tim n q) := fun q hq hp => isB_f hs.1 hr ⟨tim n q, hp, hq.2⟩
  refine Or.inl ⟨rfl, fun q hq => ?_⟩
  rcases h5 with ⟨g1, g2⟩ | ⟨q', g1, g2⟩
  · exact hno q hq.1 ((h3 q hq.1).mpr ⟨hq, by rw [g1, g2]; exact hq.2.1⟩)
  · exact hno q' g1.1 ((h3 q' g1.1).mpr ⟨g1, g2⟩)
theorem ff_rg {n ct : Int} {z e b l : Int → Int} {pf ev le p nu be r : Int} {P : (Int → Int) → Prop} (hok : okC n ct z e b l) (h : ffI n ct z e b l pf ev le p nu P) (hp : 0 ≤ p ∧ p < n) (hs : seP ct (-1) n p z e b l P r be) (hr : ¬ r = 0) : -7 ≤ be ∧ be ≤ 0 := by
  have hn := hok.1
  have hr1 : r = 1 := by have := isB_01 hs.1; omega
  obtain ⟨g1, ⟨t, t1, t2, t3⟩, g3⟩ := hs.2 (by omega) hr1
  have := bs_rg hok.1 (h.2.1 t t1) hp.1 hp.2
  omega
theorem ff_step {n ct : Int} {z e b l : Int → Int} {pf ev le p nu be r : Int} {P : (Int → Int) → Prop} (hok : okC n ct z e b l) (h : ffI n ct z e b l pf ev le p nu P) (hp : 0 ≤ p ∧ p < n) (hs : seP ct (-1) n p z e b l P r be) (hr : ¬ r = 0) : ffI n ct z e b l pf ev le (p + 1) (8 * nu + -be) (fun t => P t ∧ t p - t n ≤ -be) := by
  have hrg := ff_rg hok h hp hs hr
  have hn := hok.1
  have hr1 : r = 1 := by have := isB_01 hs.1; omega
  obtain ⟨-, ⟨t, t1, t2, t3⟩, g3⟩ := hs.2 (by omega) hr1
  obtain ⟨h1, h2, h3, h4, h5⟩ := h
  have dg : ∀ q : Int, q / p8 (n - (p + 1)) = 8 * (q / p8 (n - p)) + tim n q p := by
    intro q
    rw [tim_i hp.2, show n - p = (n - 1 - p) + 1 by omega, p8_div (by omega), show n - (p + 1) = n - 1 - p by omega]
    omega
  have mn : ∀ q : Int, dom n ct (-1) z e b l q → P (tim n q) → -be ≤ tim n q p := by
    intro q hq hP
    have := g3 _ hP hq.2
    have e0 : tim n q n = 0 := tim_n (Int.le_refl n)
    omega
  refine ⟨fun t q ⟨k1, k2⟩ hq => ⟨h1 t q k1 hq, ?_⟩, fun t k => h2 t k.1, fun q hq => ?_, fun q hq => ?_, Or.inr ?_⟩
  · rw [hq p hp.1 (by omega), hq n (by omega) (by omega)]
    omega
  · have e0 : tim n q n = 0 := tim_n (Int.le_refl n)
    have e1 := tim_rg n q p
    have e2 := dg q
    constructor
    · rintro ⟨k1, k2⟩
      obtain ⟨m1, m2⟩ := (h3 q hq).mp k1
      have := mn q hq k1
      exact ⟨m1, by omega⟩
    · rintro ⟨k1, k2⟩
      exact ⟨(h3 q hq).mpr ⟨k1, by omega⟩, by omega⟩
  · have e1 := tim_rg n q p
    have e2 := dg q
    have e3 := h4 q hq
    rcases (show q / p8 (n - p) = nu ∨ nu < q / p8 (n - p) by omega) with w | w
    · have := mn q hq.1 ((h3 q hq.1).mpr ⟨hq, w⟩)
      omega
    · omega
  · obtain ⟨q, q1, q2⟩ := dom_of hok (h2 t t1) t2
    have k1 := h1 t q t1 q2
    obtain ⟨m1, m2⟩ := (h3 q q1).mp k1
    have e2 := dg q
    rw [q2 p hp.1 (by omega)] at e2
    exact ⟨q, m1, by omega⟩
theorem ff_end {n ct : Int} {z e b l : Int → Int} {pf ev le p nu : Int} {P : (Int → Int) → Prop} (h : ffI n ct z e b l pf ev le p nu P) (hp : p = n) (he : ev < n) : leS (ffS n ct z e b l pf ev le) nu := by
  obtain ⟨h1, h2, h3, h4, h5⟩ := h
  subst hp
  rw [show p - p = (0 : Int) by omega] at h4 h5
  rcases h5 with g | ⟨q, q1, q2⟩
  · omega
  · rw [p8_1d] at q2
    subst q2
    refine Or.inr ⟨q1, fun x hx => ?_⟩
    have := h4 x hx
    rw [p8_1d] at this
    exact this
/-- next: all plans -/
theorem nx_all {n ct aft : Int} {z e b l : Int → Int} {r : Int} (ha : aft < 0) (h : leS (ffS n ct z e b l 0 0 0) r) : leS (fun p => aft < p ∧ dom n ct (-1) z e b l p) r := by
  have key : ∀ q : Int, ffS n ct z e b l 0 0 0 q ↔ aft < q ∧ dom n ct (-1) z e b l q := by
    intro q
    constructor
    · intro hq
      exact ⟨by have := hq.1.1; omega, hq.1⟩
    · intro hq
      refine ⟨hq.2, ?_, (tim_rg n q 0).1⟩
      rw [show n - 0 = n by omega]
      exact p8_big hq.2.1.1 hq.2.1.2
  rcases h with h | h
  · exact Or.inl ⟨h.1, fun x hx => h.2 x ((key x).mpr hx)⟩
  · exact Or.inr ⟨(key r).mp h.1, fun x hx => h.2 x ((key x).mpr hx)⟩
/-- next's loop: no later plan shares its first e + 1 digits with aft -/
def nxI (n ct aft : Int) (z e b l : Int → Int) (ev : Int) : Prop := ∀ q : Int, dom n ct (-1) z e b l q → aft < q → q / p8 (n - 1 - ev) ≠ aft / p8 (n - 1 - ev)
theorem nx_0 {n ct aft : Int} {z e b l : Int → Int} : nxI n ct aft z e b l (n - 1) := by
  intro q _ h
  rw [show n - 1 - (n - 1) = (0 : Int) by omega, p8_1d, p8_1d]
  omega
theorem nx_step {n ct aft : Int} {z e b l : Int → Int} {ev : Int} (h : nxI n ct aft z e b l ev) (he : 0 ≤ ev ∧ ev < n) (hno : (aft / p8 (n - 1 - ev)) % 8 < 7 → ∀ q : Int, ¬ ffS n ct z e b l (aft / p8 (n - ev)) ev ((aft / p8 (n - 1 - ev)) % 8 + 1) q) : nxI n ct aft z e b l (ev + -1) := by
  intro q hq hlt heq
  have h1 := h q hq hlt
  have h2 := p8_mono (m := n - 1 - ev) (show aft ≤ q by omega)
  rw [show n - 1 - (ev + -1) = n - ev by omega] at heq
  have e1 := p8_div (m := n - 1 - ev) (by omega) q
  have e2 := p8_div (m := n - 1 - ev) (by omega) aft
  rw [show n - 1 - ev + 1 = n - ev by omega] at e1 e2
  have e3 := tim_i (n := n) (p := q) (i := ev) he.2
  refine hno (by omega) q ⟨hq, heq, by omega⟩
theorem nx_hit {n ct aft : Int} {z e b l : Int → Int} {ev r : Int} (h : nxI n ct aft z e b l ev) (he : 0 ≤ ev ∧ ev < n) (hr : ¬ r < 0) (hf : leS (ffS n ct z e b l (aft / p8 (n - ev)) ev ((aft / p8 (n - 1 - ev)) % 8 + 1)) r) : leS (fun p => aft < p ∧ dom n ct (-1) z e b l p) r := by
  have dv : ∀ x : Int, x / p8 (n - ev) = x / p8 (n - 1 - ev) / 8 := by
    intro x
    have e1 := p8_div (m := n - 1 - ev) (by omega) x
    rw [show n - 1 - ev + 1 = n - ev by omega] at e1
    exact e1
  rcases hf with hf | ⟨⟨f1, f2, f3⟩, f4⟩
  · omega
  rw [dv, dv] at f2
  have e3 := tim_i (n := n) (p := r) (i := ev) he.2
  refine Or.inr ⟨⟨?_, f1⟩, fun q hq => ?_⟩
  · rcases (show aft < r ∨ r ≤ aft by omega) with w | w
    · exact w
    · have := p8_mono (m := n - 1 - ev) w
      omega
  · have h1 := h q hq.2 hq.1
    have h2 := p8_mono (m := n - 1 - ev) (show aft ≤ q by omega)
    have e4 := tim_i (n := n) (p := q) (i := ev) he.2
    rcases (show q / p8 (n - 1 - ev) / 8 = aft / p8 (n - 1 - ev) / 8 ∨ aft / p8 (n - 1 - ev) / 8 < q / p8 (n - 1 - ev) / 8 by omega) with w | w
    · exact f4 q ⟨hq.2, by rw [dv, dv]; exact w, by omega⟩
    · rcases (show r ≤ q ∨ q ≤ r by omega) with v | v
      · exact v
      · have := p8_mono (m := n - 1 - ev) v
        omega
theorem nx_end {n ct aft : Int} {z e b l : Int → Int} {ev : Int} (h : nxI n ct aft z e b l ev) (he : ev = -1) (ha : 0 ≤ aft ∧ aft < p8 n) : leS (fun p => aft < p ∧ dom n ct (-1) z e b l p) (-1) := by
  subst he
  refine Or.inl ⟨rfl, fun q hq => h q hq.2 hq.1 ?_⟩
  rw [show n - 1 - (-1) = n by omega, p8_big hq.2.1.1 hq.2.1.2, p8_big ha.1 ha.2]
theorem nx_top {n ct aft : Int} {z e b l : Int → Int} (ha : p8 n - 1 ≤ aft) : leS (fun p => aft < p ∧ dom n ct (-1) z e b l p) (-1) := Or.inl ⟨rfl, fun q hq => by have := hq.2.1.2; omega⟩
end
section
/-! MATH 7: rows that the walks of the class use -/
theorem seP_rg {ct sk i j : Int} {z e b l : Int → Int} {P : (Int → Int) → Prop} {r be : Int} (h : seP ct sk i j z e b l P r be) (hi : 0 ≤ i) : r = 0 ∨ (r = 1 ∧ -7 ≤ be ∧ be ≤ 7) := by
  rcases isB_01 h.1 with g | g
  · exact Or.inl g
  · exact Or.inr ⟨g, (h.2 hi g).1⟩
theorem clo_0 {f : Int → Int} (h : clo f 0) {i j : Int} (hi : 0 ≤ i ∧ i ≤ 4) (hj : 0 ≤ j ∧ j ≤ 4) : -7 ≤ f (5 * i + j) ∧ f (5 * i + j) ≤ 7 := by
  have := clo_rg h hi.1 (by omega) hj.1 (show j < 5 by omega)
  rw [show 0 + 5 * i + j = 5 * i + j by omega] at this
  exact this
theorem tS_any {f : Int → Int} {bad i j lim : Int} {P : (Int → Int) → Prop} (h : SI f bad P) (hb : bad = 0) (hi : 0 ≤ i ∧ i ≤ 4) (hj : 0 ≤ j ∧ j ≤ 4) (hl : f (5 * i + j) ≤ lim) : SI f bad (fun t => P t ∧ t i - t j ≤ lim) := by
  subst hb
  obtain ⟨h1, h2⟩ := SI_0 h rfl
  refine ts_any h1 h2 ⟨hi.1, by omega⟩ ⟨hj.1, by omega⟩ ?_
  rw [show 0 + 5 * i + j = 5 * i + j by omega]
  exact hl
theorem tS_bad {f : Int → Int} {bad i j lim : Int} {P : (Int → Int) → Prop} (h : SI f bad P) (hb : bad = 0) (hi : 0 ≤ i ∧ i ≤ 4) (hj : 0 ≤ j ∧ j ≤ 4) (hl : f (5 * j + i) + lim < 0) : SI f 1 (fun t => P t ∧ t i - t j ≤ lim) := by
  obtain ⟨h1, h2⟩ := SI_0 h hb
  refine ts_bad h2 ⟨hi.1, by omega⟩ ⟨hj.1, by omega⟩ ?_
  rw [show 0 + 5 * j + i = 5 * j + i by omega]
  exact hl
/-- the start matrix g, of f with the cells below m tightened -/
def tSg (f : Int → Int) (i j lim m : Int) (g : Int → Int) : Prop := ∀ r : Int, 0 ≤ r → r < 25 → g r = if r < m then tgt f 0 i j lim (r / 5) (r % 5) else f r
theorem tS_0 {f : Int → Int} {i j lim : Int} : tSg f i j lim 0 f := fun r r0 _ => by rw [if_neg (by omega)]
theorem tS_rd {f g : Int → Int} {i j lim m : Int} (h : clo f 0) (hi : 0 ≤ i ∧ i ≤ 4) (hj : 0 ≤ j ∧ j ≤ 4) (hl : 0 ≤ f (5 * j + i) + lim) (hm : 0 ≤ m ∧ m < 25) (hg : tSg f i j lim m g) : (g (5 * (m / 5) + i) = f (0 + 5 * (m / 5) + i) ∧ g (5 * j + m % 5) = f (0 + 5 * j + m % 5) ∧ g m = f (0 + 5 * (m / 5) + m % 5)) ∧ (-7 ≤ g (5 * (m / 5) + i) ∧ g (5 * (m / 5) + i) ≤ 7) ∧ (-7 ≤ g (5 * j + m % 5) ∧ g (5 * j + m % 5) ≤ 7) ∧ (-7 ≤ g m ∧ g m ≤ 7) := by
  have h1 := ts_inv h (i := i) (j := j) ⟨hi.1, by omega⟩ ⟨hj.1, by omega⟩ (by rw [show 0 + 5 * j + i = 5 * j + i by omega]; exact hl) hm hg
  rw [show 0 + 5 * (m / 5) + i = 5 * (m / 5) + i by omega, show 0 + 5 * j + m % 5 = 5 * j + m % 5 by omega] at h1
  rw [show 0 + 5 * (m / 5) + i = 5 * (m / 5) + i by omega, show 0 + 5 * j + m % 5 = 5 * j + m % 5 by omega]
  have a1 := clo_0 h (i := m / 5) (j := i) (by omega) hi
  have a2 := clo_0 h (i := j) (j := m % 5) hj (by omega)
  have a3 := clo_0 h (i := m / 5) (j := m % 5) (by omega) (by omega)
  rw [show 0 + 5 * (m / 5) + m % 5 = 5 * (m / 5) + m % 5 by omega] at h1 ⊢
  obtain ⟨k1, k2, k3⟩ := h1
  exact ⟨⟨k1, k2, k3⟩, by rw [k1]; exact a1, by rw [k2]; exact a2, by rw [k3]; exact a3⟩
theorem tS_s1 {f g h : Int → Int} {i j lim m v : Int} (k : g (5 * (m / 5) + i) = f (0 + 5 * (m / 5) + i) ∧ g (5 * j + m % 5) = f (0 + 5 * j + m % 5) ∧ g m = f (0 + 5 * (m / 5) + m % 5)) (hg : tSg f i j lim m g) (hh : h = iU g m v) (hv : v = g (5 * (m / 5) + i) + lim + g (5 * j + m % 5)) (hlt : v < g m) : tSg f i j lim (m + 1) h :=
  ts_step hg (tgt_lt (by rw [← k.1, ← k.2.1]; exact hv) (by rw [← k.2.2]; exact hlt)) hh
theorem tS_s2 {f g h : Int → Int} {i j lim m v : Int} (k : g (5 * (m / 5) + i) = f (0 + 5 * (m / 5) + i) ∧ g (5 * j + m % 5) = f (0 + 5 * j + m % 5) ∧ g m = f (0 + 5 * (m / 5) + m % 5)) (hg : tSg f i j lim m g) (hh : h = iU g m v) (hv : v = g m) (hlt : v ≤ g (5 * (m / 5) + i) + lim + g (5 * j + m % 5)) : tSg f i j lim (m + 1) h :=
  ts_step hg (tgt_ge (by rw [← k.2.2]; exact hv) (by rw [← k.1, ← k.2.1]; exact hlt)) hh
theorem tS_end {f g : Int → Int} {bad i j lim m : Int} {P : (Int → Int) → Prop} (h : SI f bad P) (hb : bad = 0) (hi : 0 ≤ i ∧ i ≤ 4) (hj : 0 ≤ j ∧ j ≤ 4) (hl : 0 ≤ f (5 * j + i) + lim) (hg : tSg f i j lim m g) (hm : 25 ≤ m) : SI g bad (fun t => P t ∧ t i - t j ≤ lim) := by
  subst hb
  obtain ⟨h1, h2⟩ := SI_0 h rfl
  refine ts_end h1 h2 ⟨hi.1, by omega⟩ ⟨hj.1, by omega⟩ (by rw [show 0 + 5 * j + i = 5 * j + i by omega]; exact hl) (fun r r0 r1 => ?_)
  rw [hg r r0 r1, if_pos (by omega)]
/-- some place from lo on, ahead of a, has Q (or else R) -/
theorem ex_0 {lo : Int} {Q : Int → Prop} : isB 0 (∃ q : Int, lo ≤ q ∧ q < lo ∧ Q q) := Or.inr ⟨rfl, fun ⟨x, x0, x1, _⟩ => by omega⟩
theorem ex_t {me lo a : Int} {Q : Int → Prop} (h : isB me (∃ q : Int, lo ≤ q ∧ q < a ∧ Q q)) (hm : ¬ me = 0) : isB 1 (∃ q : Int, lo ≤ q ∧ q < a + 1 ∧ Q q) := by
  obtain ⟨q, q0, q1, q2⟩ := isB_t h hm
  exact Or.inl ⟨rfl, q, q0, by omega, q2⟩
theorem ex_f {me lo a : Int} {Q : Int → Prop} (h : isB me (∃ q : Int, lo ≤ q ∧ q < a ∧ Q q)) (hm : me = 0) (hq : ¬ Q a) : isB 0 (∃ q : Int, lo ≤ q ∧ q < a + 1 ∧ Q q) := by
  refine Or.inr ⟨rfl, fun ⟨q, q0, q1, q2⟩ => ?_⟩
  rcases (show q < a ∨ q = a by omega) with g | g
  · exact isB_f h hm ⟨q, q0, g, q2⟩
  · rw [g] at q2; exact hq q2
theorem ex_n {lo a : Int} {Q : Int → Prop} (h0 : lo ≤ a) (hq : Q a) : isB 1 (∃ q : Int, lo ≤ q ∧ q < a + 1 ∧ Q q) := Or.inl ⟨rfl, a, h0, by omega, hq⟩
theorem an_0 {an lo : Int} {R : Prop} {Q : Int → Prop} (h : (R ∧ an = 1) ∨ (¬ R ∧ an = 0)) : isB an (R ∨ ∃ q : Int, lo ≤ q ∧ q < lo ∧ Q q) := by
  rcases h with h | h
  · exact Or.inl ⟨h.2, Or.inl h.1⟩
  · refine Or.inr ⟨h.2, fun g => ?_⟩
    rcases g with g | ⟨x, x0, x1, _⟩
    · exact h.1 g
    · omega
theorem an_t {an lo a : Int} {R : Prop} {Q : Int → Prop} (h : isB an (R ∨ ∃ q : Int, lo ≤ q ∧ q < a ∧ Q q)) (hm : ¬ an = 0) : isB 1 (R ∨ ∃ q : Int, lo ≤ q ∧ q < a + 1 ∧ Q q) := by
  rcases isB_t h hm with g | ⟨q, q0, q1, q2⟩
  · exact Or.inl ⟨rfl, Or.inl g⟩
  · exact Or.inl ⟨rfl, Or.inr ⟨q, q0, by omega, q2⟩⟩
theorem an_f {an lo a : Int} {R : Prop} {Q : Int → Prop} (h : isB an (R ∨ ∃ q : Int, lo ≤ q ∧ q < a ∧ Q q)) (hm : an = 0) (hq : ¬ Q a) : isB 0 (R ∨ ∃ q : Int, lo ≤ q ∧ q < a + 1 ∧ Q q) := by
  have h1 := isB_f h hm
  refine Or.inr ⟨rfl, fun g => ?_⟩
  rcases g with g | ⟨q, q0, q1, q2⟩
  · exact h1 (Or.inl g)
  · rcases (show q < a ∨ q = a by omega) with w | w
    · exact h1 (Or.inr ⟨q, q0, w, q2⟩)
    · rw [w] at q2; exact hq q2
theorem an_n {lo a : Int} {R : Prop} {Q : Int → Prop} (h0 : lo ≤ a) (hq : Q a) : isB 1 (R ∨ ∃ q : Int, lo ≤ q ∧ q < a + 1 ∧ Q q) := Or.inl ⟨rfl, Or.inr ⟨a, h0, by omega, hq⟩⟩
theorem an_end {sk d an sz a : Int} {z e b l mx : Int → Int} (h : isB an (d = sk ∨ ∃ q : Int, 3 * d ≤ q ∧ q < a ∧ mx (25 * d + 5 * e q + b q) ≤ l q)) (hsz : (d = sk ∧ sz = 0) ∨ (d ≠ sk ∧ sz = z d)) (ha : a = 3 * d + sz) : isB an (anyw sk z e b l mx d) := by
  refine isB_cg h ⟨fun g => ?_, fun g => ?_⟩
  · rcases g with g | ⟨q, q0, q1, q2⟩
    · exact Or.inl g
    · exact Or.inr ⟨q, q0, by omega, q2⟩
  · rcases g with g | ⟨q, q0, q1, q2⟩
    · exact Or.inl g
    · rcases hsz with w | w
      · exact Or.inl w.1
      · exact Or.inr ⟨q, q0, by omega, q2⟩
theorem inf_s {lo hi hi' : Int} {I : Int → Prop} (h : ∀ x : Int, lo ≤ x → x < hi → I x) (hn : I hi) (e : hi' = hi + 1) : ∀ x : Int, lo ≤ x → x < hi' → I x := by
  intro x x0 x1
  rcases (show x < hi ∨ x = hi by omega) with g | g
  · exact h x x0 g
  · rw [g]; exact hn
/-- a places from lo on taken from g -/
def pu (f g : Int → Int) (lo a : Int) : Int → Int := fun x => if lo ≤ x ∧ x < lo + a then g (x - lo) else f x
theorem pu_0 (f g : Int → Int) (lo : Int) : f = pu f g lo 0 := by
  funext x
  unfold pu
  rw [if_neg (by omega)]
theorem pu_s {f g f1 h : Int → Int} {lo a : Int} (hg : f1 = pu f g lo a) (ha : 0 ≤ a) (hh : h = iU f1 (lo + a) (g a)) : h = pu f g lo (a + 1) := by
  subst hg
  subst hh
  funext x
  unfold iU pu
  by_cases hx : x = lo + a
  · rw [if_pos hx, if_pos (by omega)]
    congr 1
    omega
  · rw [if_neg hx]
    by_cases h2 : lo ≤ x ∧ x < lo + a
    · rw [if_pos h2, if_pos (by omega)]
    · rw [if_neg h2, if_neg (by omega)]
theorem pu_in {f g : Int → Int} {lo a x : Int} (h : 0 ≤ x ∧ x < a) : pu f g lo a (lo + x) = g x := by
  unfold pu
  rw [if_pos (by omega)]
  congr 1
  omega
theorem pu_out {f g : Int → Int} {lo a x : Int} (h : x < lo ∨ lo + a ≤ x) : pu f g lo a x = f x := by
  unfold pu
  rw [if_neg (by omega)]
theorem iU_2 {f g h : Int → Int} {i x y : Int} (hg : g = iU f i x) (hh : h = iU g i y) : h = iU f i y := by
  subst hg
  subst hh
  funext r
  unfold iU
  by_cases q : r = i
  · rw [if_pos q, if_pos q]
  · rw [if_neg q, if_neg q, if_neg q]
theorem apS_X {n ct i j gap span : Int} {z z0 z1 z2 z3 z4 z5 z6 e e1 e2 e3 e4 b b1 b2 b3 b4 l l1 l2 l3 l4 : Int → Int} (hi : 0 ≤ i ∧ i < n) (hj : 0 ≤ j ∧ j < n) (hij : i ≠ j) (hg : 0 ≤ gap ∧ gap ≤ 7 ∧ 0 ≤ span ∧ span ≤ 7) (hc : ct ≤ 5)
    (y0 : z0 = iU z ct 0) (k1 : e1 = iU e (3 * ct + 0) i) (k2 : b1 = iU b (3 * ct + 0) j) (k3 : l1 = iU l (3 * ct + 0) (-gap)) (k4 : z1 = iU z0 ct (0 + 1))
    (m1 : e2 = iU e1 (3 * ct + 1) j) (m2 : b2 = iU b1 (3 * ct + 1) i) (m3 : l2 = iU l1 (3 * ct + 1) (-gap)) (m4 : z2 = iU z1 ct (1 + 1))
    (y1 : z3 = iU z2 (ct + 1) 0) (o1 : e3 = iU e2 (3 * (ct + 1) + 0) i) (o2 : b3 = iU b2 (3 * (ct + 1) + 0) j) (o3 : l3 = iU l2 (3 * (ct + 1) + 0) span) (o4 : z4 = iU z3 (ct + 1) (0 + 1))
    (y2 : z5 = iU z4 (ct + 1 + 1) 0) (r1 : e4 = iU e3 (3 * (ct + 1 + 1) + 0) j) (r2 : b4 = iU b3 (3 * (ct + 1 + 1) + 0) i) (r3 : l4 = iU l3 (3 * (ct + 1 + 1) + 0) span) (r4 : z6 = iU z5 (ct + 1 + 1) (0 + 1)) : apS n ct i j gap span z e b l z6 e4 b4 l4 := by
  obtain ⟨a0, a1, a2, a3, a4⟩ := iU4 (ct := ct) k1 m1 o1 r1 (by omega) (by omega) (by omega) (by omega)
  obtain ⟨b0', b1', b2', b3', b4'⟩ := iU4 (ct := ct) k2 m2 o2 r2 (by omega) (by omega) (by omega) (by omega)
  obtain ⟨c0, c1, c2, c3, c4⟩ := iU4 (ct := ct) k3 m3 o3 r3 (by omega) (by omega) (by omega) (by omega)
  refine ⟨by omega, fun x hx => ?_, ⟨?_, ?_, ?_⟩, fun x hx => ⟨a0 x hx, b0' x hx, c0 x hx⟩, ⟨a1, b1', c1⟩, ⟨a2, b2', c2⟩, ⟨a3, b3', c3⟩, ⟨a4, b4', c4⟩⟩
  · rw [r4, iU_n (by omega), y2, iU_n (by omega), o4, iU_n (by omega), y1, iU_n (by omega), m4, iU_n (by omega), k4, iU_n (by omega), y0, iU_n (by omega)]
  · rw [r4, iU_n (by omega), y2, iU_n (by omega), o4, iU_n (by omega), y1, iU_n (by omega), m4]
    exact iU_s
  · rw [r4, iU_n (by omega), y2, iU_n (by omega), o4]
    exact iU_s
  · rw [r4, show ct + 2 = ct + 1 + 1 by omega]
    exact iU_s
theorem sX_1 {f g h : Int → Int} {pos c : Int} (hg : g = shf f 1 pos (c - 1)) (h0 : pos ≤ c - 1) (hh : h = iU g (c - 1) (g c)) : h = shf f 1 pos (c + 1 - 1) := by
  rw [show c + 1 - 1 = c - 1 + 1 by omega]
  exact shf_1 hg h0 (by rw [show c - 1 + 1 = c by omega]; exact hh)
theorem sX_3 {f g h : Int → Int} {pos c a : Int} (hg : g = shf f 3 (3 * pos) (3 * (c - 1))) (h0 : pos ≤ c - 1) (ha : a = 3) (hh : h = cp g c (c - 1) a) : h = shf f 3 (3 * pos) (3 * (c + 1 - 1)) := by
  subst ha
  rw [show c + 1 - 1 = c - 1 + 1 by omega]
  exact shf_3 hg h0 (by rw [show c - 1 + 1 = c by omega]; exact hh)
theorem cX_s {f g h : Int → Int} {c a : Int} (hg : g = cp f c (c - 1) a) (ha : 0 ≤ a ∧ a < 3) (hh : h = iU g (3 * c - 3 + a) (g (3 * c + a))) : h = cp f c (c - 1) (a + 1) := cp_s hg ha (by omega) (by rw [show 3 * (c - 1) + a = 3 * c - 3 + a by omega]; exact hh)
theorem ex_pos {n cx r : Int} {z e b l : Int → Int} (h : isB r (∃ p : Int, dom n cx (-1) z e b l p)) (hr : r = 0) (hn : 2 ≤ n ∧ n ≤ 4) (h0 : 0 ≤ cx) : 0 < cx := by
  rcases (show cx = 0 ∨ 0 < cx by omega) with g | g
  · subst g
    have := p8n hn
    exact absurd ⟨0, ⟨by omega, by omega⟩, fun c c0 c1 => absurd c1 (by omega)⟩ (isB_f h hr)
  · exact g
theorem ffD_rg (pf ev x : Int) : 0 ≤ ffD pf ev x ∧ ffD pf ev x ≤ 7 := by
  unfold ffD
  omega
theorem p8q {m : Int} (h : 0 ≤ m ∧ m ≤ 4) : 1 ≤ p8 m ∧ p8 m ≤ 4096 := by
  rcases (show m = 0 ∨ m = 1 ∨ m = 2 ∨ m = 3 ∨ m = 4 by omega) with rfl | rfl | rfl | rfl | rfl
  · rw [p8_0]; decide
  · rw [p8_1]; decide
  · rw [p8_2]; decide
  · rw [p8_3]; decide
  · rw [p8_4]; decide
theorem nx_pf {n ev aft : Int} (ha : 0 ≤ aft ∧ aft < p8 n) (he : 0 ≤ ev ∧ ev < n) : 0 ≤ aft / p8 (n - ev) ∧ aft / p8 (n - ev) < p8 ev := by
  have h1 := p8_p (n - ev)
  refine ⟨Int.ediv_nonneg ha.1 (by omega), Int.ediv_lt_of_lt_mul (by omega) ?_⟩
  have : p8 ev * p8 (n - ev) = p8 n := by
    unfold p8
    rw [← Int.pow_add, show ev.toNat + (n - ev).toNat = n.toNat by omega]
  omega
theorem ff_neg {n ct : Int} {z e b l : Int → Int} {pf ev le r : Int} (h : leS (ffS n ct z e b l pf ev le) r) (hr : r < 0) : ∀ q : Int, ¬ ffS n ct z e b l pf ev le q := by
  rcases h with h | h
  · exact h.2
  · have := h.1.1.1
    omega
end
section
/-! MATH 8: the class's state and the model's, side by side -/
/-- they agree -/
def RR (n ct ds : Int) (eE eB eL sZ dE dB dL mz lf rt bd : Int → Int) : Prop := okC n ct sZ eE eB eL ∧ (0 ≤ ds ∧ ds ≤ 3) ∧ (∀ a : Int, 0 ≤ a → a < ds → (0 ≤ dE a ∧ dE a ≤ n) ∧ (0 ≤ dB a ∧ dB a ≤ n) ∧ dE a ≠ dB a ∧ (-10 ≤ dL a ∧ dL a ≤ 10)) ∧ mz 8 = ds ∧ (∀ c : Int, 0 ≤ c → c < ct → mz c = sZ c ∧ ∀ a : Int, 0 ≤ a → a < sZ c → lf (3 * c + a) = eE (3 * c + a) ∧ rt (3 * c + a) = eB (3 * c + a) ∧ bd (3 * c + a) = eL (3 * c + a)) ∧ ∀ a : Int, 0 ≤ a → a < ds → lf (24 + a) = dE a ∧ rt (24 + a) = dB a ∧ bd (24 + a) = dL a
section
variable {n ct ds : Int} {eE eB eL sZ dE dB dL mz lf rt bd : Int → Int}
theorem rr_mt (h : RR n ct ds eE eB eL sZ dE dB dL mz lf rt bd) {c : Int} (h0 : 0 ≤ c) (h1 : c < ct) (t : Int → Int) : mt mz lf rt bd c t ↔ mt sZ eE eB eL c t := by
  obtain ⟨e1, e2⟩ := h.2.2.2.2.1 c h0 h1
  constructor
  · rintro ⟨a, a0, a1, a2⟩
    rw [e1] at a1
    obtain ⟨k1, k2, k3⟩ := e2 a a0 a1
    rw [k1, k2, k3] at a2
    exact ⟨a, a0, a1, a2⟩
  · rintro ⟨a, a0, a1, a2⟩
    obtain ⟨k1, k2, k3⟩ := e2 a a0 a1
    refine ⟨a, a0, by rw [e1]; exact a1, ?_⟩
    rw [k1, k2, k3]
    exact a2
theorem rr_sol (h : RR n ct ds eE eB eL sZ dE dB dL mz lf rt bd) {c sk : Int} (hc : c ≤ ct) (t : Int → Int) : sol c sk mz lf rt bd t ↔ sol c sk sZ eE eB eL t :=
  ⟨fun g x x0 x1 x2 => (rr_mt h x0 (by omega) t).mp (g x x0 x1 x2), fun g x x0 x1 x2 => (rr_mt h x0 (by omega) t).mpr (g x x0 x1 x2)⟩
theorem rr_S (h : RR n ct ds eE eB eL sZ dE dB dL mz lf rt bd) {c sk : Int} (hc : c ≤ ct) : (fun p => sol c sk mz lf rt bd (tim n p)) = fun p => sol c sk sZ eE eB eL (tim n p) := funext fun p => propext (rr_sol h hc _)
theorem rr_dom (h : RR n ct ds eE eB eL sZ dE dB dL mz lf rt bd) {c sk : Int} (hc : c ≤ ct) (p : Int) : dom n c sk mz lf rt bd p ↔ dom n c sk sZ eE eB eL p := and_congr Iff.rfl (rr_sol h hc _)
theorem rr_okM (h : RR n ct ds eE eB eL sZ dE dB dL mz lf rt bd) : okC n ct mz lf rt bd := by
  refine ⟨h.1.1, h.1.2.1, fun c c0 c1 => ?_⟩
  obtain ⟨e1, e2⟩ := h.2.2.2.2.1 c c0 c1
  obtain ⟨k1, k2⟩ := h.1.2.2 c c0 c1
  rw [e1]
  refine ⟨k1, fun a a0 a1 => ?_⟩
  obtain ⟨m1, m2, m3⟩ := e2 a a0 a1
  rw [m1, m2, m3]
  exact k2 a a0 a1
theorem rr_dr (h : RR n ct ds eE eB eL sZ dE dB dL mz lf rt bd) : ∀ a : Int, 0 ≤ a → a < mz 8 → (0 ≤ lf (3 * 8 + a) ∧ lf (3 * 8 + a) ≤ n) ∧ (0 ≤ rt (3 * 8 + a) ∧ rt (3 * 8 + a) ≤ n) ∧ lf (3 * 8 + a) ≠ rt (3 * 8 + a) ∧ (-10 ≤ bd (3 * 8 + a) ∧ bd (3 * 8 + a) ≤ 10) := by
  intro a a0 a1
  rw [h.2.2.2.1] at a1
  obtain ⟨m1, m2, m3⟩ := h.2.2.2.2.2 a a0 a1
  rw [show (3 * 8 + a : Int) = 24 + a by omega, m1, m2, m3]
  exact h.2.2.1 a a0 a1
theorem rr_ent (h : RR n ct ds eE eB eL sZ dE dB dL mz lf rt bd) (t : Int → Int) : mt mz lf rt bd 8 t ↔ ∃ x : Int, 0 ≤ x ∧ x < ds ∧ t (dE x) - t (dB x) ≤ dL x := by
  constructor
  · rintro ⟨a, a0, a1, a2⟩
    rw [h.2.2.2.1] at a1
    obtain ⟨m1, m2, m3⟩ := h.2.2.2.2.2 a a0 a1
    rw [show (3 * 8 + a : Int) = 24 + a by omega, m1, m2, m3] at a2
    exact ⟨a, a0, a1, a2⟩
  · rintro ⟨a, a0, a1, a2⟩
    obtain ⟨m1, m2, m3⟩ := h.2.2.2.2.2 a a0 a1
    refine ⟨a, a0, by rw [h.2.2.2.1]; exact a1, ?_⟩
    rw [show (3 * 8 + a : Int) = 24 + a by omega, m1, m2, m3]
    exact a2
theorem rr_0 (hn : 2 ≤ n ∧ n ≤ 4) (hz : mz 8 = 0) : RR n 0 0 eE eB eL sZ dE dB dL mz lf rt bd := ⟨⟨hn, by omega, fun c c0 c1 => absurd c1 (by omega)⟩, by omega, fun a a0 a1 => absurd a1 (by omega), hz, fun c c0 c1 => absurd c1 (by omega), fun a a0 a1 => absurd a1 (by omega)⟩
theorem rr_clear {mz' : Int → Int} (h : RR n ct ds eE eB eL sZ dE dB dL mz lf rt bd) (hz : mz' = iU mz 8 0) : RR n ct 0 eE eB eL sZ dE dB dL mz' lf rt bd := by
  have hct := h.1.2.1
  refine ⟨h.1, by omega, fun a a0 a1 => absurd a1 (by omega), by rw [hz, iU_s], fun c c0 c1 => ?_, fun a a0 a1 => absurd a1 (by omega)⟩
  rw [hz, iU_n (by omega)]
  exact h.2.2.2.2.1 c c0 c1
theorem rr_alt {i j m : Int} {dE' dB' dL' mz' lf' rt' bd' : Int → Int} (h : RR n ct ds eE eB eL sZ dE dB dL mz lf rt bd) (hi : 0 ≤ i ∧ i ≤ n ∧ 0 ≤ j ∧ j ≤ n ∧ i ≠ j ∧ -10 ≤ m ∧ m ≤ 10 ∧ ds < 3) (x1 : dE' = iU dE ds i) (x2 : dB' = iU dB ds j) (x3 : dL' = iU dL ds m) (m0 : mz' = iU mz 8 (ds + 1)) (m1 : lf' = iU lf (24 + ds) i) (m2 : rt' = iU rt (24 + ds) j) (m3 : bd' = iU bd (24 + ds) m) : RR n ct (ds + 1) eE eB eL sZ dE' dB' dL' mz' lf' rt' bd' := by
  have hct := h.1.2.1
  have hds := h.2.1
  subst x1 x2 x3 m0 m1 m2 m3
  refine ⟨h.1, by omega, fun a a0 a1 => ?_, iU_s, fun c c0 c1 => ?_, fun a a0 a1 => ?_⟩
  · rcases (show a < ds ∨ a = ds by omega) with q | q
    · rw [iU_n (by omega), iU_n (by omega), iU_n (by omega)]
      exact h.2.2.1 a a0 q
    · subst q
      rw [iU_s, iU_s, iU_s]
      exact ⟨by omega, by omega, hi.2.2.2.2.1, by omega⟩
  · rw [iU_n (by omega)]
    obtain ⟨e1, e2⟩ := h.2.2.2.2.1 c c0 c1
    refine ⟨e1, fun a a0 a1 => ?_⟩
    have := (h.1.2.2 c c0 c1).1
    rw [iU_n (by omega), iU_n (by omega), iU_n (by omega)]
    exact e2 a a0 a1
  · rcases (show a < ds ∨ a = ds by omega) with q | q
    · rw [iU_n (by omega), iU_n (by omega), iU_n (by omega), iU_n (by omega), iU_n (by omega), iU_n (by omega)]
      exact h.2.2.2.2.2 a a0 q
    · subst q
      rw [iU_s, iU_s, iU_s, iU_s, iU_s, iU_s]
      exact ⟨rfl, rfl, rfl⟩
theorem cp_in {f : Int → Int} {fr to a x : Int} (h : 0 ≤ x ∧ x < a) : cp f fr to a (3 * to + x) = f (3 * fr + x) := by
  unfold cp
  rw [if_pos (by omega)]
  congr 1
  omega
theorem cp_out {f : Int → Int} {fr to a x : Int} (h : x < 3 * to ∨ 3 * to + a ≤ x) : cp f fr to a x = f x := by
  unfold cp
  rw [if_neg (by omega)]
theorem rr_add {eE' eB' eL' sZ' mz' lf' rt' bd' : Int → Int} (h : RR n ct ds eE eB eL sZ dE dB dL mz lf rt bd) (hd : ds ≠ 0) (hc : ct < 8) (x1 : eE' = pu eE dE (3 * ct) ds) (x2 : eB' = pu eB dB (3 * ct) ds) (x3 : eL' = pu eL dL (3 * ct) ds) (x0 : sZ' = iU sZ ct ds) (m0 : mz' = iU (iU mz ct (mz 8)) 8 0) (m1 : lf' = cp lf 8 ct 3) (m2 : rt' = cp rt 8 ct 3) (m3 : bd' = cp bd 8 ct 3) : RR n (ct + 1) 0 eE' eB' eL' sZ' dE dB dL mz' lf' rt' bd' := by
  have hct := h.1.2.1
  have hds := h.2.1
  subst x0 x1 x2 x3 m0 m1 m2 m3
  refine ⟨⟨h.1.1, by omega, fun c c0 c1 => ?_⟩, by omega, fun a a0 a1 => absurd a1 (by omega), iU_s, fun c c0 c1 => ?_, fun a a0 a1 => absurd a1 (by omega)⟩
  · rcases (show c < ct ∨ c = ct by omega) with q | q
    · rw [iU_n (by omega)]
      obtain ⟨k1, k2⟩ := h.1.2.2 c c0 q
      refine ⟨k1, fun a a0 a1 => ?_⟩
      rw [pu_out (by omega), pu_out (by omega), pu_out (by omega)]
      exact k2 a a0 a1
    · subst q
      rw [iU_s]
      refine ⟨by omega, fun a a0 a1 => ?_⟩
      rw [pu_in ⟨a0, a1⟩, pu_in ⟨a0, a1⟩, pu_in ⟨a0, a1⟩]
      exact h.2.2.1 a a0 a1
  · rcases (show c < ct ∨ c = ct by omega) with q | q
    · rw [iU_n (by omega), iU_n (by omega), iU_n (by omega)]
      obtain ⟨k1, k2⟩ := h.2.2.2.2.1 c c0 q
      have := (h.1.2.2 c c0 q).1
      refine ⟨k1, fun a a0 a1 => ?_⟩
      rw [pu_out (by omega), pu_out (by omega), pu_out (by omega), cp_out (by omega), cp_out (by omega), cp_out (by omega)]
      exact k2 a a0 a1
    · subst q
      rw [iU_n (by omega), iU_s, iU_s]
      refine ⟨h.2.2.2.1, fun a a0 a1 => ?_⟩
      obtain ⟨k1, k2, k3⟩ := h.2.2.2.2.2 a a0 a1
      rw [pu_in ⟨a0, a1⟩, pu_in ⟨a0, a1⟩, pu_in ⟨a0, a1⟩, cp_in ⟨a0, by omega⟩, cp_in ⟨a0, by omega⟩, cp_in ⟨a0, by omega⟩, show (3 * 8 + a : Int) = 24 + a by omega]
      exact ⟨k1, k2, k3⟩
/-- a constraint that apS has added -/
theorem aps_c {i j gap span : Int} {z e b l z' e' b' l' : Int → Int} (h : apS n ct i j gap span z e b l z' e' b' l') {c : Int} (hc : c = ct ∨ c = ct + 1 ∨ c = ct + 2) : (1 ≤ z' c ∧ z' c ≤ 3) ∧ ∀ a : Int, 0 ≤ a → a < z' c → (0 ≤ e' (3 * c + a) ∧ e' (3 * c + a) ≤ n) ∧ (0 ≤ b' (3 * c + a) ∧ b' (3 * c + a) ≤ n) ∧ e' (3 * c + a) ≠ b' (3 * c + a) ∧ (-10 ≤ l' (3 * c + a) ∧ l' (3 * c + a) ≤ 10) := by
  obtain ⟨h0, -, ⟨z1, z2, z3⟩, -, ⟨a1, a2, a3⟩, ⟨b1, b2, b3⟩, ⟨c1, c2, c3⟩, ⟨d1, d2, d3⟩⟩ := h
  rcases hc with rfl | rfl | rfl
  · refine ⟨by omega, fun a a0 a1' => ?_⟩
    rcases (show a = 0 ∨ a = 1 by omega) with rfl | rfl
    · rw [show 3 * c + 0 = 3 * c by omega, a1, a2, a3]
      omega
    · rw [b1, b2, b3]
      omega
  · refine ⟨by omega, fun a a0 a1' => ?_⟩
    have ha : a = 0 := by omega
    subst ha
    rw [show 3 * (ct + 1) + 0 = 3 * ct + 3 by omega, c1, c2, c3]
    omega
  · refine ⟨by omega, fun a a0 a1' => ?_⟩
    have ha : a = 0 := by omega
    subst ha
    rw [show 3 * (ct + 2) + 0 = 3 * ct + 6 by omega, d1, d2, d3]
    omega
theorem aps_q {i j gap span : Int} {z e b l z' e' b' l' y f g m y' f' g' m' : Int → Int} (h : apS n ct i j gap span z e b l z' e' b' l') (k : apS n ct i j gap span y f g m y' f' g' m') {c : Int} (hc : c = ct ∨ c = ct + 1 ∨ c = ct + 2) : y' c = z' c ∧ ∀ a : Int, 0 ≤ a → a < z' c → f' (3 * c + a) = e' (3 * c + a) ∧ g' (3 * c + a) = b' (3 * c + a) ∧ m' (3 * c + a) = l' (3 * c + a) := by
  obtain ⟨h0, -, ⟨z1, z2, z3⟩, -, ⟨a1, a2, a3⟩, ⟨b1, b2, b3⟩, ⟨c1, c2, c3⟩, ⟨d1, d2, d3⟩⟩ := h
  obtain ⟨-, -, ⟨y1, y2, y3⟩, -, ⟨a4, a5, a6⟩, ⟨b4, b5, b6⟩, ⟨c4, c5, c6⟩, ⟨d4, d5, d6⟩⟩ := k
  rcases hc with rfl | rfl | rfl
  · refine ⟨by omega, fun a a0 a1' => ?_⟩
    rcases (show a = 0 ∨ a = 1 by omega) with rfl | rfl
    · rw [show 3 * c + 0 = 3 * c by omega]
      omega
    · omega
  · refine ⟨by omega, fun a a0 a1' => ?_⟩
    have ha : a = 0 := by omega
    subst ha
    rw [show 3 * (ct + 1) + 0 = 3 * ct + 3 by omega]
    omega
  · refine ⟨by omega, fun a a0 a1' => ?_⟩
    have ha : a = 0 := by omega
    subst ha
    rw [show 3 * (ct + 2) + 0 = 3 * ct + 6 by omega]
    omega
theorem rr_ap {i j gap span : Int} {eE' eB' eL' sZ' mz' lf' rt' bd' : Int → Int} (h : RR n ct ds eE eB eL sZ dE dB dL mz lf rt bd) (x : apS n ct i j gap span sZ eE eB eL sZ' eE' eB' eL') (m : apS n ct i j gap span mz lf rt bd mz' lf' rt' bd') : RR n (ct + 3) ds eE' eB' eL' sZ' dE dB dL mz' lf' rt' bd' := by
  have hct := h.1.2.1
  have hds := h.2.1
  have h5 := x.1
  obtain ⟨-, xz, -, xe, -, -, -, -⟩ := id x
  obtain ⟨-, yz, -, ye, -, -, -, -⟩ := id m
  refine ⟨⟨h.1.1, by omega, fun c c0 c1 => ?_⟩, hds, h.2.2.1, by rw [yz 8 (by omega)]; exact h.2.2.2.1, fun c c0 c1 => ?_, fun a a0 a1 => ?_⟩
  · rcases (show c < ct ∨ (c = ct ∨ c = ct + 1 ∨ c = ct + 2) by omega) with q | q
    · rw [xz c (by omega)]
      obtain ⟨k1, k2⟩ := h.1.2.2 c c0 q
      refine ⟨k1, fun a a0 a1 => ?_⟩
      obtain ⟨e1, e2, e3⟩ := xe (3 * c + a) (by omega)
      rw [e1, e2, e3]
      exact k2 a a0 a1
    · exact aps_c x q
  · rcases (show c < ct ∨ (c = ct ∨ c = ct + 1 ∨ c = ct + 2) by omega) with q | q
    · rw [xz c (by omega), yz c (by omega)]
      obtain ⟨k1, k2⟩ := h.2.2.2.2.1 c c0 q
      have := (h.1.2.2 c c0 q).1
      refine ⟨k1, fun a a0 a1 => ?_⟩
      obtain ⟨e1, e2, e3⟩ := xe (3 * c + a) (by omega)
      obtain ⟨f1, f2, f3⟩ := ye (3 * c + a) (by omega)
      rw [e1, e2, e3, f1, f2, f3]
      exact k2 a a0 a1
    · exact aps_q x m q
  · obtain ⟨f1, f2, f3⟩ := ye (24 + a) (by omega)
    rw [f1, f2, f3]
    exact h.2.2.2.2.2 a a0 a1
theorem shf_z {f : Int → Int} {pos hi c : Int} (h : 0 ≤ c) (hc : c < hi) : shf f 1 pos hi c = f (if pos ≤ c then c + 1 else c) := by
  unfold shf
  by_cases q : pos ≤ c
  · rw [if_pos (by omega), if_pos q]
  · rw [if_neg (by omega), if_neg q]
theorem shf_e {f : Int → Int} {pos hi c a : Int} (hc : c < hi) (ha : 0 ≤ a ∧ a < 3) : shf f 3 (3 * pos) (3 * hi) (3 * c + a) = f (3 * (if pos ≤ c then c + 1 else c) + a) := by
  unfold shf
  by_cases q : pos ≤ c
  · rw [if_pos (by omega), if_pos q]
    congr 1
    omega
  · rw [if_neg (by omega), if_neg q]
theorem rr_rem {pos : Int} {eE' eB' eL' sZ' mz' lf' rt' bd' : Int → Int} (h : RR n ct ds eE eB eL sZ dE dB dL mz lf rt bd) (hp : 0 ≤ pos ∧ pos < ct) (x0 : sZ' = shf sZ 1 pos (ct - 1)) (x1 : eE' = shf eE 3 (3 * pos) (3 * (ct - 1))) (x2 : eB' = shf eB 3 (3 * pos) (3 * (ct - 1))) (x3 : eL' = shf eL 3 (3 * pos) (3 * (ct - 1))) (m0 : mz' = shf mz 1 pos (ct - 1)) (m1 : lf' = shf lf 3 (3 * pos) (3 * (ct - 1))) (m2 : rt' = shf rt 3 (3 * pos) (3 * (ct - 1))) (m3 : bd' = shf bd 3 (3 * pos) (3 * (ct - 1))) : RR n (ct - 1) ds eE' eB' eL' sZ' dE dB dL mz' lf' rt' bd' := by
  have hct := h.1.2.1
  have hds := h.2.1
  subst x0 x1 x2 x3 m0 m1 m2 m3
  have far : ∀ (f : Int → Int) (a : Int), 0 ≤ a → shf f 3 (3 * pos) (3 * (ct - 1)) (24 + a) = f (24 + a) := by
    intro f a a0
    unfold shf
    rw [if_neg (by omega)]
  refine ⟨⟨h.1.1, by omega, fun c c0 c1 => ?_⟩, hds, h.2.2.1, ?_, fun c c0 c1 => ?_, fun a a0 a1 => ?_⟩
  · rw [shf_z c0 c1]
    have hb : 0 ≤ (if pos ≤ c then c + 1 else c) ∧ (if pos ≤ c then c + 1 else c) < ct := by split <;> omega
    have e1 := fun (f : Int → Int) (a : Int) (ha : 0 ≤ a ∧ a < 3) => shf_e (f := f) (pos := pos) c1 ha
    generalize (if pos ≤ c then c + 1 else c) = d at hb e1 ⊢
    obtain ⟨k1, k2⟩ := h.1.2.2 d hb.1 hb.2
    refine ⟨k1, fun a a0 a1 => ?_⟩
    rw [e1 eE a (by omega), e1 eB a (by omega), e1 eL a (by omega)]
    exact k2 a a0 a1
  · have : shf mz 1 pos (ct - 1) 8 = mz 8 := by
      unfold shf
      rw [if_neg (by omega)]
    rw [this]
    exact h.2.2.2.1
  · rw [shf_z c0 c1, shf_z c0 c1]
    have hb : 0 ≤ (if pos ≤ c then c + 1 else c) ∧ (if pos ≤ c then c + 1 else c) < ct := by split <;> omega
    have e1 := fun (f : Int → Int) (a : Int) (ha : 0 ≤ a ∧ a < 3) => shf_e (f := f) (pos := pos) c1 ha
    generalize (if pos ≤ c then c + 1 else c) = d at hb e1 ⊢
    obtain ⟨k1, k2⟩ := h.2.2.2.2.1 d hb.1 hb.2
    have := (h.1.2.2 d hb.1 hb.2).1
    refine ⟨k1, fun a a0 a1 => ?_⟩
    rw [e1 eE a (by omega), e1 eB a (by omega), e1 eL a (by omega), e1 lf a (by omega), e1 rt a (by omega), e1 bd a (by omega)]
    exact k2 a a0 a1
  · rw [far lf a a0, far rt a a0, far bd a a0]
    exact h.2.2.2.2.2 a a0 a1
end
/-! the answers are the same -/
theorem eq_el {v : Int → Int} {S S' : Int → Prop} {N x y : Int} {A : Prop} {f : Int → Int} (hS : S' = S) (h : (x = -1 ∧ ¬ A) ∨ (A ∧ ∃ w : Int, mxP v S N w ∧ x = f w)) (k : (y = -1 ∧ ¬ A) ∨ (A ∧ ∃ w : Int, mxP v S' N w ∧ y = f w)) : x = y := by
  subst hS
  rcases h with ⟨h1, h2⟩ | ⟨h1, w, h2, h3⟩ <;> rcases k with ⟨k1, k2⟩ | ⟨k1, u, k2, k3⟩
  · omega
  · exact absurd k1 h2
  · exact absurd h1 k2
  · rw [h3, k3, mx_un h2 k2]
theorem eq_or {x y c : Int} {A : Prop} {P : Int → Prop} (hP : ∀ z w : Int, P z → P w → z = w) (h : (x = c ∧ ¬ A) ∨ (A ∧ P x)) (k : (y = c ∧ ¬ A) ∨ (A ∧ P y)) : x = y := by
  rcases h with h | h <;> rcases k with k | k
  · omega
  · exact absurd k.1 h.2
  · exact absurd h.1 k.2
  · exact hP _ _ h.2 k.2
theorem leS_cg {S S' : Int → Prop} {z : Int} (h : leS S' z) (e : ∀ x : Int, S' x ↔ S x) : leS S z := by
  have : S' = S := funext fun x => propext (e x)
  rw [← this]
  exact h
end
section
/-! MODEL: leaves, mutators -/
set_option maxRecDepth 100000
theorem gi_M_badEvent : gI yX2_badEvent RX2 cX2_badEvent 2 (some .boolean) 1 := ⟨q276, qs16, q25, q277, by decide, by decide +kernel⟩
set_option maxHeartbeats 4000000 in
theorem met_M_badEvent (l : Launch) (D : va_G) (o : gO) (sZ lf rt bd : Int → Int) (n pl dr ct : Int) (e : Int) (hn : 2 ≤ n ∧ n ≤ 4) (he : -2147483648 ≤ e ∧ e < 2147483648) : gMetI l yX2_badEvent cX2_badEvent 2 .boolean 0 D [(o.1, .int)] (wM o (sZ, lf, rt, bd, n, pl, dr, ct)) [Value.ref o.2.1, vI e] (fun (z : Int) (_ : Unit) => isB z (e < 0 ∨ n ≤ e)) (fun (_ : Unit) => (wM o (sZ, lf, rt, bd, n, pl, dr, ct))) := by
  refine g_metI (by decide) (Nat.le_of_ble_eq_true rfl) ?_
  intro k hC hret
  have hC : gC k cX2_badEvent RX2 [(o.1, .int)] 0 2 := hC
  show gW k (wM o (sZ, lf, rt, bd, n, pl, dr, ct)) 0 [(0, Value.ref (o.2.1)), (1, vI e)] []
  refine g_iload_n hC dX2_badEvent_0 rfl 1 rfl ?_
  refine g_if_lt hC 12 dX2_badEvent_1 (by decide) (by omega) (fun c1 => ?_) (fun c1 => ?_)
  · refine g_iconst hC dX2_badEvent_12 ?_
    refine g_goto hC 17 dX2_badEvent_13 (by decide) ?_
    exact hret _ _ 1 () dX2_badEvent_17 (rfl) (by omega) (Or.inl ⟨rfl, by omega⟩)
  · refine g_iload_n hC dX2_badEvent_4 rfl 1 rfl ?_
    refine g_aload_n hC dX2_badEvent_5 rfl 0 rfl ?_
    refine m_get_n hC dX2_badEvent_6 ?_
    refine g_icmp_lt hC 16 dX2_badEvent_9 (by decide) (by omega) (by omega) (fun c9 => ?_) (fun c9 => ?_)
    · refine g_iconst hC dX2_badEvent_16 ?_
      exact hret _ _ 0 () dX2_badEvent_17 (rfl) (by omega) (Or.inr ⟨rfl, by omega⟩)
    · refine g_iconst hC dX2_badEvent_12 ?_
      refine g_goto hC 17 dX2_badEvent_13 (by decide) ?_
      exact hret _ _ 1 () dX2_badEvent_17 (rfl) (by omega) (Or.inl ⟨rfl, by omega⟩)
theorem gi_M_badPoint : gI yX2_badPoint RX2 cX2_badPoint 2 (some .boolean) 1 := ⟨q252, qs13, q25, q253, by decide, by decide +kernel⟩
set_option maxHeartbeats 4000000 in
theorem met_M_badPoint (l : Launch) (D : va_G) (o : gO) (sZ lf rt bd : Int → Int) (n pl dr ct : Int) (e : Int) (hn : 2 ≤ n ∧ n ≤ 4) (he : -2147483648 ≤ e ∧ e < 2147483648) : gMetI l yX2_badPoint cX2_badPoint 2 .boolean 0 D [(o.1, .int)] (wM o (sZ, lf, rt, bd, n, pl, dr, ct)) [Value.ref o.2.1, vI e] (fun (z : Int) (_ : Unit) => isB z (e < 0 ∨ n < e)) (fun (_ : Unit) => (wM o (sZ, lf, rt, bd, n, pl, dr, ct))) := by
  refine g_metI (by decide) (Nat.le_of_ble_eq_true rfl) ?_
  intro k hC hret
  have hC : gC k cX2_badPoint RX2 [(o.1, .int)] 0 2 := hC
  show gW k (wM o (sZ, lf, rt, bd, n, pl, dr, ct)) 0 [(0, Value.ref (o.2.1)), (1, vI e)] []
  refine g_iload_n hC dX2_badPoint_0 rfl 1 rfl ?_
  refine g_if_lt hC 12 dX2_badPoint_1 (by decide) (by omega) (fun c1 => ?_) (fun c1 => ?_)
  · refine g_iconst hC dX2_badPoint_12 ?_
    refine g_goto hC 17 dX2_badPoint_13 (by decide) ?_
    exact hret _ _ 1 () dX2_badPoint_17 (rfl) (by omega) (Or.inl ⟨rfl, by omega⟩)
  · refine g_iload_n hC dX2_badPoint_4 rfl 1 rfl ?_
    refine g_aload_n hC dX2_badPoint_5 rfl 0 rfl ?_
    refine m_get_n hC dX2_badPoint_6 ?_
    refine g_icmp_le hC 16 dX2_badPoint_9 (by decide) (by omega) (by omega) (fun c9 => ?_) (fun c9 => ?_)
    · refine g_iconst hC dX2_badPoint_16 ?_
      exact hret _ _ 0 () dX2_badPoint_17 (rfl) (by omega) (Or.inr ⟨rfl, by omega⟩)
    · refine g_iconst hC dX2_badPoint_12 ?_
      refine g_goto hC 17 dX2_badPoint_13 (by decide) ?_
      exact hret _ _ 1 () dX2_badPoint_17 (rfl) (by omega) (Or.inl ⟨rfl, by omega⟩)
theorem gi_M_events : gI yX2_events RX2 cX2_events 1 (some .int) 0 := ⟨q243, q244, q25, q245, by decide, by decide +kernel⟩
set_option maxHeartbeats 4000000 in
theorem met_M_events (l : Launch) (D : va_G) (o : gO) (sZ lf rt bd : Int → Int) (n pl dr ct : Int) (hn : 2 ≤ n ∧ n ≤ 4) : gMetI l yX2_events cX2_events 1 .int 0 D [(o.1, .int)] (wM o (sZ, lf, rt, bd, n, pl, dr, ct)) [Value.ref o.2.1] (fun (z : Int) (_ : Unit) => z = n) (fun (_ : Unit) => (wM o (sZ, lf, rt, bd, n, pl, dr, ct))) := by
  refine g_metI (by decide) (Nat.le_of_ble_eq_true rfl) ?_
  intro k hC hret
  have hC : gC k cX2_events RX2 [(o.1, .int)] 0 1 := hC
  show gW k (wM o (sZ, lf, rt, bd, n, pl, dr, ct)) 0 [(0, Value.ref (o.2.1))] []
  refine g_aload_n hC dX2_events_0 rfl 0 rfl ?_
  refine m_get_n hC dX2_events_1 ?_
  exact hret _ _ n () dX2_events_4 (rfl) (by omega) (by omega)
theorem gi_M_size : gI yX2_size RX2 cX2_size 1 (some .int) 0 := ⟨q283, q284, q25, q285, by decide, by decide +kernel⟩
set_option maxHeartbeats 4000000 in
theorem met_M_size (l : Launch) (D : va_G) (o : gO) (sZ lf rt bd : Int → Int) (n pl dr ct : Int) (hct : 0 ≤ ct ∧ ct ≤ 8) : gMetI l yX2_size cX2_size 1 .int 0 D [(o.1, .int)] (wM o (sZ, lf, rt, bd, n, pl, dr, ct)) [Value.ref o.2.1] (fun (z : Int) (_ : Unit) => z = ct) (fun (_ : Unit) => (wM o (sZ, lf, rt, bd, n, pl, dr, ct))) := by
  refine g_metI (by decide) (Nat.le_of_ble_eq_true rfl) ?_
  intro k hC hret
  have hC : gC k cX2_size RX2 [(o.1, .int)] 0 1 := hC
  show gW k (wM o (sZ, lf, rt, bd, n, pl, dr, ct)) 0 [(0, Value.ref (o.2.1))] []
  refine g_aload_n hC dX2_size_0 rfl 0 rfl ?_
  refine m_get_count hC dX2_size_1 ?_
  exact hret _ _ ct () dX2_size_4 (rfl) (by omega) (by omega)
theorem gi_M_time : gI yX2_time RX2 cX2_time 3 (some .int) 2 := ⟨q304, qs20, q25, q305, by decide, by decide +kernel⟩
set_option maxHeartbeats 4000000 in
theorem met_M_time (l : Launch) (D : va_G) (o : gO) (sZ lf rt bd : Int → Int) (n pl dr ct : Int) (plan i : Int) (hn : 2 ≤ n ∧ n ≤ 4) (hi : 0 ≤ i ∧ i ≤ n) (hp : 0 ≤ plan ∧ plan < 2147483648) : gMetI l yX2_time cX2_time 3 .int 0 D [(o.1, .int)] (wM o (sZ, lf, rt, bd, n, pl, dr, ct)) [Value.ref o.2.1, vI plan, vI i] (fun (z : Int) (_ : Unit) => z = tim n plan i) (fun (_ : Unit) => (wM o (sZ, lf, rt, bd, n, pl, dr, ct))) := by
  refine g_metI (by decide) (Nat.le_of_ble_eq_true rfl) ?_
  intro k hC hret
  have hC : gC k cX2_time RX2 [(o.1, .int)] 0 3 := hC
  show gW k (wM o (sZ, lf, rt, bd, n, pl, dr, ct)) 0 [(0, Value.ref (o.2.1)), (1, vI plan), (2, vI i)] []
  refine g_iload_n hC dX2_time_0 rfl 2 rfl ?_
  refine g_aload_n hC dX2_time_1 rfl 0 rfl ?_
  refine m_get_n hC dX2_time_2 ?_
  refine g_icmp_lt hC 12 dX2_time_5 (by decide) (by omega) (by omega) (fun c5 => ?_) (fun c5 => ?_)
  · refine g_iload_n hC dX2_time_12 rfl 1 rfl ?_
    refine g_iconst hC dX2_time_13 ?_
    refine g_aload_n hC dX2_time_14 rfl 0 rfl ?_
    refine m_get_n hC dX2_time_15 ?_
    refine g_iconst hC dX2_time_18 ?_
    refine g_isub hC dX2_time_19 ?_
    refine g_iload_n hC dX2_time_20 rfl 2 rfl ?_
    refine g_isub hC dX2_time_21 ?_
    refine g_imul hC dX2_time_22 ?_
    refine g_ishr hC ((n - 1) - i) (by omega) (by omega) (by omega) dX2_time_23 ?_
    refine g_bipush hC dX2_time_24 (by decide) ?_
    refine g_iand7 hC dX2_time_26 ?_
    exact hret _ _ ((plan / p8 ((n - 1) - i)) % 8) () dX2_time_27 (rfl) (by omega) ((tim_i (by omega)).symm)
  · refine g_iconst hC dX2_time_8 ?_
    refine g_goto hC 27 dX2_time_9 (by decide) ?_
    exact hret _ _ 0 () dX2_time_27 (rfl) (by omega) ((tim_n (by omega)).symm)
theorem gi_M_compare : gI yX2_compare RX2 cX2_compare 6 none 4 := ⟨q256, qs14, q25, q257, by decide, by decide +kernel⟩
set_option maxHeartbeats 4000000 in
theorem met_M_compare (l : Launch) (D : va_G) (o : gO) (sZ lf rt bd : Int → Int) (n pl dr ct : Int) (c i j m : Int) (hc : 0 ≤ c ∧ c ≤ 8) (hz : 0 ≤ sZ c ∧ sZ c ≤ 2) : gMetV l yX2_compare cX2_compare 6 0 D [(o.1, .int)] (wM o (sZ, lf, rt, bd, n, pl, dr, ct)) [Value.ref o.2.1, vI c, vI i, vI j, vI m] (fun (u : (Int → Int) × (Int → Int) × (Int → Int) × (Int → Int)) => match u with | (sZ', lf', rt', bd') => sZ' = iU sZ c (sZ c + 1) ∧ lf' = iU lf (3 * c + sZ c) i ∧ rt' = iU rt (3 * c + sZ c) j ∧ bd' = iU bd (3 * c + sZ c) m) (fun (u : (Int → Int) × (Int → Int) × (Int → Int) × (Int → Int)) => match u with | (sZ', lf', rt', bd') => (wM o (sZ', lf', rt', bd', n, pl, dr, ct))) := by
  refine g_metV (by decide) (Nat.le_of_ble_eq_true rfl) ?_
  intro k hC hret
  have hC : gC k cX2_compare RX2 [(o.1, .int)] 0 6 := hC
  show gW k (wM o (sZ, lf, rt, bd, n, pl, dr, ct)) 0 [(0, Value.ref (o.2.1)), (1, vI c), (2, vI i), (3, vI j), (4, vI m)] []
  refine g_aload_n hC dX2_compare_0 rfl 0 rfl ?_
  refine m_get_sizes hC dX2_compare_1 ?_
  refine g_iload_n hC dX2_compare_4 rfl 1 rfl ?_
  refine m_ld_sizes hC (by omega) dX2_compare_5 ?_
  refine g_istore hC [(5, vI (sZ c)), (0, Value.ref (o.2.1)), (1, vI c), (2, vI i), (3, vI j), (4, vI m)] dX2_compare_6 (by decide) rfl ?_
  refine g_iload hC dX2_compare_8 0 rfl ?_
  refine g_iconst hC dX2_compare_10 ?_
  refine g_icmp_le hC 15 dX2_compare_11 (by decide) (by omega) (by omega) (fun c11 => ?_) (fun c11 => ?_)
  · refine g_aload_n hC dX2_compare_15 rfl 1 rfl ?_
    refine m_get_left hC dX2_compare_16 ?_
    refine g_iconst hC dX2_compare_19 ?_
    refine g_iload_n hC dX2_compare_20 rfl 2 rfl ?_
    refine g_imul hC dX2_compare_21 ?_
    refine g_iload hC dX2_compare_22 0 rfl ?_
    refine g_iadd hC dX2_compare_24 ?_
    refine g_iload_n hC dX2_compare_25 rfl 3 rfl ?_
    refine m_st_left hC (by omega) dX2_compare_26 (fun lf_26 elf_26 => ?_)
    refine g_aload_n hC dX2_compare_27 rfl 1 rfl ?_
    refine m_get_right hC dX2_compare_28 ?_
    refine g_iconst hC dX2_compare_31 ?_
    refine g_iload_n hC dX2_compare_32 rfl 2 rfl ?_
    refine g_imul hC dX2_compare_33 ?_
    refine g_iload hC dX2_compare_34 0 rfl ?_
    refine g_iadd hC dX2_compare_36 ?_
    refine g_iload_n hC dX2_compare_37 rfl 4 rfl ?_
    refine m_st_right hC (by omega) dX2_compare_38 (fun rt_38 ert_38 => ?_)
    refine g_aload_n hC dX2_compare_39 rfl 1 rfl ?_
    refine m_get_bound hC dX2_compare_40 ?_
    refine g_iconst hC dX2_compare_43 ?_
    refine g_iload_n hC dX2_compare_44 rfl 2 rfl ?_
    refine g_imul hC dX2_compare_45 ?_
    refine g_iload hC dX2_compare_46 0 rfl ?_
    refine g_iadd hC dX2_compare_48 ?_
    refine g_iload hC dX2_compare_49 5 rfl ?_
    refine m_st_bound hC (by omega) dX2_compare_51 (fun bd_51 ebd_51 => ?_)
    refine g_aload_n hC dX2_compare_52 rfl 1 rfl ?_
    refine m_get_sizes hC dX2_compare_53 ?_
    refine g_iload_n hC dX2_compare_56 rfl 2 rfl ?_
    refine g_iload hC dX2_compare_57 0 rfl ?_
    refine g_iconst hC dX2_compare_59 ?_
    refine g_iadd hC dX2_compare_60 ?_
    refine m_st_sizes hC (by omega) dX2_compare_61 (fun sZ_61 esZ_61 => ?_)
    exact hret _ _ (sZ_61, lf_26, rt_38, bd_51) dX2_compare_62 (⟨by assumption, by assumption, by assumption, by assumption⟩)
  · exact hret _ _ (sZ, lf, rt, bd) dX2_compare_14 (by exfalso; omega)
theorem gi_M_copy : gI yX2_copy RX2 cX2_copy 4 none 2 := ⟨q268, qs15, q25, q269, by decide, by decide +kernel⟩
set_option maxHeartbeats 4000000 in
theorem met_M_copy (l : Launch) (D : va_G) (o : gO) (sZ lf rt bd : Int → Int) (n pl dr ct : Int) (fr to : Int) (hf : 0 ≤ fr ∧ fr ≤ 8) (ht : 0 ≤ to ∧ to ≤ 8) (hne : fr ≠ to) : gMetV l yX2_copy cX2_copy 4 0 D [(o.1, .int)] (wM o (sZ, lf, rt, bd, n, pl, dr, ct)) [Value.ref o.2.1, vI fr, vI to] (fun (u : (Int → Int) × (Int → Int) × (Int → Int) × (Int → Int)) => match u with | (sZ', lf', rt', bd') => sZ' = iU sZ to (sZ fr) ∧ lf' = cp lf fr to 3 ∧ rt' = cp rt fr to 3 ∧ bd' = cp bd fr to 3) (fun (u : (Int → Int) × (Int → Int) × (Int → Int) × (Int → Int)) => match u with | (sZ', lf', rt', bd') => (wM o (sZ', lf', rt', bd', n, pl, dr, ct))) := by
  refine g_metV (by decide) (Nat.le_of_ble_eq_true rfl) ?_
  intro k hC hret
  have hC : gC k cX2_copy RX2 [(o.1, .int)] 0 4 := hC
  show gW k (wM o (sZ, lf, rt, bd, n, pl, dr, ct)) 0 [(0, Value.ref (o.2.1)), (1, vI fr), (2, vI to)] []
  refine g_aload_n hC dX2_copy_0 rfl 0 rfl ?_
  refine m_get_sizes hC dX2_copy_1 ?_
  refine g_iload_n hC dX2_copy_4 rfl 2 rfl ?_
  refine g_aload_n hC dX2_copy_5 rfl 0 rfl ?_
  refine m_get_sizes hC dX2_copy_6 ?_
  refine g_iload_n hC dX2_copy_9 rfl 1 rfl ?_
  refine m_ld_sizes hC (by omega) dX2_copy_10 ?_
  refine m_st_sizes hC (by omega) dX2_copy_11 (fun sZ_11 esZ_11 => ?_)
  refine g_iconst hC dX2_copy_12 ?_
  refine g_istore_n hC [(3, vI 0), (0, Value.ref (o.2.1)), (1, vI fr), (2, vI to)] dX2_copy_13 rfl (by decide) rfl ?_
  have loop14 : ∀ (N : Nat) (a : Int) (lfx : Int → Int) (rtx : Int → Int) (bdx : Int → Int) (hm14 : 0 ≤ 3 - a ∧ 3 - a < (N : Int)) (ha : 0 ≤ a ∧ a ≤ 3) (i1 : lfx = cp lf fr to a) (i2 : rtx = cp rt fr to a) (i3 : bdx = cp bd fr to a), gW k (wM o (sZ_11, lfx, rtx, bdx, n, pl, dr, ct)) 14 [(0, Value.ref (o.2.1)), (1, vI fr), (2, vI to), (3, vI a)] [] := by
    intro N
    induction N with
    | zero =>
      intro a lfx rtx bdx hm14
      exfalso
      omega
    | succ N ih14 =>
      intro a lfx rtx bdx hm14 ha i1 i2 i3
      refine g_iload_n hC dX2_copy_14 rfl 3 rfl ?_
      refine g_iconst hC dX2_copy_15 ?_
      refine g_icmp_ge hC 85 dX2_copy_16 (by decide) (by omega) (by omega) (fun c16 => ?_) (fun c16 => ?_)
      · exact hret _ _ (sZ_11, lfx, rtx, bdx) dX2_copy_85 (by have e3 : a = 3 := (by omega); subst e3; exact ⟨esZ_11, i1, i2, i3⟩)
      · refine g_aload_n hC dX2_copy_19 rfl 0 rfl ?_
        refine m_get_left hC dX2_copy_20 ?_
        refine g_iconst hC dX2_copy_23 ?_
        refine g_iload_n hC dX2_copy_24 rfl 2 rfl ?_
        refine g_imul hC dX2_copy_25 ?_
        refine g_iload_n hC dX2_copy_26 rfl 3 rfl ?_
        refine g_iadd hC dX2_copy_27 ?_
        refine g_aload_n hC dX2_copy_28 rfl 0 rfl ?_
        refine m_get_left hC dX2_copy_29 ?_
        refine g_iconst hC dX2_copy_32 ?_
        refine g_iload_n hC dX2_copy_33 rfl 1 rfl ?_
        refine g_imul hC dX2_copy_34 ?_
        refine g_iload_n hC dX2_copy_35 rfl 3 rfl ?_
        refine g_iadd hC dX2_copy_36 ?_
        refine m_ld_left hC (by omega) dX2_copy_37 ?_
        refine m_st_left hC (by omega) dX2_copy_38 (fun lf_38 elf_38 => ?_)
        refine g_aload_n hC dX2_copy_39 rfl 0 rfl ?_
        refine m_get_right hC dX2_copy_40 ?_
        refine g_iconst hC dX2_copy_43 ?_
        refine g_iload_n hC dX2_copy_44 rfl 2 rfl ?_
        refine g_imul hC dX2_copy_45 ?_
        refine g_iload_n hC dX2_copy_46 rfl 3 rfl ?_
        refine g_iadd hC dX2_copy_47 ?_
        refine g_aload_n hC dX2_copy_48 rfl 0 rfl ?_
        refine m_get_right hC dX2_copy_49 ?_
        refine g_iconst hC dX2_copy_52 ?_
        refine g_iload_n hC dX2_copy_53 rfl 1 rfl ?_
        refine g_imul hC dX2_copy_54 ?_
        refine g_iload_n hC dX2_copy_55 rfl 3 rfl ?_
        refine g_iadd hC dX2_copy_56 ?_
        refine m_ld_right hC (by omega) dX2_copy_57 ?_
        refine m_st_right hC (by omega) dX2_copy_58 (fun rt_58 ert_58 => ?_)
        refine g_aload_n hC dX2_copy_59 rfl 0 rfl ?_
        refine m_get_bound hC dX2_copy_60 ?_
        refine g_iconst hC dX2_copy_63 ?_
        refine g_iload_n hC dX2_copy_64 rfl 2 rfl ?_
        refine g_imul hC dX2_copy_65 ?_
        refine g_iload_n hC dX2_copy_66 rfl 3 rfl ?_
        refine g_iadd hC dX2_copy_67 ?_
        refine g_aload_n hC dX2_copy_68 rfl 0 rfl ?_
        refine m_get_bound hC dX2_copy_69 ?_
        refine g_iconst hC dX2_copy_72 ?_
        refine g_iload_n hC dX2_copy_73 rfl 1 rfl ?_
        refine g_imul hC dX2_copy_74 ?_
        refine g_iload_n hC dX2_copy_75 rfl 3 rfl ?_
        refine g_iadd hC dX2_copy_76 ?_
        refine m_ld_bound hC (by omega) dX2_copy_77 ?_
        refine m_st_bound hC (by omega) dX2_copy_78 (fun bd_78 ebd_78 => ?_)
        refine g_iinc hC [(3, vI (a + 1)), (0, Value.ref (o.2.1)), (1, vI fr), (2, vI to)] dX2_copy_79 3 rfl (by decide) rfl ?_
        refine g_goto hC 14 dX2_copy_82 (by decide) ?_
        refine g_lv [1, 2, 3, 0] rfl ?_
        exact ih14 (a + 1) lf_38 rt_58 bd_78 ⟨by omega, by omega⟩ (by omega) (cp_s i1 (by omega) hne elf_38) (cp_s i2 (by omega) hne ert_58) (cp_s i3 (by omega) hne ebd_78)
  refine g_lv [1, 2, 3, 0] rfl ?_
  exact loop14 ((3 - 0 : Int) + 1).toNat 0 lf rt bd ⟨by omega, by omega⟩ (by omega) (cp_0 _ _ _) (cp_0 _ _ _) (cp_0 _ _ _)
theorem gi_M_clear : gI yX2_clear RX2 cX2_clear 2 (some .int) 0 := ⟨q259, q260, q25, q261, by decide, by decide +kernel⟩
set_option maxHeartbeats 4000000 in
theorem met_M_clear (l : Launch) (D : va_G) (o : gO) (sZ lf rt bd : Int → Int) (n pl dr ct : Int) (hdr : 0 ≤ dr ∧ dr ≤ 3) : gMetI l yX2_clear cX2_clear 2 .int 0 D [(o.1, .int)] (wM o (sZ, lf, rt, bd, n, pl, dr, ct)) [Value.ref o.2.1] (fun (z : Int) (u : (Int → Int) × Int) => match u with | (sZ', dr') => z = dr ∧ sZ' = iU sZ 8 0 ∧ dr' = 0) (fun (u : (Int → Int) × Int) => match u with | (sZ', dr') => (wM o (sZ', lf, rt, bd, n, pl, dr', ct))) := by
  refine g_metI (by decide) (Nat.le_of_ble_eq_true rfl) ?_
  intro k hC hret
  have hC : gC k cX2_clear RX2 [(o.1, .int)] 0 2 := hC
  show gW k (wM o (sZ, lf, rt, bd, n, pl, dr, ct)) 0 [(0, Value.ref (o.2.1))] []
  refine g_aload_n hC dX2_clear_0 rfl 0 rfl ?_
  refine m_get_drafted hC dX2_clear_1 ?_
  refine g_istore_n hC [(1, vI dr), (0, Value.ref (o.2.1))] dX2_clear_4 rfl (by decide) rfl ?_
  refine g_aload_n hC dX2_clear_5 rfl 1 rfl ?_
  refine m_get_sizes hC dX2_clear_6 ?_
  refine g_bipush hC dX2_clear_9 (by decide) ?_
  refine g_iconst hC dX2_clear_11 ?_
  refine m_st_sizes hC (by omega) dX2_clear_12 (fun sZ_12 esZ_12 => ?_)
  refine g_aload_n hC dX2_clear_13 rfl 1 rfl ?_
  refine g_iconst hC dX2_clear_14 ?_
  refine m_put_drafted hC dX2_clear_15 ?_
  refine g_iload_n hC dX2_clear_18 rfl 0 rfl ?_
  exact hret _ _ dr (sZ_12, 0) dX2_clear_19 (rfl) (by omega) (⟨rfl, by assumption, rfl⟩)
theorem gi_M_alternative : gI yX2_alternative RX2 cX2_alternative 4 (some .int) 3 := ⟨q247, q248, q25, q249, by decide, by decide +kernel⟩
set_option maxHeartbeats 4000000 in
theorem met_M_alternative (l : Launch) (D : va_G) (o : gO) (sZ lf rt bd : Int → Int) (n pl dr ct : Int) (i j m : Int) (hn : 2 ≤ n ∧ n ≤ 4) (hi : -2147483648 ≤ i ∧ i < 2147483648) (hj : -2147483648 ≤ j ∧ j < 2147483648) (hk : -2147483648 ≤ m ∧ m < 2147483648) (hdr : 0 ≤ dr ∧ dr ≤ 3) (hs8 : sZ 8 = dr) : gMetI l yX2_alternative cX2_alternative 4 .int 1 D [(o.1, .int)] (wM o (sZ, lf, rt, bd, n, pl, dr, ct)) [Value.ref o.2.1, vI i, vI j, vI m] (fun (z : Int) (u : (Int → Int) × (Int → Int) × (Int → Int) × (Int → Int) × Int) => match u with | (sZ', lf', rt', bd', dr') => z = altZ n dr i j m ∧ ((z < 0 ∧ sZ' = sZ ∧ lf' = lf ∧ rt' = rt ∧ bd' = bd ∧ dr' = dr) ∨ (z = dr + 1 ∧ (0 ≤ i ∧ i ≤ n ∧ 0 ≤ j ∧ j ≤ n ∧ i ≠ j ∧ -10 ≤ m ∧ m ≤ 10 ∧ dr < 3) ∧ dr' = dr + 1 ∧ sZ' = iU sZ 8 (dr + 1) ∧ lf' = iU lf (24 + dr) i ∧ rt' = iU rt (24 + dr) j ∧ bd' = iU bd (24 + dr) m))) (fun (u : (Int → Int) × (Int → Int) × (Int → Int) × (Int → Int) × Int) => match u with | (sZ', lf', rt', bd', dr') => (wM o (sZ', lf', rt', bd', n, pl, dr', ct))) := by
  refine g_metI (by decide) (Nat.le_of_ble_eq_true rfl) ?_
  intro k hC hret
  have hC : gC k cX2_alternative RX2 [(o.1, .int)] 1 4 := hC
  show gW k (wM o (sZ, lf, rt, bd, n, pl, dr, ct)) 0 [(0, Value.ref (o.2.1)), (1, vI i), (2, vI j), (3, vI m)] []
  refine g_aload_n hC dX2_alternative_0 rfl 0 rfl ?_
  refine g_iload_n hC dX2_alternative_1 rfl 1 rfl ?_
  refine m_callI hC gi_M_badPoint q250 (met_M_badPoint _ _ o _ _ _ _ _ _ _ _ i (by omega) (by omega)) (by decide) rfl rfl (Nat.le_of_ble_eq_true rfl) dX2_alternative_2 (fun z2 _ rz2 h2 => ?_)
  have b2 : (z2 = 1 ∧ (i < 0 ∨ n < i)) ∨ (z2 = 0 ∧ ¬ (i < 0 ∨ n < i)) := h2
  refine g_if_ne hC 16 dX2_alternative_5 (by decide) (by omega) (fun c5 => ?_) (fun c5 => ?_)
  · refine g_iconst hC dX2_alternative_16 ?_
    exact hret _ _ (-1) (sZ, lf, rt, bd, dr) dX2_alternative_17 (rfl) (by omega) (⟨by unfold altZ; (repeat' split) <;> omega, Or.inl ⟨by omega, rfl, rfl, rfl, rfl, rfl⟩⟩)
  · refine g_aload_n hC dX2_alternative_8 rfl 0 rfl ?_
    refine g_iload_n hC dX2_alternative_9 rfl 2 rfl ?_
    refine m_callI hC gi_M_badPoint q250 (met_M_badPoint _ _ o _ _ _ _ _ _ _ _ j (by omega) (by omega)) (by decide) rfl rfl (Nat.le_of_ble_eq_true rfl) dX2_alternative_10 (fun z10 _ rz10 h10 => ?_)
    have b10 : (z10 = 1 ∧ (j < 0 ∨ n < j)) ∨ (z10 = 0 ∧ ¬ (j < 0 ∨ n < j)) := h10
    refine g_if_eq hC 18 dX2_alternative_13 (by decide) (by omega) (fun c13 => ?_) (fun c13 => ?_)
    · refine g_iload_n hC dX2_alternative_18 rfl 1 rfl ?_
      refine g_iload_n hC dX2_alternative_19 rfl 2 rfl ?_
      refine g_icmp_ne hC 26 dX2_alternative_20 (by decide) (by omega) (by omega) (fun c20 => ?_) (fun c20 => ?_)
      · refine g_iload_n hC dX2_alternative_26 rfl 3 rfl ?_
        refine g_bipush hC dX2_alternative_27 (by decide) ?_
        refine g_icmp_lt hC 38 dX2_alternative_29 (by decide) (by omega) (by omega) (fun c29 => ?_) (fun c29 => ?_)
        · refine g_bipush hC dX2_alternative_38 (by decide) ?_
          exact hret _ _ (-3) (sZ, lf, rt, bd, dr) dX2_alternative_40 (rfl) (by omega) (⟨by unfold altZ; (repeat' split) <;> omega, Or.inl ⟨by omega, rfl, rfl, rfl, rfl, rfl⟩⟩)
        · refine g_iload_n hC dX2_alternative_32 rfl 3 rfl ?_
          refine g_bipush hC dX2_alternative_33 (by decide) ?_
          refine g_icmp_le hC 41 dX2_alternative_35 (by decide) (by omega) (by omega) (fun c35 => ?_) (fun c35 => ?_)
          · refine g_aload_n hC dX2_alternative_41 rfl 0 rfl ?_
            refine m_get_drafted hC dX2_alternative_42 ?_
            refine g_iconst hC dX2_alternative_45 ?_
            refine g_icmp_lt hC 52 dX2_alternative_46 (by decide) (by omega) (by omega) (fun c46 => ?_) (fun c46 => ?_)
            · refine g_aload_n hC dX2_alternative_52 rfl 0 rfl ?_
              refine g_bipush hC dX2_alternative_53 (by decide) ?_
              refine g_iload_n hC dX2_alternative_55 rfl 1 rfl ?_
              refine g_iload_n hC dX2_alternative_56 rfl 2 rfl ?_
              refine g_iload_n hC dX2_alternative_57 rfl 3 rfl ?_
              refine m_callV hC gi_M_compare q254 (met_M_compare _ _ o _ _ _ _ _ _ _ _ 8 i j m (by omega) (by omega)) (by decide) rfl rfl (Nat.le_of_ble_eq_true rfl) dX2_alternative_58 (fun u h58 => ?_)
              obtain ⟨sZ_58, lf_58, rt_58, bd_58⟩ := u
              show gW k (wM o (sZ_58, lf_58, rt_58, bd_58, n, pl, dr, ct)) 61 [(0, Value.ref (o.2.1)), (1, vI i), (2, vI j), (3, vI m)] []
              obtain ⟨k1, k2, k3, k4⟩ := h58
              have g8 : sZ_58 8 = dr + 1 := by rw [k1, iU_s, hs8]
              rw [hs8] at k1 k2 k3 k4
              refine g_aload_n hC dX2_alternative_61 rfl 0 rfl ?_
              refine g_aload_n hC dX2_alternative_62 rfl 0 rfl ?_
              refine m_get_sizes hC dX2_alternative_63 ?_
              refine g_bipush hC dX2_alternative_66 (by decide) ?_
              refine m_ld_sizes hC (by omega) dX2_alternative_68 ?_
              refine m_put_drafted hC dX2_alternative_69 ?_
              refine g_aload_n hC dX2_alternative_72 rfl 0 rfl ?_
              refine m_get_drafted hC dX2_alternative_73 ?_
              exact hret _ _ (sZ_58 8) (sZ_58, lf_58, rt_58, bd_58, (sZ_58 8)) dX2_alternative_76 (rfl) (by omega) (⟨by unfold altZ; (repeat' split) <;> omega, Or.inr ⟨by omega, by omega, by omega, k1, k2, k3, k4⟩⟩)
            · refine g_bipush hC dX2_alternative_49 (by decide) ?_
              exact hret _ _ (-4) (sZ, lf, rt, bd, dr) dX2_alternative_51 (rfl) (by omega) (⟨by unfold altZ; (repeat' split) <;> omega, Or.inl ⟨by omega, rfl, rfl, rfl, rfl, rfl⟩⟩)
          · refine g_bipush hC dX2_alternative_38 (by decide) ?_
            exact hret _ _ (-3) (sZ, lf, rt, bd, dr) dX2_alternative_40 (rfl) (by omega) (⟨by unfold altZ; (repeat' split) <;> omega, Or.inl ⟨by omega, rfl, rfl, rfl, rfl, rfl⟩⟩)
      · refine g_bipush hC dX2_alternative_23 (by decide) ?_
        exact hret _ _ (-2) (sZ, lf, rt, bd, dr) dX2_alternative_25 (rfl) (by omega) (⟨by unfold altZ; (repeat' split) <;> omega, Or.inl ⟨by omega, rfl, rfl, rfl, rfl, rfl⟩⟩)
    · refine g_iconst hC dX2_alternative_16 ?_
      exact hret _ _ (-1) (sZ, lf, rt, bd, dr) dX2_alternative_17 (rfl) (by omega) (⟨by unfold altZ; (repeat' split) <;> omega, Or.inl ⟨by omega, rfl, rfl, rfl, rfl, rfl⟩⟩)
theorem gi_M_add : gI yX2_add RX2 cX2_add 1 (some .int) 0 := ⟨q263, q264, q25, q265, by decide, by decide +kernel⟩
set_option maxHeartbeats 4000000 in
theorem met_M_add (l : Launch) (D : va_G) (o : gO) (sZ lf rt bd : Int → Int) (n pl dr ct : Int) (hdr : 0 ≤ dr ∧ dr ≤ 3) (hct : 0 ≤ ct ∧ ct ≤ 8) : gMetI l yX2_add cX2_add 1 .int 1 D [(o.1, .int)] (wM o (sZ, lf, rt, bd, n, pl, dr, ct)) [Value.ref o.2.1] (fun (z : Int) (u : (Int → Int) × (Int → Int) × (Int → Int) × (Int → Int) × Int × Int) => match u with | (sZ', lf', rt', bd', dr', ct') => (z = (if dr = 0 then -1 else -2) ∧ (dr = 0 ∨ ct = 8) ∧ sZ' = sZ ∧ lf' = lf ∧ rt' = rt ∧ bd' = bd ∧ dr' = dr ∧ ct' = ct) ∨ (z = ct + 1 ∧ dr ≠ 0 ∧ ct < 8 ∧ sZ' = iU (iU sZ ct (sZ 8)) 8 0 ∧ lf' = cp lf 8 ct 3 ∧ rt' = cp rt 8 ct 3 ∧ bd' = cp bd 8 ct 3 ∧ dr' = 0 ∧ ct' = ct + 1)) (fun (u : (Int → Int) × (Int → Int) × (Int → Int) × (Int → Int) × Int × Int) => match u with | (sZ', lf', rt', bd', dr', ct') => (wM o (sZ', lf', rt', bd', n, pl, dr', ct'))) := by
  refine g_metI (by decide) (Nat.le_of_ble_eq_true rfl) ?_
  intro k hC hret
  have hC : gC k cX2_add RX2 [(o.1, .int)] 1 1 := hC
  show gW k (wM o (sZ, lf, rt, bd, n, pl, dr, ct)) 0 [(0, Value.ref (o.2.1))] []
  refine g_aload_n hC dX2_add_0 rfl 0 rfl ?_
  refine m_get_drafted hC dX2_add_1 ?_
  refine g_if_ne hC 9 dX2_add_4 (by decide) (by omega) (fun c4 => ?_) (fun c4 => ?_)
  · refine g_aload_n hC dX2_add_9 rfl 0 rfl ?_
    refine m_get_count hC dX2_add_10 ?_
    refine g_bipush hC dX2_add_13 (by decide) ?_
    refine g_icmp_lt hC 21 dX2_add_15 (by decide) (by omega) (by omega) (fun c15 => ?_) (fun c15 => ?_)
    · refine g_aload_n hC dX2_add_21 rfl 0 rfl ?_
      refine g_bipush hC dX2_add_22 (by decide) ?_
      refine g_aload_n hC dX2_add_24 rfl 0 rfl ?_
      refine m_get_count hC dX2_add_25 ?_
      refine m_callV hC gi_M_copy q266 (met_M_copy _ _ o _ _ _ _ _ _ _ _ 8 ct (by omega) (by omega) (by omega)) (by decide) rfl rfl (Nat.le_of_ble_eq_true rfl) dX2_add_28 (fun u h28 => ?_)
      obtain ⟨sZ_28, lf_28, rt_28, bd_28⟩ := u
      show gW k (wM o (sZ_28, lf_28, rt_28, bd_28, n, pl, dr, ct)) 31 [(0, Value.ref (o.2.1))] []
      refine g_aload_n hC dX2_add_31 rfl 0 rfl ?_
      refine g_dup hC rfl dX2_add_32 ?_
      refine m_get_count hC dX2_add_33 ?_
      refine g_iconst hC dX2_add_36 ?_
      refine g_iadd hC dX2_add_37 ?_
      refine m_put_count hC dX2_add_38 ?_
      refine g_aload_n hC dX2_add_41 rfl 0 rfl ?_
      refine m_get_sizes hC dX2_add_42 ?_
      refine g_bipush hC dX2_add_45 (by decide) ?_
      refine g_iconst hC dX2_add_47 ?_
      refine m_st_sizes hC (by omega) dX2_add_48 (fun sZ_48 esZ_48 => ?_)
      refine g_aload_n hC dX2_add_49 rfl 0 rfl ?_
      refine g_iconst hC dX2_add_50 ?_
      refine m_put_drafted hC dX2_add_51 ?_
      refine g_aload_n hC dX2_add_54 rfl 0 rfl ?_
      refine m_get_count hC dX2_add_55 ?_
      exact hret _ _ (ct + 1) (sZ_48, lf_28, rt_28, bd_28, 0, (ct + 1)) dX2_add_58 (rfl) (by omega) (Or.inr ⟨rfl, by omega, by omega, by rw [esZ_48, h28.1], h28.2.1, h28.2.2.1, h28.2.2.2, rfl, rfl⟩)
    · refine g_bipush hC dX2_add_18 (by decide) ?_
      exact hret _ _ (-2) (sZ, lf, rt, bd, dr, ct) dX2_add_20 (rfl) (by omega) (Or.inl ⟨by rw [if_neg (by omega)], by omega, rfl, rfl, rfl, rfl, rfl, rfl⟩)
  · refine g_iconst hC dX2_add_7 ?_
    exact hret _ _ (-1) (sZ, lf, rt, bd, dr, ct) dX2_add_8 (rfl) (by omega) (Or.inl ⟨by rw [if_pos (by omega)], by omega, rfl, rfl, rfl, rfl, rfl, rfl⟩)
theorem gi_M_remove : gI yX2_remove RX2 cX2_remove 3 (some .int) 1 := ⟨q279, q280, q25, q281, by decide, by decide +kernel⟩
set_option maxHeartbeats 4000000 in
theorem met_M_remove (l : Launch) (D : va_G) (o : gO) (sZ lf rt bd : Int → Int) (n pl dr ct : Int) (pos : Int) (hp : -2147483648 ≤ pos ∧ pos < 2147483648) (hct : 0 ≤ ct ∧ ct ≤ 8) : gMetI l yX2_remove cX2_remove 3 .int 1 D [(o.1, .int)] (wM o (sZ, lf, rt, bd, n, pl, dr, ct)) [Value.ref o.2.1, vI pos] (fun (z : Int) (u : (Int → Int) × (Int → Int) × (Int → Int) × (Int → Int) × Int) => match u with | (sZ', lf', rt', bd', ct') => (z = -1 ∧ ¬ (0 ≤ pos ∧ pos < ct) ∧ sZ' = sZ ∧ lf' = lf ∧ rt' = rt ∧ bd' = bd ∧ ct' = ct) ∨ (z = ct - 1 ∧ (0 ≤ pos ∧ pos < ct) ∧ sZ' = shf sZ 1 pos (ct - 1) ∧ lf' = shf lf 3 (3 * pos) (3 * (ct - 1)) ∧ rt' = shf rt 3 (3 * pos) (3 * (ct - 1)) ∧ bd' = shf bd 3 (3 * pos) (3 * (ct - 1)) ∧ ct' = ct - 1)) (fun (u : (Int → Int) × (Int → Int) × (Int → Int) × (Int → Int) × Int) => match u with | (sZ', lf', rt', bd', ct') => (wM o (sZ', lf', rt', bd', n, pl, dr, ct'))) := by
  refine g_metI (by decide) (Nat.le_of_ble_eq_true rfl) ?_
  intro k hC hret
  have hC : gC k cX2_remove RX2 [(o.1, .int)] 1 3 := hC
  show gW k (wM o (sZ, lf, rt, bd, n, pl, dr, ct)) 0 [(0, Value.ref (o.2.1)), (1, vI pos)] []
  refine g_iload_n hC dX2_remove_0 rfl 1 rfl ?_
  refine g_if_lt hC 12 dX2_remove_1 (by decide) (by omega) (fun c1 => ?_) (fun c1 => ?_)
  · refine g_iconst hC dX2_remove_12 ?_
    exact hret _ _ (-1) (sZ, lf, rt, bd, ct) dX2_remove_13 (rfl) (by omega) (Or.inl ⟨rfl, by omega, rfl, rfl, rfl, rfl, rfl⟩)
  · refine g_iload_n hC dX2_remove_4 rfl 1 rfl ?_
    refine g_aload_n hC dX2_remove_5 rfl 0 rfl ?_
    refine m_get_count hC dX2_remove_6 ?_
    refine g_icmp_lt hC 14 dX2_remove_9 (by decide) (by omega) (by omega) (fun c9 => ?_) (fun c9 => ?_)
    · refine g_iload_n hC dX2_remove_14 rfl 1 rfl ?_
      refine g_istore_n hC [(2, vI pos), (0, Value.ref (o.2.1)), (1, vI pos)] dX2_remove_15 rfl (by decide) rfl ?_
      have loop16 : ∀ (N : Nat) (c : Int) (sZx : Int → Int) (lfx : Int → Int) (rtx : Int → Int) (bdx : Int → Int) (hm16 : 0 ≤ ct - c ∧ ct - c < (N : Int)) (hc : pos ≤ c ∧ c ≤ ct - 1) (i0 : sZx = shf sZ 1 pos c) (i1 : lfx = shf lf 3 (3 * pos) (3 * c)) (i2 : rtx = shf rt 3 (3 * pos) (3 * c)) (i3 : bdx = shf bd 3 (3 * pos) (3 * c)), gW k (wM o (sZx, lfx, rtx, bdx, n, pl, dr, ct)) 16 [(0, Value.ref (o.2.1)), (1, vI pos), (2, vI c)] [] := by
        intro N
        induction N with
        | zero =>
          intro c sZx lfx rtx bdx hm16
          exfalso
          omega
        | succ N ih16 =>
          intro c sZx lfx rtx bdx hm16 hc i0 i1 i2 i3
          refine g_iload_n hC dX2_remove_16 rfl 2 rfl ?_
          refine g_aload_n hC dX2_remove_17 rfl 0 rfl ?_
          refine m_get_count hC dX2_remove_18 ?_
          refine g_iconst hC dX2_remove_21 ?_
          refine g_isub hC dX2_remove_22 ?_
          refine g_icmp_ge hC 46 dX2_remove_23 (by decide) (by omega) (by omega) (fun c23 => ?_) (fun c23 => ?_)
          · refine g_aload_n hC dX2_remove_46 rfl 0 rfl ?_
            refine g_dup hC rfl dX2_remove_47 ?_
            refine m_get_count hC dX2_remove_48 ?_
            refine g_iconst hC dX2_remove_51 ?_
            refine g_isub hC dX2_remove_52 ?_
            refine m_put_count hC dX2_remove_53 ?_
            refine g_aload_n hC dX2_remove_56 rfl 0 rfl ?_
            refine m_get_count hC dX2_remove_57 ?_
            exact hret _ _ (ct - 1) (sZx, lfx, rtx, bdx, (ct - 1)) dX2_remove_60 (rfl) (by omega) (by have e3 : c = ct - 1 := (by omega); subst e3; exact Or.inr ⟨rfl, by omega, i0, i1, i2, i3, rfl⟩)
          · refine g_iload_n hC dX2_remove_26 rfl 2 rfl ?_
            refine g_bipush hC dX2_remove_27 (by decide) ?_
            refine g_icmp_ge hC 46 dX2_remove_29 (by decide) (by omega) (by omega) (fun c29 => ?_) (fun c29 => ?_)
            · refine g_aload_n hC dX2_remove_46 rfl 0 rfl ?_
              refine g_dup hC rfl dX2_remove_47 ?_
              refine m_get_count hC dX2_remove_48 ?_
              refine g_iconst hC dX2_remove_51 ?_
              refine g_isub hC dX2_remove_52 ?_
              refine m_put_count hC dX2_remove_53 ?_
              refine g_aload_n hC dX2_remove_56 rfl 0 rfl ?_
              refine m_get_count hC dX2_remove_57 ?_
              exact hret _ _ (ct - 1) (sZx, lfx, rtx, bdx, (ct - 1)) dX2_remove_60 (rfl) (by omega) (by have e3 : c = ct - 1 := (by omega); subst e3; exact Or.inr ⟨rfl, by omega, i0, i1, i2, i3, rfl⟩)
            · refine g_aload_n hC dX2_remove_32 rfl 0 rfl ?_
              refine g_iload_n hC dX2_remove_33 rfl 2 rfl ?_
              refine g_iconst hC dX2_remove_34 ?_
              refine g_iadd hC dX2_remove_35 ?_
              refine g_iload_n hC dX2_remove_36 rfl 2 rfl ?_
              refine m_callV hC gi_M_copy q266 (met_M_copy _ _ o _ _ _ _ _ _ _ _ (c + 1) c (by omega) (by omega) (by omega)) (by decide) rfl rfl (Nat.le_of_ble_eq_true rfl) dX2_remove_37 (fun u h37 => ?_)
              obtain ⟨sZ_37, lf_37, rt_37, bd_37⟩ := u
              show gW k (wM o (sZ_37, lf_37, rt_37, bd_37, n, pl, dr, ct)) 40 [(0, Value.ref (o.2.1)), (1, vI pos), (2, vI c)] []
              refine g_iinc hC [(2, vI (c + 1)), (0, Value.ref (o.2.1)), (1, vI pos)] dX2_remove_40 2 rfl (by decide) rfl ?_
              refine g_goto hC 16 dX2_remove_43 (by decide) ?_
              refine g_lv [1, 2, 0] rfl ?_
              exact ih16 (c + 1) sZ_37 lf_37 rt_37 bd_37 ⟨by omega, by omega⟩ (by omega) (shf_1 i0 (by omega) h37.1) (shf_3 i1 (by omega) h37.2.1) (shf_3 i2 (by omega) h37.2.2.1) (shf_3 i3 (by omega) h37.2.2.2)
      refine g_lv [1, 2, 0] rfl ?_
      exact loop16 ((ct - pos : Int) + 1).toNat pos sZ lf rt bd ⟨by omega, by omega⟩ (by omega) (shf_0 _ _ _) (shf_0 _ _ _) (shf_0 _ _ _) (shf_0 _ _ _)
    · refine g_iconst hC dX2_remove_12 ?_
      exact hret _ _ (-1) (sZ, lf, rt, bd, ct) dX2_remove_13 (rfl) (by omega) (Or.inl ⟨rfl, by omega, rfl, rfl, rfl, rfl, rfl⟩)
end
section
/-! MODEL: apart -/
set_option maxRecDepth 100000
theorem gi_M_apart : gI yX2_apart RX2 cX2_apart 7 (some .int) 3 := ⟨q271, q272, q25, q273, by decide, by decide +kernel⟩
set_option maxHeartbeats 4000000 in
theorem met_M_apart (l : Launch) (D : va_G) (o : gO) (sZ lf rt bd : Int → Int) (n pl dr ct : Int) (pair gap span : Int) (hn : 2 ≤ n ∧ n ≤ 4) (hi : -2147483648 ≤ pair ∧ pair < 2147483648) (hj : -2147483648 ≤ gap ∧ gap < 2147483648) (hk : -2147483648 ≤ span ∧ span < 2147483648) (hct : 0 ≤ ct ∧ ct ≤ 8) : gMetI l yX2_apart cX2_apart 7 .int 1 D [(o.1, .int)] (wM o (sZ, lf, rt, bd, n, pl, dr, ct)) [Value.ref o.2.1, vI pair, vI gap, vI span] (fun (z : Int) (u : (Int → Int) × (Int → Int) × (Int → Int) × (Int → Int) × Int) => match u with | (sZ', lf', rt', bd', ct') => z = apZ n ct pair gap span ∧ ((z < 0 ∧ sZ' = sZ ∧ lf' = lf ∧ rt' = rt ∧ bd' = bd ∧ ct' = ct) ∨ (z = ct + 3 ∧ ct' = ct + 3 ∧ apS n ct (pair / 8) (pair % 8) gap span sZ lf rt bd sZ' lf' rt' bd'))) (fun (u : (Int → Int) × (Int → Int) × (Int → Int) × (Int → Int) × Int) => match u with | (sZ', lf', rt', bd', ct') => (wM o (sZ', lf', rt', bd', n, pl, dr, ct'))) := by
  refine g_metI (by decide) (Nat.le_of_ble_eq_true rfl) ?_
  intro k hC hret
  have hC : gC k cX2_apart RX2 [(o.1, .int)] 1 7 := hC
  show gW k (wM o (sZ, lf, rt, bd, n, pl, dr, ct)) 0 [(0, Value.ref (o.2.1)), (1, vI pair), (2, vI gap), (3, vI span)] []
  refine g_iload_n hC dX2_apart_0 rfl 1 rfl ?_
  refine g_if_ge hC 6 dX2_apart_1 (by decide) (by omega) (fun c1 => ?_) (fun c1 => ?_)
  · refine g_iload_n hC dX2_apart_6 rfl 1 rfl ?_
    refine g_bipush hC dX2_apart_7 (by decide) ?_
    refine g_idiv hC (by omega) (by omega) dX2_apart_9 ?_
    refine g_istore hC [(4, vI (pair / 8)), (0, Value.ref (o.2.1)), (1, vI pair), (2, vI gap), (3, vI span)] dX2_apart_10 (by decide) rfl ?_
    refine g_iload_n hC dX2_apart_12 rfl 2 rfl ?_
    refine g_bipush hC dX2_apart_13 (by decide) ?_
    refine g_irem hC (by omega) (by omega) dX2_apart_15 ?_
    refine g_istore hC [(5, vI (pair % 8)), (4, vI (pair / 8)), (0, Value.ref (o.2.1)), (1, vI pair), (2, vI gap), (3, vI span)] dX2_apart_16 (by decide) rfl ?_
    refine g_aload_n hC dX2_apart_18 rfl 2 rfl ?_
    refine g_iload hC dX2_apart_19 1 rfl ?_
    refine m_callI hC gi_M_badEvent q274 (met_M_badEvent _ _ o _ _ _ _ _ _ _ _ (pair / 8) (by omega) (by omega)) (by decide) rfl rfl (Nat.le_of_ble_eq_true rfl) dX2_apart_21 (fun z21 _ rz21 h21 => ?_)
    have b21 : (z21 = 1 ∧ (pair / 8 < 0 ∨ n ≤ pair / 8)) ∨ (z21 = 0 ∧ ¬ (pair / 8 < 0 ∨ n ≤ pair / 8)) := h21
    refine g_if_ne hC 36 dX2_apart_24 (by decide) (by omega) (fun c24 => ?_) (fun c24 => ?_)
    · refine g_iconst hC dX2_apart_36 ?_
      exact hret _ _ (-1) (sZ, lf, rt, bd, ct) dX2_apart_37 (rfl) (by omega) (⟨by unfold apZ; (repeat' split) <;> omega, Or.inl ⟨by omega, rfl, rfl, rfl, rfl, rfl⟩⟩)
    · refine g_aload_n hC dX2_apart_27 rfl 2 rfl ?_
      refine g_iload hC dX2_apart_28 0 rfl ?_
      refine m_callI hC gi_M_badEvent q274 (met_M_badEvent _ _ o _ _ _ _ _ _ _ _ (pair % 8) (by omega) (by omega)) (by decide) rfl rfl (Nat.le_of_ble_eq_true rfl) dX2_apart_30 (fun z30 _ rz30 h30 => ?_)
      have b30 : (z30 = 1 ∧ (pair % 8 < 0 ∨ n ≤ pair % 8)) ∨ (z30 = 0 ∧ ¬ (pair % 8 < 0 ∨ n ≤ pair % 8)) := h30
      refine g_if_eq hC 38 dX2_apart_33 (by decide) (by omega) (fun c33 => ?_) (fun c33 => ?_)
      · refine g_iload hC dX2_apart_38 1 rfl ?_
        refine g_iload hC dX2_apart_40 0 rfl ?_
        refine g_icmp_ne hC 48 dX2_apart_42 (by decide) (by omega) (by omega) (fun c42 => ?_) (fun c42 => ?_)
        · refine g_iload_n hC dX2_apart_48 rfl 4 rfl ?_
          refine g_if_lt hC 58 dX2_apart_49 (by decide) (by omega) (fun c49 => ?_) (fun c49 => ?_)
          · refine g_bipush hC dX2_apart_58 (by decide) ?_
            exact hret _ _ (-3) (sZ, lf, rt, bd, ct) dX2_apart_60 (rfl) (by omega) (⟨by unfold apZ; (repeat' split) <;> omega, Or.inl ⟨by omega, rfl, rfl, rfl, rfl, rfl⟩⟩)
          · refine g_iload_n hC dX2_apart_52 rfl 4 rfl ?_
            refine g_bipush hC dX2_apart_53 (by decide) ?_
            refine g_icmp_le hC 61 dX2_apart_55 (by decide) (by omega) (by omega) (fun c55 => ?_) (fun c55 => ?_)
            · refine g_iload_n hC dX2_apart_61 rfl 5 rfl ?_
              refine g_if_lt hC 71 dX2_apart_62 (by decide) (by omega) (fun c62 => ?_) (fun c62 => ?_)
              · refine g_bipush hC dX2_apart_71 (by decide) ?_
                exact hret _ _ (-4) (sZ, lf, rt, bd, ct) dX2_apart_73 (rfl) (by omega) (⟨by unfold apZ; (repeat' split) <;> omega, Or.inl ⟨by omega, rfl, rfl, rfl, rfl, rfl⟩⟩)
              · refine g_iload_n hC dX2_apart_65 rfl 5 rfl ?_
                refine g_bipush hC dX2_apart_66 (by decide) ?_
                refine g_icmp_le hC 74 dX2_apart_68 (by decide) (by omega) (by omega) (fun c68 => ?_) (fun c68 => ?_)
                · refine g_aload_n hC dX2_apart_74 rfl 2 rfl ?_
                  refine m_get_count hC dX2_apart_75 ?_
                  refine g_iconst hC dX2_apart_78 ?_
                  refine g_icmp_le hC 85 dX2_apart_79 (by decide) (by omega) (by omega) (fun c79 => ?_) (fun c79 => ?_)
                  · refine g_aload_n hC dX2_apart_85 rfl 2 rfl ?_
                    refine m_get_count hC dX2_apart_86 ?_
                    refine g_istore hC [(6, vI ct), (5, vI (pair % 8)), (4, vI (pair / 8)), (0, Value.ref (o.2.1)), (1, vI pair), (2, vI gap), (3, vI span)] dX2_apart_89 (by decide) rfl ?_
                    have loop91 : ∀ (N : Nat) (c : Int) (sZx : Int → Int) (hm91 : 0 ≤ ct + 3 - c ∧ ct + 3 - c < (N : Int)) (hc : ct ≤ c ∧ c ≤ ct + 3) (i0 : ∀ x : Int, sZx x = if ct ≤ x ∧ x < c then 0 else sZ x), gW k (wM o (sZx, lf, rt, bd, n, pl, dr, ct)) 91 [(0, Value.ref (o.2.1)), (1, vI pair), (2, vI gap), (3, vI span), (4, vI (pair / 8)), (5, vI (pair % 8)), (6, vI c)] [] := by
                      intro N
                      induction N with
                      | zero =>
                        intro c sZx hm91
                        exfalso
                        omega
                      | succ N ih91 =>
                        intro c sZx hm91 hc i0
                        refine g_iload hC dX2_apart_91 6 rfl ?_
                        refine g_aload_n hC dX2_apart_93 rfl 0 rfl ?_
                        refine m_get_count hC dX2_apart_94 ?_
                        refine g_iconst hC dX2_apart_97 ?_
                        refine g_iadd hC dX2_apart_98 ?_
                        refine g_icmp_ge hC 116 dX2_apart_99 (by decide) (by omega) (by omega) (fun c99 => ?_) (fun c99 => ?_)
                        · have ec : c = ct + 3 := by omega
                          have y0 : sZx ct = 0 := by rw [i0, if_pos (by omega)]
                          have y1 : sZx (ct + 1) = 0 := by rw [i0, if_pos (by omega)]
                          have y2 : sZx (ct + 2) = 0 := by rw [i0, if_pos (by omega)]
                          refine g_aload_n hC dX2_apart_116 rfl 0 rfl ?_
                          refine g_aload_n hC dX2_apart_117 rfl 0 rfl ?_
                          refine m_get_count hC dX2_apart_118 ?_
                          refine g_iload hC dX2_apart_121 4 rfl ?_
                          refine g_iload hC dX2_apart_123 5 rfl ?_
                          refine g_iload_n hC dX2_apart_125 rfl 2 rfl ?_
                          refine g_ineg hC dX2_apart_126 ?_
                          refine m_callV hC gi_M_compare q254 (met_M_compare _ _ o _ _ _ _ _ _ _ _ ct (pair / 8) (pair % 8) (-gap) (by omega) (by omega)) (by decide) rfl rfl (Nat.le_of_ble_eq_true rfl) dX2_apart_127 (fun u h127 => ?_)
                          obtain ⟨sZ_127, lf_127, rt_127, bd_127⟩ := u
                          show gW k (wM o (sZ_127, lf_127, rt_127, bd_127, n, pl, dr, ct)) 130 [(0, Value.ref (o.2.1)), (1, vI pair), (2, vI gap), (3, vI span), (4, vI (pair / 8)), (5, vI (pair % 8)), (6, vI c)] []
                          obtain ⟨k1, k2, k3, k4⟩ := h127
                          rw [y0] at k1 k2 k3 k4
                          have y3 : sZ_127 ct = 1 := by rw [k1]; exact iU_s
                          have y4 : sZ_127 (ct + 1) = 0 := by rw [k1, iU_n (by omega)]; exact y1
                          have y5 : sZ_127 (ct + 2) = 0 := by rw [k1, iU_n (by omega)]; exact y2
                          refine g_aload_n hC dX2_apart_130 rfl 0 rfl ?_
                          refine g_aload_n hC dX2_apart_131 rfl 0 rfl ?_
                          refine m_get_count hC dX2_apart_132 ?_
                          refine g_iload hC dX2_apart_135 5 rfl ?_
                          refine g_iload hC dX2_apart_137 4 rfl ?_
                          refine g_iload_n hC dX2_apart_139 rfl 2 rfl ?_
                          refine g_ineg hC dX2_apart_140 ?_
                          refine m_callV hC gi_M_compare q254 (met_M_compare _ _ o _ _ _ _ _ _ _ _ ct (pair % 8) (pair / 8) (-gap) (by omega) (by omega)) (by decide) rfl rfl (Nat.le_of_ble_eq_true rfl) dX2_apart_141 (fun u h141 => ?_)
                          obtain ⟨sZ_141, lf_141, rt_141, bd_141⟩ := u
                          show gW k (wM o (sZ_141, lf_141, rt_141, bd_141, n, pl, dr, ct)) 144 [(0, Value.ref (o.2.1)), (1, vI pair), (2, vI gap), (3, vI span), (4, vI (pair / 8)), (5, vI (pair % 8)), (6, vI c)] []
                          obtain ⟨l1, l2, l3, l4⟩ := h141
                          rw [y3] at l1 l2 l3 l4
                          have y6 : sZ_141 (ct + 1) = 0 := by rw [l1, iU_n (by omega)]; exact y4
                          have y7 : sZ_141 (ct + 2) = 0 := by rw [l1, iU_n (by omega)]; exact y5
                          refine g_aload_n hC dX2_apart_144 rfl 0 rfl ?_
                          refine g_aload_n hC dX2_apart_145 rfl 0 rfl ?_
                          refine m_get_count hC dX2_apart_146 ?_
                          refine g_iconst hC dX2_apart_149 ?_
                          refine g_iadd hC dX2_apart_150 ?_
                          refine g_iload hC dX2_apart_151 4 rfl ?_
                          refine g_iload hC dX2_apart_153 5 rfl ?_
                          refine g_iload_n hC dX2_apart_155 rfl 3 rfl ?_
                          refine m_callV hC gi_M_compare q254 (met_M_compare _ _ o _ _ _ _ _ _ _ _ (ct + 1) (pair / 8) (pair % 8) span (by omega) (by omega)) (by decide) rfl rfl (Nat.le_of_ble_eq_true rfl) dX2_apart_156 (fun u h156 => ?_)
                          obtain ⟨sZ_156, lf_156, rt_156, bd_156⟩ := u
                          show gW k (wM o (sZ_156, lf_156, rt_156, bd_156, n, pl, dr, ct)) 159 [(0, Value.ref (o.2.1)), (1, vI pair), (2, vI gap), (3, vI span), (4, vI (pair / 8)), (5, vI (pair % 8)), (6, vI c)] []
                          obtain ⟨m1, m2, m3, m4⟩ := h156
                          rw [y6] at m1 m2 m3 m4
                          have y8 : sZ_156 (ct + 2) = 0 := by rw [m1, iU_n (by omega)]; exact y7
                          refine g_aload_n hC dX2_apart_159 rfl 0 rfl ?_
                          refine g_aload_n hC dX2_apart_160 rfl 0 rfl ?_
                          refine m_get_count hC dX2_apart_161 ?_
                          refine g_iconst hC dX2_apart_164 ?_
                          refine g_iadd hC dX2_apart_165 ?_
                          refine g_iload hC dX2_apart_166 5 rfl ?_
                          refine g_iload hC dX2_apart_168 4 rfl ?_
                          refine g_iload_n hC dX2_apart_170 rfl 3 rfl ?_
                          refine m_callV hC gi_M_compare q254 (met_M_compare _ _ o _ _ _ _ _ _ _ _ (ct + 2) (pair % 8) (pair / 8) span (by omega) (by omega)) (by decide) rfl rfl (Nat.le_of_ble_eq_true rfl) dX2_apart_171 (fun u h171 => ?_)
                          obtain ⟨sZ_171, lf_171, rt_171, bd_171⟩ := u
                          show gW k (wM o (sZ_171, lf_171, rt_171, bd_171, n, pl, dr, ct)) 174 [(0, Value.ref (o.2.1)), (1, vI pair), (2, vI gap), (3, vI span), (4, vI (pair / 8)), (5, vI (pair % 8)), (6, vI c)] []
                          obtain ⟨n1, n2, n3, n4⟩ := h171
                          rw [y8] at n1 n2 n3 n4
                          refine g_aload_n hC dX2_apart_174 rfl 0 rfl ?_
                          refine g_dup hC rfl dX2_apart_175 ?_
                          refine m_get_count hC dX2_apart_176 ?_
                          refine g_iconst hC dX2_apart_179 ?_
                          refine g_iadd hC dX2_apart_180 ?_
                          refine m_put_count hC dX2_apart_181 ?_
                          refine g_aload_n hC dX2_apart_184 rfl 0 rfl ?_
                          refine m_get_count hC dX2_apart_185 ?_
                          exact hret _ _ (ct + 3) (sZ_171, lf_171, rt_171, bd_171, (ct + 3)) dX2_apart_188 (rfl) (by omega) (⟨by unfold apZ; (repeat' split) <;> omega, Or.inr ⟨by omega, by omega, apS_of (by omega) (by omega) (by omega) (by omega) (by omega) (fun x hx => by rw [i0 x, if_neg (by omega)]) y0 y1 y2 k1 k2 k3 k4 l1 l2 l3 l4 m1 m2 m3 m4 n1 n2 n3 n4⟩⟩)
                        · refine g_aload_n hC dX2_apart_102 rfl 0 rfl ?_
                          refine m_get_sizes hC dX2_apart_103 ?_
                          refine g_iload hC dX2_apart_106 6 rfl ?_
                          refine g_iconst hC dX2_apart_108 ?_
                          refine m_st_sizes hC (by omega) dX2_apart_109 (fun sZ_109 esZ_109 => ?_)
                          refine g_iinc hC [(6, vI (c + 1)), (0, Value.ref (o.2.1)), (1, vI pair), (2, vI gap), (3, vI span), (4, vI (pair / 8)), (5, vI (pair % 8))] dX2_apart_110 6 rfl (by decide) rfl ?_
                          refine g_goto hC 91 dX2_apart_113 (by decide) ?_
                          refine g_lv [1, 2, 3, 4, 5, 6, 0] rfl ?_
                          exact ih91 (c + 1) sZ_109 ⟨by omega, by omega⟩ (by omega) (fun x => by rw [esZ_109]; unfold iU; have := i0 x; (repeat' split) <;> first | omega | (rw [this]; (repeat' split) <;> omega))
                    refine g_lv [3, 4, 5, 6, 2, 1, 0] rfl ?_
                    exact loop91 ((ct + 3 - ct : Int) + 1).toNat ct sZ ⟨by omega, by omega⟩ (by omega) (fun x => by rw [if_neg (by omega)])
                  · refine g_bipush hC dX2_apart_82 (by decide) ?_
                    exact hret _ _ (-5) (sZ, lf, rt, bd, ct) dX2_apart_84 (rfl) (by omega) (⟨by unfold apZ; (repeat' split) <;> omega, Or.inl ⟨by omega, rfl, rfl, rfl, rfl, rfl⟩⟩)
                · refine g_bipush hC dX2_apart_71 (by decide) ?_
                  exact hret _ _ (-4) (sZ, lf, rt, bd, ct) dX2_apart_73 (rfl) (by omega) (⟨by unfold apZ; (repeat' split) <;> omega, Or.inl ⟨by omega, rfl, rfl, rfl, rfl, rfl⟩⟩)
            · refine g_bipush hC dX2_apart_58 (by decide) ?_
              exact hret _ _ (-3) (sZ, lf, rt, bd, ct) dX2_apart_60 (rfl) (by omega) (⟨by unfold apZ; (repeat' split) <;> omega, Or.inl ⟨by omega, rfl, rfl, rfl, rfl, rfl⟩⟩)
        · refine g_bipush hC dX2_apart_45 (by decide) ?_
          exact hret _ _ (-2) (sZ, lf, rt, bd, ct) dX2_apart_47 (rfl) (by omega) (⟨by unfold apZ; (repeat' split) <;> omega, Or.inl ⟨by omega, rfl, rfl, rfl, rfl, rfl⟩⟩)
      · refine g_iconst hC dX2_apart_36 ?_
        exact hret _ _ (-1) (sZ, lf, rt, bd, ct) dX2_apart_37 (rfl) (by omega) (⟨by unfold apZ; (repeat' split) <;> omega, Or.inl ⟨by omega, rfl, rfl, rfl, rfl, rfl⟩⟩)
  · refine g_iconst hC dX2_apart_4 ?_
    exact hret _ _ (-1) (sZ, lf, rt, bd, ct) dX2_apart_5 (rfl) (by omega) (⟨by unfold apZ; (repeat' split) <;> omega, Or.inl ⟨by omega, rfl, rfl, rfl, rfl, rfl⟩⟩)
end
section
/-! MODEL: the plans -/
set_option maxRecDepth 100000
theorem gi_M_met : gI yX2_met RX2 cX2_met 6 (some .boolean) 2 := ⟨q300, qs19, q25, q301, by decide, by decide +kernel⟩
set_option maxHeartbeats 4000000 in
theorem met_M_met (l : Launch) (D : va_G) (o : gO) (sZ lf rt bd : Int → Int) (n pl dr ct : Int) (c plan : Int) (hn : 2 ≤ n ∧ n ≤ 4) (hc : 0 ≤ c ∧ c ≤ 8) (hz : 0 ≤ sZ c ∧ sZ c ≤ 3) (hb : ∀ a : Int, 0 ≤ a → a < sZ c → (0 ≤ lf (3 * c + a) ∧ lf (3 * c + a) ≤ n) ∧ (0 ≤ rt (3 * c + a) ∧ rt (3 * c + a) ≤ n) ∧ lf (3 * c + a) ≠ rt (3 * c + a) ∧ (-10 ≤ bd (3 * c + a) ∧ bd (3 * c + a) ≤ 10)) (hp : 0 ≤ plan ∧ plan < 2147483648) : gMetI l yX2_met cX2_met 6 .boolean 1 D [(o.1, .int)] (wM o (sZ, lf, rt, bd, n, pl, dr, ct)) [Value.ref o.2.1, vI c, vI plan] (fun (z : Int) (_ : Unit) => isB z (mt sZ lf rt bd c (tim n plan))) (fun (_ : Unit) => (wM o (sZ, lf, rt, bd, n, pl, dr, ct))) := by
  refine g_metI (by decide) (Nat.le_of_ble_eq_true rfl) ?_
  intro k hC hret
  have hC : gC k cX2_met RX2 [(o.1, .int)] 1 6 := hC
  show gW k (wM o (sZ, lf, rt, bd, n, pl, dr, ct)) 0 [(0, Value.ref (o.2.1)), (1, vI c), (2, vI plan)] []
  refine g_iconst hC dX2_met_0 ?_
  refine g_istore_n hC [(3, vI 0), (0, Value.ref (o.2.1)), (1, vI c), (2, vI plan)] dX2_met_1 rfl (by decide) rfl ?_
  have loop2 : ∀ (N : Nat) (a : Int) (hm2 : 0 ≤ sZ c - a ∧ sZ c - a < (N : Int)) (ha : 0 ≤ a ∧ a ≤ sZ c) (hno : ∀ x : Int, 0 ≤ x → x < a → ¬ (tim n plan (lf (3 * c + x)) - tim n plan (rt (3 * c + x)) ≤ bd (3 * c + x))), gW k (wM o (sZ, lf, rt, bd, n, pl, dr, ct)) 2 [(0, Value.ref (o.2.1)), (1, vI c), (2, vI plan), (3, vI a)] [] := by
    intro N
    induction N with
    | zero =>
      intro a hm2
      exfalso
      omega
    | succ N ih2 =>
      intro a hm2 ha hno
      refine g_iload_n hC dX2_met_2 rfl 3 rfl ?_
      refine g_aload_n hC dX2_met_3 rfl 0 rfl ?_
      refine m_get_sizes hC dX2_met_4 ?_
      refine g_iload_n hC dX2_met_7 rfl 1 rfl ?_
      refine m_ld_sizes hC (by omega) dX2_met_8 ?_
      refine g_icmp_ge hC 77 dX2_met_9 (by decide) (by omega) (by omega) (fun c9 => ?_) (fun c9 => ?_)
      · refine g_iconst hC dX2_met_77 ?_
        exact hret _ _ 0 () dX2_met_78 (rfl) (by omega) (Or.inr ⟨rfl, fun ⟨x, x0, x1, x2⟩ => hno x x0 (by omega) x2⟩)
      · refine g_iload_n hC dX2_met_12 rfl 3 rfl ?_
        refine g_iconst hC dX2_met_13 ?_
        refine g_icmp_ge hC 77 dX2_met_14 (by decide) (by omega) (by omega) (fun c14 => ?_) (fun c14 => ?_)
        · refine g_iconst hC dX2_met_77 ?_
          exact hret _ _ 0 () dX2_met_78 (rfl) (by omega) (Or.inr ⟨rfl, fun ⟨x, x0, x1, x2⟩ => hno x x0 (by omega) x2⟩)
        · have hba := hb a (by omega) (by omega)
          refine g_aload_n hC dX2_met_17 rfl 0 rfl ?_
          refine m_get_left hC dX2_met_18 ?_
          refine g_iconst hC dX2_met_21 ?_
          refine g_iload_n hC dX2_met_22 rfl 1 rfl ?_
          refine g_imul hC dX2_met_23 ?_
          refine g_iload_n hC dX2_met_24 rfl 3 rfl ?_
          refine g_iadd hC dX2_met_25 ?_
          refine m_ld_left hC (by omega) dX2_met_26 ?_
          refine g_istore hC [(4, vI (lf ((3 * c) + a))), (0, Value.ref (o.2.1)), (1, vI c), (2, vI plan), (3, vI a)] dX2_met_27 (by decide) rfl ?_
          refine g_aload_n hC dX2_met_29 rfl 1 rfl ?_
          refine m_get_right hC dX2_met_30 ?_
          refine g_iconst hC dX2_met_33 ?_
          refine g_iload_n hC dX2_met_34 rfl 2 rfl ?_
          refine g_imul hC dX2_met_35 ?_
          refine g_iload_n hC dX2_met_36 rfl 4 rfl ?_
          refine g_iadd hC dX2_met_37 ?_
          refine m_ld_right hC (by omega) dX2_met_38 ?_
          refine g_istore hC [(5, vI (rt ((3 * c) + a))), (4, vI (lf ((3 * c) + a))), (0, Value.ref (o.2.1)), (1, vI c), (2, vI plan), (3, vI a)] dX2_met_39 (by decide) rfl ?_
          refine g_aload_n hC dX2_met_41 rfl 2 rfl ?_
          refine g_iload_n hC dX2_met_42 rfl 4 rfl ?_
          refine g_iload hC dX2_met_43 1 rfl ?_
          refine m_callI hC gi_M_time q302 (met_M_time _ _ o _ _ _ _ _ _ _ _ plan (lf ((3 * c) + a)) (by omega) (by omega) (by omega)) (by decide) rfl rfl (Nat.le_of_ble_eq_true rfl) dX2_met_45 (fun z45 _ rz45 h45 => ?_)
          refine g_aload_n hC dX2_met_48 rfl 2 rfl ?_
          refine g_iload_n hC dX2_met_49 rfl 4 rfl ?_
          refine g_iload hC dX2_met_50 0 rfl ?_
          refine m_callI hC gi_M_time q302 (met_M_time _ _ o _ _ _ _ _ _ _ _ plan (rt ((3 * c) + a)) (by omega) (by omega) (by omega)) (by decide) rfl rfl (Nat.le_of_ble_eq_true rfl) dX2_met_52 (fun z52 _ rz52 h52 => ?_)
          refine g_isub hC dX2_met_55 ?_
          refine g_aload_n hC dX2_met_56 rfl 2 rfl ?_
          refine m_get_bound hC dX2_met_57 ?_
          refine g_iconst hC dX2_met_60 ?_
          refine g_iload_n hC dX2_met_61 rfl 3 rfl ?_
          refine g_imul hC dX2_met_62 ?_
          refine g_iload_n hC dX2_met_63 rfl 5 rfl ?_
          refine g_iadd hC dX2_met_64 ?_
          refine m_ld_bound hC (by omega) dX2_met_65 ?_
          have g1 := tim_rg n plan (lf ((3 * c) + a))
          have g2 := tim_rg n plan (rt ((3 * c) + a))
          refine g_icmp_gt hC 71 dX2_met_66 (by decide) (by omega) (by omega) (fun c66 => ?_) (fun c66 => ?_)
          · refine g_iinc hC [(3, vI (a + 1)), (5, vI (rt ((3 * c) + a))), (4, vI (lf ((3 * c) + a))), (0, Value.ref (o.2.1)), (1, vI c), (2, vI plan)] dX2_met_71 5 rfl (by decide) rfl ?_
            refine g_goto hC 2 dX2_met_74 (by decide) ?_
            refine g_lv [3, 4, 5, 0] rfl ?_
            exact ih2 (a + 1) ⟨by omega, by omega⟩ (by omega) (i_ls hno (by omega))
          · refine g_iconst hC dX2_met_69 ?_
            exact hret _ _ 1 () dX2_met_70 (rfl) (by omega) (Or.inl ⟨rfl, a, by omega, by omega, by omega⟩)
  refine g_lv [1, 2, 3, 0] rfl ?_
  exact loop2 ((sZ c - 0 : Int) + 1).toNat 0 ⟨by omega, by omega⟩ (by omega) (i_l0)
theorem gi_M_meetsFirst : gI yX2_meetsFirst RX2 cX2_meetsFirst 5 (some .boolean) 3 := ⟨q296, qs18, q25, q297, by decide, by decide +kernel⟩
set_option maxHeartbeats 4000000 in
theorem met_M_meetsFirst (l : Launch) (D : va_G) (o : gO) (sZ lf rt bd : Int → Int) (n pl dr ct : Int) (plan many wo : Int) (hok : okC n many sZ lf rt bd) (hw : -1 ≤ wo ∧ wo ≤ 8) (hp : 0 ≤ plan ∧ plan < 2147483648) : gMetI l yX2_meetsFirst cX2_meetsFirst 5 .boolean 2 D [(o.1, .int)] (wM o (sZ, lf, rt, bd, n, pl, dr, ct)) [Value.ref o.2.1, vI plan, vI many, vI wo] (fun (z : Int) (_ : Unit) => isB z (sol many wo sZ lf rt bd (tim n plan))) (fun (_ : Unit) => (wM o (sZ, lf, rt, bd, n, pl, dr, ct))) := by
  refine g_metI (by decide) (Nat.le_of_ble_eq_true rfl) ?_
  intro k hC hret
  have hC : gC k cX2_meetsFirst RX2 [(o.1, .int)] 2 5 := hC
  have hm := hok.2.1
  show gW k (wM o (sZ, lf, rt, bd, n, pl, dr, ct)) 0 [(0, Value.ref (o.2.1)), (1, vI plan), (2, vI many), (3, vI wo)] []
  refine g_iconst hC dX2_meetsFirst_0 ?_
  refine g_istore hC [(4, vI 0), (0, Value.ref (o.2.1)), (1, vI plan), (2, vI many), (3, vI wo)] dX2_meetsFirst_1 (by decide) rfl ?_
  have loop3 : ∀ (N : Nat) (c : Int) (hm3 : 0 ≤ many - c ∧ many - c < (N : Int)) (hc : 0 ≤ c ∧ c ≤ many) (hall : ∀ x : Int, 0 ≤ x → x < c → x ≠ wo → mt sZ lf rt bd x (tim n plan)), gW k (wM o (sZ, lf, rt, bd, n, pl, dr, ct)) 3 [(0, Value.ref (o.2.1)), (1, vI plan), (2, vI many), (3, vI wo), (4, vI c)] [] := by
    intro N
    induction N with
    | zero =>
      intro c hm3
      exfalso
      omega
    | succ N ih3 =>
      intro c hm3 hc hall
      refine g_iload hC dX2_meetsFirst_3 4 rfl ?_
      refine g_iload_n hC dX2_meetsFirst_5 rfl 2 rfl ?_
      refine g_icmp_ge hC 40 dX2_meetsFirst_6 (by decide) (by omega) (by omega) (fun c6 => ?_) (fun c6 => ?_)
      · refine g_iconst hC dX2_meetsFirst_40 ?_
        exact hret _ _ 1 () dX2_meetsFirst_41 (rfl) (by omega) (Or.inl ⟨rfl, fun x x0 x1 x2 => hall x x0 (by omega) x2⟩)
      · refine g_iload hC dX2_meetsFirst_9 4 rfl ?_
        refine g_bipush hC dX2_meetsFirst_11 (by decide) ?_
        refine g_icmp_ge hC 40 dX2_meetsFirst_13 (by decide) (by omega) (by omega) (fun c13 => ?_) (fun c13 => ?_)
        · refine g_iconst hC dX2_meetsFirst_40 ?_
          exact hret _ _ 1 () dX2_meetsFirst_41 (rfl) (by omega) (Or.inl ⟨rfl, fun x x0 x1 x2 => hall x x0 (by omega) x2⟩)
        · refine g_iload hC dX2_meetsFirst_16 4 rfl ?_
          refine g_iload_n hC dX2_meetsFirst_18 rfl 3 rfl ?_
          refine g_icmp_eq hC 34 dX2_meetsFirst_19 (by decide) (by omega) (by omega) (fun c19 => ?_) (fun c19 => ?_)
          · refine g_iinc hC [(4, vI (c + 1)), (0, Value.ref (o.2.1)), (1, vI plan), (2, vI many), (3, vI wo)] dX2_meetsFirst_34 4 rfl (by decide) rfl ?_
            refine g_goto hC 3 dX2_meetsFirst_37 (by decide) ?_
            refine g_lv [1, 2, 3, 4, 0] rfl ?_
            exact ih3 (c + 1) ⟨by omega, by omega⟩ (by omega) (i_ls hall (fun q => absurd c19 q))
          · refine g_aload_n hC dX2_meetsFirst_22 rfl 0 rfl ?_
            refine g_iload hC dX2_meetsFirst_23 4 rfl ?_
            refine g_iload_n hC dX2_meetsFirst_25 rfl 1 rfl ?_
            refine m_callI hC gi_M_met q298 (met_M_met _ _ o _ _ _ _ _ _ _ _ c plan hok.1 (by omega) (by have := (hok.2.2 c (by omega) (by omega)).1; omega) (hok.2.2 c (by omega) (by omega)).2 (by omega)) (by decide) rfl rfl (Nat.le_of_ble_eq_true rfl) dX2_meetsFirst_26 (fun z26 _ rz26 h26 => ?_)
            refine g_if_ne hC 34 dX2_meetsFirst_29 (by decide) (by have := isB_01 h26; omega) (fun c29 => ?_) (fun c29 => ?_)
            · refine g_iinc hC [(4, vI (c + 1)), (0, Value.ref (o.2.1)), (1, vI plan), (2, vI many), (3, vI wo)] dX2_meetsFirst_34 4 rfl (by decide) rfl ?_
              refine g_goto hC 3 dX2_meetsFirst_37 (by decide) ?_
              refine g_lv [1, 2, 3, 4, 0] rfl ?_
              exact ih3 (c + 1) ⟨by omega, by omega⟩ (by omega) (i_ls hall (fun _ => isB_t h26 c29))
            · refine g_iconst hC dX2_meetsFirst_32 ?_
              exact hret _ _ 0 () dX2_meetsFirst_33 (rfl) (by omega) (Or.inr ⟨rfl, fun hs => isB_f h26 (by omega) (hs c (by omega) (by omega) c19)⟩)
  refine g_lv [1, 2, 3, 4, 0] rfl ?_
  exact loop3 ((many - 0 : Int) + 1).toNat 0 ⟨by omega, by omega⟩ (by omega) (i_l0)
theorem gi_M_solution : gI yX2_solution RX2 cX2_solution 2 (some .boolean) 1 := ⟨q316, qs22, q25, q317, by decide, by decide +kernel⟩
set_option maxHeartbeats 4000000 in
theorem met_M_solution (l : Launch) (D : va_G) (o : gO) (sZ lf rt bd : Int → Int) (n pl dr ct : Int) (plan : Int) (hok : okC n ct sZ lf rt bd) (hp : 0 ≤ plan ∧ plan < 2147483648) : gMetI l yX2_solution cX2_solution 2 .boolean 3 D [(o.1, .int)] (wM o (sZ, lf, rt, bd, n, pl, dr, ct)) [Value.ref o.2.1, vI plan] (fun (z : Int) (_ : Unit) => isB z (sol ct (-1) sZ lf rt bd (tim n plan))) (fun (_ : Unit) => (wM o (sZ, lf, rt, bd, n, pl, dr, ct))) := by
  refine g_metI (by decide) (Nat.le_of_ble_eq_true rfl) ?_
  intro k hC hret
  have hC : gC k cX2_solution RX2 [(o.1, .int)] 3 2 := hC
  show gW k (wM o (sZ, lf, rt, bd, n, pl, dr, ct)) 0 [(0, Value.ref (o.2.1)), (1, vI plan)] []
  refine g_aload_n hC dX2_solution_0 rfl 0 rfl ?_
  refine g_iload_n hC dX2_solution_1 rfl 1 rfl ?_
  refine g_aload_n hC dX2_solution_2 rfl 0 rfl ?_
  refine m_get_count hC dX2_solution_3 ?_
  refine g_iconst hC dX2_solution_6 ?_
  refine m_callI hC gi_M_meetsFirst q294 (met_M_meetsFirst _ _ o _ _ _ _ _ _ _ _ plan ct (-1) hok (by decide) hp) (by decide) rfl rfl (Nat.le_of_ble_eq_true rfl) dX2_solution_7 (fun z7 _ rz7 h7 => ?_)
  exact hret _ _ z7 () dX2_solution_10 (nar01 (isB_01 h7)) (by omega) (h7)
theorem gi_M_possible : gI yX2_possible RX2 cX2_possible 3 (some .boolean) 1 := ⟨q292, qs17, q25, q293, by decide, by decide +kernel⟩
set_option maxHeartbeats 4000000 in
theorem met_M_possible (l : Launch) (D : va_G) (o : gO) (sZ lf rt bd : Int → Int) (n pl dr ct : Int) (many : Int) (hok : okC n many sZ lf rt bd) (hpl : pl = p8 n) : gMetI l yX2_possible cX2_possible 3 .boolean 3 D [(o.1, .int)] (wM o (sZ, lf, rt, bd, n, pl, dr, ct)) [Value.ref o.2.1, vI many] (fun (z : Int) (_ : Unit) => isB z (∃ p : Int, dom n many (-1) sZ lf rt bd p)) (fun (_ : Unit) => (wM o (sZ, lf, rt, bd, n, pl, dr, ct))) := by
  refine g_metI (by decide) (Nat.le_of_ble_eq_true rfl) ?_
  intro k hC hret
  have hC : gC k cX2_possible RX2 [(o.1, .int)] 3 3 := hC
  have hm := hok.2.1
  have hp8 := p8n hok.1
  show gW k (wM o (sZ, lf, rt, bd, n, pl, dr, ct)) 0 [(0, Value.ref (o.2.1)), (1, vI many)] []
  refine g_iconst hC dX2_possible_0 ?_
  refine g_istore_n hC [(2, vI 0), (0, Value.ref (o.2.1)), (1, vI many)] dX2_possible_1 rfl (by decide) rfl ?_
  have loop2 : ∀ (N : Nat) (p : Int) (hm2 : 0 ≤ pl - p ∧ pl - p < (N : Int)) (hp0 : 0 ≤ p ∧ p ≤ pl) (hno : ∀ x : Int, 0 ≤ x → x < p → ¬ sol many (-1) sZ lf rt bd (tim n x)), gW k (wM o (sZ, lf, rt, bd, n, pl, dr, ct)) 2 [(0, Value.ref (o.2.1)), (1, vI many), (2, vI p)] [] := by
    intro N
    induction N with
    | zero =>
      intro p hm2
      exfalso
      omega
    | succ N ih2 =>
      intro p hm2 hp0 hno
      refine g_iload_n hC dX2_possible_2 rfl 2 rfl ?_
      refine g_aload_n hC dX2_possible_3 rfl 0 rfl ?_
      refine m_get_plans hC dX2_possible_4 ?_
      refine g_icmp_ge hC 28 dX2_possible_7 (by decide) (by omega) (by omega) (fun c7 => ?_) (fun c7 => ?_)
      · refine g_iconst hC dX2_possible_28 ?_
        exact hret _ _ 0 () dX2_possible_29 (rfl) (by omega) (Or.inr ⟨rfl, fun ⟨x, x0, x1⟩ => hno x x0.1 (by omega) x1⟩)
      · refine g_aload_n hC dX2_possible_10 rfl 0 rfl ?_
        refine g_iload_n hC dX2_possible_11 rfl 2 rfl ?_
        refine g_iload_n hC dX2_possible_12 rfl 1 rfl ?_
        refine g_iconst hC dX2_possible_13 ?_
        refine m_callI hC gi_M_meetsFirst q294 (met_M_meetsFirst _ _ o _ _ _ _ _ _ _ _ p many (-1) hok (by decide) (by omega)) (by decide) rfl rfl (Nat.le_of_ble_eq_true rfl) dX2_possible_14 (fun z14 _ rz14 h14 => ?_)
        refine g_if_eq hC 22 dX2_possible_17 (by decide) (by have := isB_01 h14; omega) (fun c17 => ?_) (fun c17 => ?_)
        · refine g_iinc hC [(2, vI (p + 1)), (0, Value.ref (o.2.1)), (1, vI many)] dX2_possible_22 2 rfl (by decide) rfl ?_
          refine g_goto hC 2 dX2_possible_25 (by decide) ?_
          refine g_lv [1, 2, 0] rfl ?_
          exact ih2 (p + 1) ⟨by omega, by omega⟩ (by omega) (i_ls hno (isB_f h14 c17))
        · refine g_iconst hC dX2_possible_20 ?_
          exact hret _ _ 1 () dX2_possible_21 (rfl) (by omega) (Or.inl ⟨rfl, p, ⟨by omega, by omega⟩, isB_t h14 c17⟩)
  refine g_lv [1, 2, 0] rfl ?_
  exact loop2 ((pl - 0 : Int) + 1).toNat 0 ⟨by omega, by omega⟩ (by omega) (i_l0)
theorem gi_M_solvable : gI yX2_solvable RX2 cX2_solvable 1 (some .int) 0 := ⟨q287, q288, q25, q289, by decide, by decide +kernel⟩
set_option maxHeartbeats 4000000 in
theorem met_M_solvable (l : Launch) (D : va_G) (o : gO) (sZ lf rt bd : Int → Int) (n pl dr ct : Int) (hok : okC n ct sZ lf rt bd) (hpl : pl = p8 n) : gMetI l yX2_solvable cX2_solvable 1 .int 4 D [(o.1, .int)] (wM o (sZ, lf, rt, bd, n, pl, dr, ct)) [Value.ref o.2.1] (fun (z : Int) (_ : Unit) => isB z (∃ p : Int, dom n ct (-1) sZ lf rt bd p)) (fun (_ : Unit) => (wM o (sZ, lf, rt, bd, n, pl, dr, ct))) := by
  refine g_metI (by decide) (Nat.le_of_ble_eq_true rfl) ?_
  intro k hC hret
  have hC : gC k cX2_solvable RX2 [(o.1, .int)] 4 1 := hC
  show gW k (wM o (sZ, lf, rt, bd, n, pl, dr, ct)) 0 [(0, Value.ref (o.2.1))] []
  refine g_aload_n hC dX2_solvable_0 rfl 0 rfl ?_
  refine g_aload_n hC dX2_solvable_1 rfl 0 rfl ?_
  refine m_get_count hC dX2_solvable_2 ?_
  refine m_callI hC gi_M_possible q290 (met_M_possible _ _ o _ _ _ _ _ _ _ _ ct hok hpl) (by decide) rfl rfl (Nat.le_of_ble_eq_true rfl) dX2_solvable_5 (fun z5 _ rz5 h5 => ?_)
  refine g_if_eq hC 15 dX2_solvable_8 (by decide) (by have := isB_01 h5; omega) (fun c8 => ?_) (fun c8 => ?_)
  · refine g_iconst hC dX2_solvable_15 ?_
    exact hret _ _ 0 () dX2_solvable_16 (rfl) (by omega) (isB_0 h5 c8)
  · refine g_iconst hC dX2_solvable_11 ?_
    refine g_goto hC 16 dX2_solvable_12 (by decide) ?_
    exact hret _ _ 1 () dX2_solvable_16 (rfl) (by omega) (isB_1 h5 c8)
theorem gi_M_greatest : gI yX2_greatest RX2 cX2_greatest 6 (some .int) 2 := ⟨q312, qs21, q25, q313, by decide, by decide +kernel⟩
set_option maxHeartbeats 4000000 in
theorem met_M_greatest (l : Launch) (D : va_G) (o : gO) (sZ lf rt bd : Int → Int) (n pl dr ct : Int) (i j : Int) (hok : okC n ct sZ lf rt bd) (hpl : pl = p8 n) (hi : 0 ≤ i ∧ i ≤ n) (hj : 0 ≤ j ∧ j ≤ n) : gMetI l yX2_greatest cX2_greatest 6 .int 4 D [(o.1, .int)] (wM o (sZ, lf, rt, bd, n, pl, dr, ct)) [Value.ref o.2.1, vI i, vI j] (fun (z : Int) (_ : Unit) => mxP (fun p => tim n p i - tim n p j) (fun p => sol ct (-1) sZ lf rt bd (tim n p)) (p8 n) z) (fun (_ : Unit) => (wM o (sZ, lf, rt, bd, n, pl, dr, ct))) := by
  refine g_metI (by decide) (Nat.le_of_ble_eq_true rfl) ?_
  intro k hC hret
  have hC : gC k cX2_greatest RX2 [(o.1, .int)] 4 6 := hC
  have hp8 := p8n hok.1
  have hn := hok.1
  show gW k (wM o (sZ, lf, rt, bd, n, pl, dr, ct)) 0 [(0, Value.ref (o.2.1)), (1, vI i), (2, vI j)] []
  refine g_sipush hC dX2_greatest_0 (by decide) ?_
  refine g_istore_n hC [(3, vI (-200)), (0, Value.ref (o.2.1)), (1, vI i), (2, vI j)] dX2_greatest_3 rfl (by decide) rfl ?_
  refine g_iconst hC dX2_greatest_4 ?_
  refine g_istore hC [(4, vI 0), (3, vI (-200)), (0, Value.ref (o.2.1)), (1, vI i), (2, vI j)] dX2_greatest_5 (by decide) rfl ?_
  have loop7 : ∀ (N : Nat) (most : Int) (p : Int) (hm7 : 0 ≤ pl - p ∧ pl - p < (N : Int)) (hp0 : 0 ≤ p ∧ p ≤ pl) (hmx : mxP (fun p => tim n p i - tim n p j) (fun p => sol ct (-1) sZ lf rt bd (tim n p)) p most), gW k (wM o (sZ, lf, rt, bd, n, pl, dr, ct)) 7 [(0, Value.ref (o.2.1)), (1, vI i), (2, vI j), (3, vI most), (4, vI p)] [] := by
    intro N
    induction N with
    | zero =>
      intro most p hm7
      exfalso
      omega
    | succ N ih7 =>
      intro most p hm7 hp0 hmx
      refine g_iload hC dX2_greatest_7 4 rfl ?_
      refine g_aload_n hC dX2_greatest_9 rfl 0 rfl ?_
      refine m_get_plans hC dX2_greatest_10 ?_
      refine g_icmp_ge hC 57 dX2_greatest_13 (by decide) (by omega) (by omega) (fun c13 => ?_) (fun c13 => ?_)
      · have g3 := mxP_rg hmx
        refine g_iload_n hC dX2_greatest_57 rfl 3 rfl ?_
        exact hret _ _ most () dX2_greatest_58 (rfl) (by omega) (by have e1 : p = p8 n := (by omega); rw [e1] at hmx; exact hmx)
      · have g1 := tim_rg n p i
        have g2 := tim_rg n p j
        have g3 := mxP_rg hmx
        refine g_aload_n hC dX2_greatest_16 rfl 0 rfl ?_
        refine g_iload hC dX2_greatest_17 4 rfl ?_
        refine g_iload_n hC dX2_greatest_19 rfl 1 rfl ?_
        refine m_callI hC gi_M_time q302 (met_M_time _ _ o _ _ _ _ _ _ _ _ p i (by omega) (by omega) (by omega)) (by decide) rfl rfl (Nat.le_of_ble_eq_true rfl) dX2_greatest_20 (fun z20 _ rz20 h20 => ?_)
        refine g_aload_n hC dX2_greatest_23 rfl 0 rfl ?_
        refine g_iload hC dX2_greatest_24 4 rfl ?_
        refine g_iload_n hC dX2_greatest_26 rfl 2 rfl ?_
        refine m_callI hC gi_M_time q302 (met_M_time _ _ o _ _ _ _ _ _ _ _ p j (by omega) (by omega) (by omega)) (by decide) rfl rfl (Nat.le_of_ble_eq_true rfl) dX2_greatest_27 (fun z27 _ rz27 h27 => ?_)
        refine g_isub hC dX2_greatest_30 ?_
        refine g_istore hC [(5, vI (z20 - z27)), (0, Value.ref (o.2.1)), (1, vI i), (2, vI j), (3, vI most), (4, vI p)] dX2_greatest_31 (by decide) rfl ?_
        refine g_iload hC dX2_greatest_33 0 rfl ?_
        refine g_iload_n hC dX2_greatest_35 rfl 4 rfl ?_
        refine g_icmp_le hC 51 dX2_greatest_36 (by decide) (by omega) (by omega) (fun c36 => ?_) (fun c36 => ?_)
        · refine g_iinc hC [(4, vI (p + 1)), (5, vI (z20 - z27)), (0, Value.ref (o.2.1)), (1, vI i), (2, vI j), (3, vI most)] dX2_greatest_51 5 rfl (by decide) rfl ?_
          refine g_goto hC 7 dX2_greatest_54 (by decide) ?_
          refine g_lv [2, 3, 4, 5, 0] rfl ?_
          exact ih7 most (p + 1) ⟨by omega, by omega⟩ (by omega) (mx_le hmx (show -7 ≤ tim n p i - tim n p j by omega) (show tim n p i - tim n p j ≤ most by omega))
        · refine g_aload_n hC dX2_greatest_39 rfl 1 rfl ?_
          refine g_iload hC dX2_greatest_40 5 rfl ?_
          refine m_callI hC gi_M_solution q314 (met_M_solution _ _ o _ _ _ _ _ _ _ _ p hok (by omega)) (by decide) rfl rfl (Nat.le_of_ble_eq_true rfl) dX2_greatest_42 (fun z42 _ rz42 h42 => ?_)
          refine g_if_eq hC 51 dX2_greatest_45 (by decide) (by have := isB_01 h42; omega) (fun c45 => ?_) (fun c45 => ?_)
          · refine g_iinc hC [(4, vI (p + 1)), (5, vI (z20 - z27)), (0, Value.ref (o.2.1)), (1, vI i), (2, vI j), (3, vI most)] dX2_greatest_51 5 rfl (by decide) rfl ?_
            refine g_goto hC 7 dX2_greatest_54 (by decide) ?_
            refine g_lv [2, 3, 4, 5, 0] rfl ?_
            exact ih7 most (p + 1) ⟨by omega, by omega⟩ (by omega) (mx_no hmx (isB_f h42 c45))
          · refine g_iload hC dX2_greatest_48 0 rfl ?_
            refine g_istore_n hC [(3, vI (z20 - z27)), (5, vI (z20 - z27)), (0, Value.ref (o.2.1)), (1, vI i), (2, vI j), (4, vI p)] dX2_greatest_50 rfl (by decide) rfl ?_
            refine g_iinc hC [(4, vI (p + 1)), (3, vI (z20 - z27)), (5, vI (z20 - z27)), (0, Value.ref (o.2.1)), (1, vI i), (2, vI j)] dX2_greatest_51 5 rfl (by decide) rfl ?_
            refine g_goto hC 7 dX2_greatest_54 (by decide) ?_
            refine g_lv [3, 4, 5, 1, 0] rfl ?_
            exact ih7 (z20 - z27) (p + 1) ⟨by omega, by omega⟩ (by omega) (mx_new hmx hp0.1 (isB_t h42 c45) (show _ = tim n p i - tim n p j by omega) (by omega) (by omega))
  refine g_lv [2, 3, 4, 1, 0] rfl ?_
  exact loop7 ((pl - 0 : Int) + 1).toNat (-200) 0 ⟨by omega, by omega⟩ (by omega) (Or.inl ⟨rfl, i_l0⟩)
theorem gi_M_earliest : gI yX2_earliest RX2 cX2_earliest 3 (some .int) 1 := ⟨q307, q308, q25, q309, by decide, by decide +kernel⟩
set_option maxHeartbeats 4000000 in
theorem met_M_earliest (l : Launch) (D : va_G) (o : gO) (sZ lf rt bd : Int → Int) (n pl dr ct : Int) (ev : Int) (hok : okC n ct sZ lf rt bd) (hpl : pl = p8 n) (he : -2147483648 ≤ ev ∧ ev < 2147483648) : gMetI l yX2_earliest cX2_earliest 3 .int 5 D [(o.1, .int)] (wM o (sZ, lf, rt, bd, n, pl, dr, ct)) [Value.ref o.2.1, vI ev] (fun (z : Int) (_ : Unit) => (z = -1 ∧ ¬ (0 ≤ ev ∧ ev < n)) ∨ ((0 ≤ ev ∧ ev < n) ∧ ∃ y : Int, mxP (fun p => tim n p n - tim n p ev) (fun p => sol ct (-1) sZ lf rt bd (tim n p)) (p8 n) y ∧ z = if y = -200 then -2 else -y)) (fun (_ : Unit) => (wM o (sZ, lf, rt, bd, n, pl, dr, ct))) := by
  refine g_metI (by decide) (Nat.le_of_ble_eq_true rfl) ?_
  intro k hC hret
  have hC : gC k cX2_earliest RX2 [(o.1, .int)] 5 3 := hC
  have hn := hok.1
  show gW k (wM o (sZ, lf, rt, bd, n, pl, dr, ct)) 0 [(0, Value.ref (o.2.1)), (1, vI ev)] []
  refine g_aload_n hC dX2_earliest_0 rfl 0 rfl ?_
  refine g_iload_n hC dX2_earliest_1 rfl 1 rfl ?_
  refine m_callI hC gi_M_badEvent q274 (met_M_badEvent _ _ o _ _ _ _ _ _ _ _ ev (by omega) (by omega)) (by decide) rfl rfl (Nat.le_of_ble_eq_true rfl) dX2_earliest_2 (fun z2 _ rz2 h2 => ?_)
  have b2 : (z2 = 1 ∧ (ev < 0 ∨ n ≤ ev)) ∨ (z2 = 0 ∧ ¬ (ev < 0 ∨ n ≤ ev)) := h2
  refine g_if_eq hC 10 dX2_earliest_5 (by decide) (by omega) (fun c5 => ?_) (fun c5 => ?_)
  · refine g_aload_n hC dX2_earliest_10 rfl 0 rfl ?_
    refine g_aload_n hC dX2_earliest_11 rfl 0 rfl ?_
    refine m_get_n hC dX2_earliest_12 ?_
    refine g_iload_n hC dX2_earliest_15 rfl 1 rfl ?_
    refine m_callI hC gi_M_greatest q310 (met_M_greatest _ _ o _ _ _ _ _ _ _ _ n ev hok hpl (by omega) (by omega)) (by decide) rfl rfl (Nat.le_of_ble_eq_true rfl) dX2_earliest_16 (fun z16 _ rz16 h16 => ?_)
    have g3 := mxP_rg h16
    refine g_istore_n hC [(2, vI z16), (0, Value.ref (o.2.1)), (1, vI ev)] dX2_earliest_19 rfl (by decide) rfl ?_
    refine g_iload_n hC dX2_earliest_20 rfl 0 rfl ?_
    refine g_sipush hC dX2_earliest_21 (by decide) ?_
    refine g_icmp_ne hC 32 dX2_earliest_24 (by decide) (by omega) (by omega) (fun c24 => ?_) (fun c24 => ?_)
    · refine g_iload_n hC dX2_earliest_32 rfl 0 rfl ?_
      refine g_ineg hC dX2_earliest_33 ?_
      exact hret _ _ (-z16) () dX2_earliest_34 (rfl) (by omega) (Or.inr ⟨by omega, z16, h16, by rw [if_neg (by omega)]⟩)
    · refine g_bipush hC dX2_earliest_27 (by decide) ?_
      refine g_goto hC 34 dX2_earliest_29 (by decide) ?_
      exact hret _ _ (-2) () dX2_earliest_34 (rfl) (by omega) (Or.inr ⟨by omega, z16, h16, by rw [if_pos (by omega)]⟩)
  · refine g_iconst hC dX2_earliest_8 ?_
    exact hret _ _ (-1) () dX2_earliest_9 (rfl) (by omega) (Or.inl ⟨rfl, by omega⟩)
theorem gi_M_latest : gI yX2_latest RX2 cX2_latest 3 (some .int) 1 := ⟨q319, q320, q25, q321, by decide, by decide +kernel⟩
set_option maxHeartbeats 4000000 in
theorem met_M_latest (l : Launch) (D : va_G) (o : gO) (sZ lf rt bd : Int → Int) (n pl dr ct : Int) (ev : Int) (hok : okC n ct sZ lf rt bd) (hpl : pl = p8 n) (he : -2147483648 ≤ ev ∧ ev < 2147483648) : gMetI l yX2_latest cX2_latest 3 .int 5 D [(o.1, .int)] (wM o (sZ, lf, rt, bd, n, pl, dr, ct)) [Value.ref o.2.1, vI ev] (fun (z : Int) (_ : Unit) => (z = -1 ∧ ¬ (0 ≤ ev ∧ ev < n)) ∨ ((0 ≤ ev ∧ ev < n) ∧ ∃ y : Int, mxP (fun p => tim n p ev - tim n p n) (fun p => sol ct (-1) sZ lf rt bd (tim n p)) (p8 n) y ∧ z = if y = -200 then -2 else y)) (fun (_ : Unit) => (wM o (sZ, lf, rt, bd, n, pl, dr, ct))) := by
  refine g_metI (by decide) (Nat.le_of_ble_eq_true rfl) ?_
  intro k hC hret
  have hC : gC k cX2_latest RX2 [(o.1, .int)] 5 3 := hC
  have hn := hok.1
  show gW k (wM o (sZ, lf, rt, bd, n, pl, dr, ct)) 0 [(0, Value.ref (o.2.1)), (1, vI ev)] []
  refine g_aload_n hC dX2_latest_0 rfl 0 rfl ?_
  refine g_iload_n hC dX2_latest_1 rfl 1 rfl ?_
  refine m_callI hC gi_M_badEvent q274 (met_M_badEvent _ _ o _ _ _ _ _ _ _ _ ev (by omega) (by omega)) (by decide) rfl rfl (Nat.le_of_ble_eq_true rfl) dX2_latest_2 (fun z2 _ rz2 h2 => ?_)
  have b2 : (z2 = 1 ∧ (ev < 0 ∨ n ≤ ev)) ∨ (z2 = 0 ∧ ¬ (ev < 0 ∨ n ≤ ev)) := h2
  refine g_if_eq hC 10 dX2_latest_5 (by decide) (by omega) (fun c5 => ?_) (fun c5 => ?_)
  · refine g_aload_n hC dX2_latest_10 rfl 0 rfl ?_
    refine g_iload_n hC dX2_latest_11 rfl 1 rfl ?_
    refine g_aload_n hC dX2_latest_12 rfl 0 rfl ?_
    refine m_get_n hC dX2_latest_13 ?_
    refine m_callI hC gi_M_greatest q310 (met_M_greatest _ _ o _ _ _ _ _ _ _ _ ev n hok hpl (by omega) (by omega)) (by decide) rfl rfl (Nat.le_of_ble_eq_true rfl) dX2_latest_16 (fun z16 _ rz16 h16 => ?_)
    have g3 := mxP_rg h16
    refine g_istore_n hC [(2, vI z16), (0, Value.ref (o.2.1)), (1, vI ev)] dX2_latest_19 rfl (by decide) rfl ?_
    refine g_iload_n hC dX2_latest_20 rfl 0 rfl ?_
    refine g_sipush hC dX2_latest_21 (by decide) ?_
    refine g_icmp_ne hC 32 dX2_latest_24 (by decide) (by omega) (by omega) (fun c24 => ?_) (fun c24 => ?_)
    · refine g_iload_n hC dX2_latest_32 rfl 0 rfl ?_
      exact hret _ _ z16 () dX2_latest_33 (rfl) (by omega) (Or.inr ⟨by omega, z16, h16, by rw [if_neg (by omega)]⟩)
    · refine g_bipush hC dX2_latest_27 (by decide) ?_
      refine g_goto hC 33 dX2_latest_29 (by decide) ?_
      exact hret _ _ (-2) () dX2_latest_33 (rfl) (by omega) (Or.inr ⟨by omega, z16, h16, by rw [if_pos (by omega)]⟩)
  · refine g_iconst hC dX2_latest_8 ?_
    exact hret _ _ (-1) () dX2_latest_9 (rfl) (by omega) (Or.inl ⟨rfl, by omega⟩)
theorem gi_M_widest : gI yX2_widest RX2 cX2_widest 3 (some .int) 2 := ⟨q323, q324, q25, q325, by decide, by decide +kernel⟩
set_option maxHeartbeats 4000000 in
theorem met_M_widest (l : Launch) (D : va_G) (o : gO) (sZ lf rt bd : Int → Int) (n pl dr ct : Int) (i j : Int) (hok : okC n ct sZ lf rt bd) (hpl : pl = p8 n) (hi : -2147483648 ≤ i ∧ i < 2147483648) (hj : -2147483648 ≤ j ∧ j < 2147483648) : gMetI l yX2_widest cX2_widest 3 .int 5 D [(o.1, .int)] (wM o (sZ, lf, rt, bd, n, pl, dr, ct)) [Value.ref o.2.1, vI i, vI j] (fun (z : Int) (_ : Unit) => (z = -100 ∧ (i < 0 ∨ n < i ∨ j < 0 ∨ n < j)) ∨ ((0 ≤ i ∧ i ≤ n ∧ 0 ≤ j ∧ j ≤ n) ∧ mxP (fun p => tim n p i - tim n p j) (fun p => sol ct (-1) sZ lf rt bd (tim n p)) (p8 n) z)) (fun (_ : Unit) => (wM o (sZ, lf, rt, bd, n, pl, dr, ct))) := by
  refine g_metI (by decide) (Nat.le_of_ble_eq_true rfl) ?_
  intro k hC hret
  have hC : gC k cX2_widest RX2 [(o.1, .int)] 5 3 := hC
  have hn := hok.1
  show gW k (wM o (sZ, lf, rt, bd, n, pl, dr, ct)) 0 [(0, Value.ref (o.2.1)), (1, vI i), (2, vI j)] []
  refine g_aload_n hC dX2_widest_0 rfl 0 rfl ?_
  refine g_iload_n hC dX2_widest_1 rfl 1 rfl ?_
  refine m_callI hC gi_M_badPoint q250 (met_M_badPoint _ _ o _ _ _ _ _ _ _ _ i (by omega) (by omega)) (by decide) rfl rfl (Nat.le_of_ble_eq_true rfl) dX2_widest_2 (fun z2 _ rz2 h2 => ?_)
  have b2 : (z2 = 1 ∧ (i < 0 ∨ n < i)) ∨ (z2 = 0 ∧ ¬ (i < 0 ∨ n < i)) := h2
  refine g_if_ne hC 16 dX2_widest_5 (by decide) (by omega) (fun c5 => ?_) (fun c5 => ?_)
  · refine g_bipush hC dX2_widest_16 (by decide) ?_
    refine g_goto hC 27 dX2_widest_18 (by decide) ?_
    exact hret _ _ (-100) () dX2_widest_27 (rfl) (by omega) (Or.inl ⟨rfl, by omega⟩)
  · refine g_aload_n hC dX2_widest_8 rfl 0 rfl ?_
    refine g_iload_n hC dX2_widest_9 rfl 2 rfl ?_
    refine m_callI hC gi_M_badPoint q250 (met_M_badPoint _ _ o _ _ _ _ _ _ _ _ j (by omega) (by omega)) (by decide) rfl rfl (Nat.le_of_ble_eq_true rfl) dX2_widest_10 (fun z10 _ rz10 h10 => ?_)
    have b10 : (z10 = 1 ∧ (j < 0 ∨ n < j)) ∨ (z10 = 0 ∧ ¬ (j < 0 ∨ n < j)) := h10
    refine g_if_eq hC 21 dX2_widest_13 (by decide) (by omega) (fun c13 => ?_) (fun c13 => ?_)
    · refine g_aload_n hC dX2_widest_21 rfl 0 rfl ?_
      refine g_iload_n hC dX2_widest_22 rfl 1 rfl ?_
      refine g_iload_n hC dX2_widest_23 rfl 2 rfl ?_
      refine m_callI hC gi_M_greatest q310 (met_M_greatest _ _ o _ _ _ _ _ _ _ _ i j hok hpl (by omega) (by omega)) (by decide) rfl rfl (Nat.le_of_ble_eq_true rfl) dX2_widest_24 (fun z24 _ rz24 h24 => ?_)
      exact hret _ _ z24 () dX2_widest_27 (rfl) (by omega) (Or.inr ⟨by omega, h24⟩)
    · refine g_bipush hC dX2_widest_16 (by decide) ?_
      refine g_goto hC 27 dX2_widest_18 (by decide) ?_
      exact hret _ _ (-100) () dX2_widest_27 (rfl) (by omega) (Or.inl ⟨rfl, by omega⟩)
end
section
/-! MODEL: the plans, 2 -/
set_option maxRecDepth 100000
theorem gi_M_next : gI yX2_next RX2 cX2_next 3 (some .int) 1 := ⟨q327, q328, q25, q329, by decide, by decide +kernel⟩
set_option maxHeartbeats 4000000 in
theorem met_M_next (l : Launch) (D : va_G) (o : gO) (sZ lf rt bd : Int → Int) (n pl dr ct : Int) (aft : Int) (hok : okC n ct sZ lf rt bd) (hpl : pl = p8 n) (ha : -2147483648 ≤ aft ∧ aft < 2147483648) : gMetI l yX2_next cX2_next 3 .int 4 D [(o.1, .int)] (wM o (sZ, lf, rt, bd, n, pl, dr, ct)) [Value.ref o.2.1, vI aft] (fun (z : Int) (_ : Unit) => leS (fun p => aft < p ∧ dom n ct (-1) sZ lf rt bd p) z) (fun (_ : Unit) => (wM o (sZ, lf, rt, bd, n, pl, dr, ct))) := by
  refine g_metI (by decide) (Nat.le_of_ble_eq_true rfl) ?_
  intro k hC hret
  have hC : gC k cX2_next RX2 [(o.1, .int)] 4 3 := hC
  have hp8 := p8n hok.1
  show gW k (wM o (sZ, lf, rt, bd, n, pl, dr, ct)) 0 [(0, Value.ref (o.2.1)), (1, vI aft)] []
  refine g_iconst hC dX2_next_0 ?_
  refine g_istore_n hC [(2, vI 0), (0, Value.ref (o.2.1)), (1, vI aft)] dX2_next_1 rfl (by decide) rfl ?_
  have loop2 : ∀ (N : Nat) (p : Int) (hm2 : 0 ≤ pl - p ∧ pl - p < (N : Int)) (hp0 : 0 ≤ p ∧ p ≤ pl) (hno : ∀ x : Int, 0 ≤ x → x < p → ¬ (aft < x ∧ sol ct (-1) sZ lf rt bd (tim n x))), gW k (wM o (sZ, lf, rt, bd, n, pl, dr, ct)) 2 [(0, Value.ref (o.2.1)), (1, vI aft), (2, vI p)] [] := by
    intro N
    induction N with
    | zero =>
      intro p hm2
      exfalso
      omega
    | succ N ih2 =>
      intro p hm2 hp0 hno
      refine g_iload_n hC dX2_next_2 rfl 2 rfl ?_
      refine g_aload_n hC dX2_next_3 rfl 0 rfl ?_
      refine m_get_plans hC dX2_next_4 ?_
      refine g_icmp_ge hC 31 dX2_next_7 (by decide) (by omega) (by omega) (fun c7 => ?_) (fun c7 => ?_)
      · refine g_iconst hC dX2_next_31 ?_
        exact hret _ _ (-1) () dX2_next_32 (rfl) (by omega) (Or.inl ⟨rfl, fun x hx => hno x hx.2.1.1 (by have := hx.2.1.2; omega) ⟨hx.1, hx.2.2⟩⟩)
      · refine g_iload_n hC dX2_next_10 rfl 2 rfl ?_
        refine g_iload_n hC dX2_next_11 rfl 1 rfl ?_
        refine g_icmp_le hC 25 dX2_next_12 (by decide) (by omega) (by omega) (fun c12 => ?_) (fun c12 => ?_)
        · refine g_iinc hC [(2, vI (p + 1)), (0, Value.ref (o.2.1)), (1, vI aft)] dX2_next_25 2 rfl (by decide) rfl ?_
          refine g_goto hC 2 dX2_next_28 (by decide) ?_
          refine g_lv [1, 2, 0] rfl ?_
          exact ih2 (p + 1) ⟨by omega, by omega⟩ (by omega) (i_ls hno (fun q => absurd q.1 (by omega)))
        · refine g_aload_n hC dX2_next_15 rfl 0 rfl ?_
          refine g_iload_n hC dX2_next_16 rfl 2 rfl ?_
          refine m_callI hC gi_M_solution q314 (met_M_solution _ _ o _ _ _ _ _ _ _ _ p hok (by omega)) (by decide) rfl rfl (Nat.le_of_ble_eq_true rfl) dX2_next_17 (fun z17 _ rz17 h17 => ?_)
          refine g_if_eq hC 25 dX2_next_20 (by decide) (by have := isB_01 h17; omega) (fun c20 => ?_) (fun c20 => ?_)
          · refine g_iinc hC [(2, vI (p + 1)), (0, Value.ref (o.2.1)), (1, vI aft)] dX2_next_25 2 rfl (by decide) rfl ?_
            refine g_goto hC 2 dX2_next_28 (by decide) ?_
            refine g_lv [1, 2, 0] rfl ?_
            exact ih2 (p + 1) ⟨by omega, by omega⟩ (by omega) (i_ls hno (fun q => isB_f h17 c20 q.2))
          · refine g_iload_n hC dX2_next_23 rfl 2 rfl ?_
            exact hret _ _ p () dX2_next_24 (rfl) (by omega) (Or.inr ⟨⟨by omega, ⟨by omega, by omega⟩, isB_t h17 c20⟩, fun x hx => by rcases (show x < p ∨ p ≤ x by omega) with q | q; exact absurd ⟨hx.1, hx.2.2⟩ (hno x hx.2.1.1 q); exact q⟩)
  refine g_lv [1, 2, 0] rfl ?_
  exact loop2 ((pl - 0 : Int) + 1).toNat 0 ⟨by omega, by omega⟩ (by omega) (i_l0)
theorem gi_M_meets : gI yX2_meets RX2 cX2_meets 2 (some .int) 1 := ⟨q331, q332, q25, q333, by decide, by decide +kernel⟩
set_option maxHeartbeats 4000000 in
theorem met_M_meets (l : Launch) (D : va_G) (o : gO) (sZ lf rt bd : Int → Int) (n pl dr ct : Int) (nu : Int) (hok : okC n ct sZ lf rt bd) (hpl : pl = p8 n) (ha : -2147483648 ≤ nu ∧ nu < 2147483648) : gMetI l yX2_meets cX2_meets 2 .int 4 D [(o.1, .int)] (wM o (sZ, lf, rt, bd, n, pl, dr, ct)) [Value.ref o.2.1, vI nu] (fun (z : Int) (_ : Unit) => (z = -1 ∧ ¬ (0 ≤ nu ∧ nu < p8 n)) ∨ ((0 ≤ nu ∧ nu < p8 n) ∧ isB z (sol ct (-1) sZ lf rt bd (tim n nu)))) (fun (_ : Unit) => (wM o (sZ, lf, rt, bd, n, pl, dr, ct))) := by
  refine g_metI (by decide) (Nat.le_of_ble_eq_true rfl) ?_
  intro k hC hret
  have hC : gC k cX2_meets RX2 [(o.1, .int)] 4 2 := hC
  have hp8 := p8n hok.1
  show gW k (wM o (sZ, lf, rt, bd, n, pl, dr, ct)) 0 [(0, Value.ref (o.2.1)), (1, vI nu)] []
  refine g_iload_n hC dX2_meets_0 rfl 1 rfl ?_
  refine g_if_lt hC 12 dX2_meets_1 (by decide) (by omega) (fun c1 => ?_) (fun c1 => ?_)
  · refine g_iconst hC dX2_meets_12 ?_
    exact hret _ _ (-1) () dX2_meets_13 (rfl) (by omega) (Or.inl ⟨rfl, by omega⟩)
  · refine g_iload_n hC dX2_meets_4 rfl 1 rfl ?_
    refine g_aload_n hC dX2_meets_5 rfl 0 rfl ?_
    refine m_get_plans hC dX2_meets_6 ?_
    refine g_icmp_lt hC 14 dX2_meets_9 (by decide) (by omega) (by omega) (fun c9 => ?_) (fun c9 => ?_)
    · refine g_aload_n hC dX2_meets_14 rfl 0 rfl ?_
      refine g_iload_n hC dX2_meets_15 rfl 1 rfl ?_
      refine m_callI hC gi_M_solution q314 (met_M_solution _ _ o _ _ _ _ _ _ _ _ nu hok (by omega)) (by decide) rfl rfl (Nat.le_of_ble_eq_true rfl) dX2_meets_16 (fun z16 _ rz16 h16 => ?_)
      refine g_if_eq hC 26 dX2_meets_19 (by decide) (by have := isB_01 h16; omega) (fun c19 => ?_) (fun c19 => ?_)
      · refine g_iconst hC dX2_meets_26 ?_
        exact hret _ _ 0 () dX2_meets_27 (rfl) (by omega) (Or.inr ⟨by omega, isB_0 h16 c19⟩)
      · refine g_iconst hC dX2_meets_22 ?_
        refine g_goto hC 27 dX2_meets_23 (by decide) ?_
        exact hret _ _ 1 () dX2_meets_27 (rfl) (by omega) (Or.inr ⟨by omega, isB_1 h16 c19⟩)
    · refine g_iconst hC dX2_meets_12 ?_
      exact hret _ _ (-1) () dX2_meets_13 (rfl) (by omega) (Or.inl ⟨rfl, by omega⟩)
theorem gi_M_shortest : gI yX2_shortest RX2 cX2_shortest 5 (some .int) 0 := ⟨q335, q336, q25, q337, by decide, by decide +kernel⟩
set_option maxHeartbeats 4000000 in
theorem met_M_shortest (l : Launch) (D : va_G) (o : gO) (sZ lf rt bd : Int → Int) (n pl dr ct : Int) (hok : okC n ct sZ lf rt bd) (hpl : pl = p8 n) : gMetI l yX2_shortest cX2_shortest 5 .int 4 D [(o.1, .int)] (wM o (sZ, lf, rt, bd, n, pl, dr, ct)) [Value.ref o.2.1] (fun (z : Int) (_ : Unit) => shP n (fun p => sol ct (-1) sZ lf rt bd (tim n p)) (p8 n) z) (fun (_ : Unit) => (wM o (sZ, lf, rt, bd, n, pl, dr, ct))) := by
  refine g_metI (by decide) (Nat.le_of_ble_eq_true rfl) ?_
  intro k hC hret
  have hC : gC k cX2_shortest RX2 [(o.1, .int)] 4 5 := hC
  have hp8 := p8n hok.1
  have hn := hok.1
  show gW k (wM o (sZ, lf, rt, bd, n, pl, dr, ct)) 0 [(0, Value.ref (o.2.1))] []
  refine g_iconst hC dX2_shortest_0 ?_
  refine g_istore_n hC [(1, vI (-1)), (0, Value.ref (o.2.1))] dX2_shortest_1 rfl (by decide) rfl ?_
  refine g_iconst hC dX2_shortest_2 ?_
  refine g_istore_n hC [(2, vI 0), (1, vI (-1)), (0, Value.ref (o.2.1))] dX2_shortest_3 rfl (by decide) rfl ?_
  have loop4 : ∀ (N : Nat) (lst : Int) (p : Int) (hm4 : 0 ≤ pl - p ∧ pl - p < (N : Int)) (hp0 : 0 ≤ p ∧ p ≤ pl) (hsh : shP n (fun p => sol ct (-1) sZ lf rt bd (tim n p)) p lst), gW k (wM o (sZ, lf, rt, bd, n, pl, dr, ct)) 4 [(0, Value.ref (o.2.1)), (1, vI lst), (2, vI p)] [] := by
    intro N
    induction N with
    | zero =>
      intro lst p hm4
      exfalso
      omega
    | succ N ih4 =>
      intro lst p hm4 hp0 hsh
      have g3 := shP_rg hsh
      refine g_iload_n hC dX2_shortest_4 rfl 2 rfl ?_
      refine g_aload_n hC dX2_shortest_5 rfl 0 rfl ?_
      refine m_get_plans hC dX2_shortest_6 ?_
      refine g_icmp_ge hC 76 dX2_shortest_9 (by decide) (by omega) (by omega) (fun c9 => ?_) (fun c9 => ?_)
      · have g3 := shP_rg hsh
        refine g_iload_n hC dX2_shortest_76 rfl 1 rfl ?_
        exact hret _ _ lst () dX2_shortest_77 (rfl) (by omega) (by have e1 : p = p8 n := (by omega); rw [e1] at hsh; exact hsh)
      · refine g_iconst hC dX2_shortest_12 ?_
        refine g_istore_n hC [(3, vI 0), (0, Value.ref (o.2.1)), (1, vI lst), (2, vI p)] dX2_shortest_13 rfl (by decide) rfl ?_
        refine g_iconst hC dX2_shortest_14 ?_
        refine g_istore hC [(4, vI 0), (3, vI 0), (0, Value.ref (o.2.1)), (1, vI lst), (2, vI p)] dX2_shortest_15 (by decide) rfl ?_
        have loop17 : ∀ (N : Nat) (la : Int) (e : Int) (hm17 : 0 ≤ n - e ∧ n - e < (N : Int)) (he : 0 ≤ e ∧ e ≤ n) (hla : laP n p e la), gW k (wM o (sZ, lf, rt, bd, n, pl, dr, ct)) 17 [(0, Value.ref (o.2.1)), (1, vI lst), (2, vI p), (3, vI la), (4, vI e)] [] := by
          intro N
          induction N with
          | zero =>
            intro la e hm17
            exfalso
            omega
          | succ N ih17 =>
            intro la e hm17 he hla
            have g4 := laP_rg hla
            refine g_iload hC dX2_shortest_17 4 rfl ?_
            refine g_aload_n hC dX2_shortest_19 rfl 0 rfl ?_
            refine m_get_n hC dX2_shortest_20 ?_
            refine g_icmp_ge hC 51 dX2_shortest_23 (by decide) (by omega) (by omega) (fun c23 => ?_) (fun c23 => ?_)
            · have e1 : e = n := by omega
              rw [e1] at hla
              refine g_iload_n hC dX2_shortest_51 rfl 1 rfl ?_
              refine g_if_lt hC 60 dX2_shortest_52 (by decide) (by omega) (fun c52 => ?_) (fun c52 => ?_)
              · refine g_aload_n hC dX2_shortest_60 rfl 0 rfl ?_
                refine g_iload_n hC dX2_shortest_61 rfl 2 rfl ?_
                refine m_callI hC gi_M_solution q314 (met_M_solution _ _ o _ _ _ _ _ _ _ _ p hok (by omega)) (by decide) rfl rfl (Nat.le_of_ble_eq_true rfl) dX2_shortest_62 (fun z62 _ rz62 h62 => ?_)
                refine g_if_eq hC 70 dX2_shortest_65 (by decide) (by have := isB_01 h62; omega) (fun c65 => ?_) (fun c65 => ?_)
                · refine g_iinc hC [(2, vI (p + 1)), (0, Value.ref (o.2.1)), (1, vI lst), (3, vI la), (4, vI e)] dX2_shortest_70 2 rfl (by decide) rfl ?_
                  refine g_goto hC 4 dX2_shortest_73 (by decide) ?_
                  refine g_lv [1, 2, 0] rfl ?_
                  exact ih4 lst (p + 1) ⟨by omega, by omega⟩ (by omega) (sh_no hsh (isB_f h62 c65))
                · refine g_iload_n hC dX2_shortest_68 rfl 3 rfl ?_
                  refine g_istore_n hC [(1, vI la), (0, Value.ref (o.2.1)), (2, vI p), (3, vI la), (4, vI e)] dX2_shortest_69 rfl (by decide) rfl ?_
                  refine g_iinc hC [(2, vI (p + 1)), (1, vI la), (0, Value.ref (o.2.1)), (3, vI la), (4, vI e)] dX2_shortest_70 2 rfl (by decide) rfl ?_
                  refine g_goto hC 4 dX2_shortest_73 (by decide) ?_
                  refine g_lv [2, 1, 0] rfl ?_
                  exact ih4 la (p + 1) ⟨by omega, by omega⟩ (by omega) (sh_new hsh hp0.1 (isB_t h62 c65) hla (by omega))
              · refine g_iload_n hC dX2_shortest_55 rfl 3 rfl ?_
                refine g_iload_n hC dX2_shortest_56 rfl 1 rfl ?_
                refine g_icmp_ge hC 70 dX2_shortest_57 (by decide) (by omega) (by omega) (fun c57 => ?_) (fun c57 => ?_)
                · refine g_iinc hC [(2, vI (p + 1)), (0, Value.ref (o.2.1)), (1, vI lst), (3, vI la), (4, vI e)] dX2_shortest_70 2 rfl (by decide) rfl ?_
                  refine g_goto hC 4 dX2_shortest_73 (by decide) ?_
                  refine g_lv [1, 2, 0] rfl ?_
                  exact ih4 lst (p + 1) ⟨by omega, by omega⟩ (by omega) (sh_le hsh hla (by omega))
                · refine g_aload_n hC dX2_shortest_60 rfl 0 rfl ?_
                  refine g_iload_n hC dX2_shortest_61 rfl 2 rfl ?_
                  refine m_callI hC gi_M_solution q314 (met_M_solution _ _ o _ _ _ _ _ _ _ _ p hok (by omega)) (by decide) rfl rfl (Nat.le_of_ble_eq_true rfl) dX2_shortest_62 (fun z62 _ rz62 h62 => ?_)
                  refine g_if_eq hC 70 dX2_shortest_65 (by decide) (by have := isB_01 h62; omega) (fun c65 => ?_) (fun c65 => ?_)
                  · refine g_iinc hC [(2, vI (p + 1)), (0, Value.ref (o.2.1)), (1, vI lst), (3, vI la), (4, vI e)] dX2_shortest_70 2 rfl (by decide) rfl ?_
                    refine g_goto hC 4 dX2_shortest_73 (by decide) ?_
                    refine g_lv [1, 2, 0] rfl ?_
                    exact ih4 lst (p + 1) ⟨by omega, by omega⟩ (by omega) (sh_no hsh (isB_f h62 c65))
                  · refine g_iload_n hC dX2_shortest_68 rfl 3 rfl ?_
                    refine g_istore_n hC [(1, vI la), (0, Value.ref (o.2.1)), (2, vI p), (3, vI la), (4, vI e)] dX2_shortest_69 rfl (by decide) rfl ?_
                    refine g_iinc hC [(2, vI (p + 1)), (1, vI la), (0, Value.ref (o.2.1)), (3, vI la), (4, vI e)] dX2_shortest_70 2 rfl (by decide) rfl ?_
                    refine g_goto hC 4 dX2_shortest_73 (by decide) ?_
                    refine g_lv [2, 1, 0] rfl ?_
                    exact ih4 la (p + 1) ⟨by omega, by omega⟩ (by omega) (sh_new hsh hp0.1 (isB_t h62 c65) hla (by omega))
            · have g5 := tim_rg n p e
              refine g_aload_n hC dX2_shortest_26 rfl 0 rfl ?_
              refine g_iload_n hC dX2_shortest_27 rfl 2 rfl ?_
              refine g_iload hC dX2_shortest_28 4 rfl ?_
              refine m_callI hC gi_M_time q302 (met_M_time _ _ o _ _ _ _ _ _ _ _ p e (by omega) (by omega) (by omega)) (by decide) rfl rfl (Nat.le_of_ble_eq_true rfl) dX2_shortest_30 (fun z30 _ rz30 h30 => ?_)
              refine g_iload_n hC dX2_shortest_33 rfl 3 rfl ?_
              refine g_icmp_le hC 45 dX2_shortest_34 (by decide) (by omega) (by omega) (fun c34 => ?_) (fun c34 => ?_)
              · refine g_iinc hC [(4, vI (e + 1)), (0, Value.ref (o.2.1)), (1, vI lst), (2, vI p), (3, vI la)] dX2_shortest_45 4 rfl (by decide) rfl ?_
                refine g_goto hC 17 dX2_shortest_48 (by decide) ?_
                refine g_lv [1, 2, 3, 4, 0] rfl ?_
                exact ih17 la (e + 1) ⟨by omega, by omega⟩ (by omega) (laP_le hla (by omega))
              · refine g_aload_n hC dX2_shortest_37 rfl 0 rfl ?_
                refine g_iload_n hC dX2_shortest_38 rfl 2 rfl ?_
                refine g_iload hC dX2_shortest_39 4 rfl ?_
                refine m_callI hC gi_M_time q302 (met_M_time _ _ o _ _ _ _ _ _ _ _ p e (by omega) (by omega) (by omega)) (by decide) rfl rfl (Nat.le_of_ble_eq_true rfl) dX2_shortest_41 (fun z41 _ rz41 h41 => ?_)
                refine g_istore_n hC [(3, vI z41), (0, Value.ref (o.2.1)), (1, vI lst), (2, vI p), (4, vI e)] dX2_shortest_44 rfl (by decide) rfl ?_
                refine g_iinc hC [(4, vI (e + 1)), (3, vI z41), (0, Value.ref (o.2.1)), (1, vI lst), (2, vI p)] dX2_shortest_45 4 rfl (by decide) rfl ?_
                refine g_goto hC 17 dX2_shortest_48 (by decide) ?_
                refine g_lv [2, 3, 4, 1, 0] rfl ?_
                exact ih17 z41 (e + 1) ⟨by omega, by omega⟩ (by omega) (laP_gt hla (by omega) (by omega) (by omega))
        refine g_lv [2, 3, 4, 1, 0] rfl ?_
        exact loop17 ((n - 0 : Int) + 1).toNat 0 0 ⟨by omega, by omega⟩ (by omega) (laP_0)
  refine g_lv [2, 1, 0] rfl ?_
  exact loop4 ((pl - 0 : Int) + 1).toNat (-1) 0 ⟨by omega, by omega⟩ (by omega) (Or.inl ⟨rfl, i_l0⟩)
theorem gi_M_entailed : gI yX2_entailed RX2 cX2_entailed 2 (some .int) 0 := ⟨q339, q340, q25, q341, by decide, by decide +kernel⟩
set_option maxHeartbeats 4000000 in
theorem met_M_entailed (l : Launch) (D : va_G) (o : gO) (sZ lf rt bd : Int → Int) (n pl dr ct : Int) (hok : okC n ct sZ lf rt bd) (hpl : pl = p8 n) (hdr : 0 ≤ dr ∧ dr ≤ 3) (hs8 : sZ 8 = dr) (hb : ∀ a : Int, 0 ≤ a → a < sZ 8 → (0 ≤ lf (3 * 8 + a) ∧ lf (3 * 8 + a) ≤ n) ∧ (0 ≤ rt (3 * 8 + a) ∧ rt (3 * 8 + a) ≤ n) ∧ lf (3 * 8 + a) ≠ rt (3 * 8 + a) ∧ (-10 ≤ bd (3 * 8 + a) ∧ bd (3 * 8 + a) ≤ 10)) : gMetI l yX2_entailed cX2_entailed 2 .int 4 D [(o.1, .int)] (wM o (sZ, lf, rt, bd, n, pl, dr, ct)) [Value.ref o.2.1] (fun (z : Int) (_ : Unit) => (z = -1 ∧ dr = 0) ∨ (dr ≠ 0 ∧ isB z (∀ p : Int, dom n ct (-1) sZ lf rt bd p → mt sZ lf rt bd 8 (tim n p)))) (fun (_ : Unit) => (wM o (sZ, lf, rt, bd, n, pl, dr, ct))) := by
  refine g_metI (by decide) (Nat.le_of_ble_eq_true rfl) ?_
  intro k hC hret
  have hC : gC k cX2_entailed RX2 [(o.1, .int)] 4 2 := hC
  have hp8 := p8n hok.1
  show gW k (wM o (sZ, lf, rt, bd, n, pl, dr, ct)) 0 [(0, Value.ref (o.2.1))] []
  refine g_aload_n hC dX2_entailed_0 rfl 0 rfl ?_
  refine m_get_drafted hC dX2_entailed_1 ?_
  refine g_if_ne hC 9 dX2_entailed_4 (by decide) (by omega) (fun c4 => ?_) (fun c4 => ?_)
  · refine g_iconst hC dX2_entailed_9 ?_
    refine g_istore_n hC [(1, vI 0), (0, Value.ref (o.2.1))] dX2_entailed_10 rfl (by decide) rfl ?_
    have loop11 : ∀ (N : Nat) (p : Int) (hm11 : 0 ≤ pl - p ∧ pl - p < (N : Int)) (hp0 : 0 ≤ p ∧ p ≤ pl) (hno : ∀ x : Int, 0 ≤ x → x < p → sol ct (-1) sZ lf rt bd (tim n x) → mt sZ lf rt bd 8 (tim n x)), gW k (wM o (sZ, lf, rt, bd, n, pl, dr, ct)) 11 [(0, Value.ref (o.2.1)), (1, vI p)] [] := by
      intro N
      induction N with
      | zero =>
        intro p hm11
        exfalso
        omega
      | succ N ih11 =>
        intro p hm11 hp0 hno
        refine g_iload_n hC dX2_entailed_11 rfl 1 rfl ?_
        refine g_aload_n hC dX2_entailed_12 rfl 0 rfl ?_
        refine m_get_plans hC dX2_entailed_13 ?_
        refine g_icmp_ge hC 45 dX2_entailed_16 (by decide) (by omega) (by omega) (fun c16 => ?_) (fun c16 => ?_)
        · refine g_iconst hC dX2_entailed_45 ?_
          exact hret _ _ 1 () dX2_entailed_46 (rfl) (by omega) (Or.inr ⟨by omega, Or.inl ⟨rfl, fun x hx => hno x hx.1.1 (by have := hx.1.2; omega) hx.2⟩⟩)
        · refine g_aload_n hC dX2_entailed_19 rfl 0 rfl ?_
          refine g_bipush hC dX2_entailed_20 (by decide) ?_
          refine g_iload_n hC dX2_entailed_22 rfl 1 rfl ?_
          refine m_callI hC gi_M_met q298 (met_M_met _ _ o _ _ _ _ _ _ _ _ 8 p hok.1 (by decide) (by omega) hb (by omega)) (by decide) rfl rfl (Nat.le_of_ble_eq_true rfl) dX2_entailed_23 (fun z23 _ rz23 h23 => ?_)
          refine g_if_ne hC 39 dX2_entailed_26 (by decide) (by have := isB_01 h23; omega) (fun c26 => ?_) (fun c26 => ?_)
          · refine g_iinc hC [(1, vI (p + 1)), (0, Value.ref (o.2.1))] dX2_entailed_39 1 rfl (by decide) rfl ?_
            refine g_goto hC 11 dX2_entailed_42 (by decide) ?_
            refine g_lv [1, 0] rfl ?_
            exact ih11 (p + 1) ⟨by omega, by omega⟩ (by omega) (i_ls hno (fun _ => isB_t h23 c26))
          · refine g_aload_n hC dX2_entailed_29 rfl 0 rfl ?_
            refine g_iload_n hC dX2_entailed_30 rfl 1 rfl ?_
            refine m_callI hC gi_M_solution q314 (met_M_solution _ _ o _ _ _ _ _ _ _ _ p hok (by omega)) (by decide) rfl rfl (Nat.le_of_ble_eq_true rfl) dX2_entailed_31 (fun z31 _ rz31 h31 => ?_)
            refine g_if_eq hC 39 dX2_entailed_34 (by decide) (by have := isB_01 h31; omega) (fun c34 => ?_) (fun c34 => ?_)
            · refine g_iinc hC [(1, vI (p + 1)), (0, Value.ref (o.2.1))] dX2_entailed_39 1 rfl (by decide) rfl ?_
              refine g_goto hC 11 dX2_entailed_42 (by decide) ?_
              refine g_lv [1, 0] rfl ?_
              exact ih11 (p + 1) ⟨by omega, by omega⟩ (by omega) (i_ls hno (fun q => absurd q (isB_f h31 c34)))
            · refine g_iconst hC dX2_entailed_37 ?_
              exact hret _ _ 0 () dX2_entailed_38 (rfl) (by omega) (Or.inr ⟨by omega, Or.inr ⟨rfl, fun q => isB_f h23 (by omega) (q p ⟨⟨by omega, by omega⟩, isB_t h31 c34⟩)⟩⟩)
    refine g_lv [1, 0] rfl ?_
    exact loop11 ((pl - 0 : Int) + 1).toNat 0 ⟨by omega, by omega⟩ (by omega) (i_l0)
  · refine g_iconst hC dX2_entailed_7 ?_
    exact hret _ _ (-1) () dX2_entailed_8 (rfl) (by omega) (Or.inl ⟨rfl, by omega⟩)
theorem gi_M_redundant : gI yX2_redundant RX2 cX2_redundant 3 (some .int) 1 := ⟨q343, q344, q25, q345, by decide, by decide +kernel⟩
set_option maxHeartbeats 4000000 in
theorem met_M_redundant (l : Launch) (D : va_G) (o : gO) (sZ lf rt bd : Int → Int) (n pl dr ct : Int) (pos : Int) (hok : okC n ct sZ lf rt bd) (hpl : pl = p8 n) (hp : -2147483648 ≤ pos ∧ pos < 2147483648) : gMetI l yX2_redundant cX2_redundant 3 .int 4 D [(o.1, .int)] (wM o (sZ, lf, rt, bd, n, pl, dr, ct)) [Value.ref o.2.1, vI pos] (fun (z : Int) (_ : Unit) => (z = -1 ∧ ¬ (0 ≤ pos ∧ pos < ct)) ∨ ((0 ≤ pos ∧ pos < ct) ∧ isB z (∀ p : Int, dom n ct pos sZ lf rt bd p → mt sZ lf rt bd pos (tim n p)))) (fun (_ : Unit) => (wM o (sZ, lf, rt, bd, n, pl, dr, ct))) := by
  refine g_metI (by decide) (Nat.le_of_ble_eq_true rfl) ?_
  intro k hC hret
  have hC : gC k cX2_redundant RX2 [(o.1, .int)] 4 3 := hC
  have hp8 := p8n hok.1
  have hct := hok.2.1
  show gW k (wM o (sZ, lf, rt, bd, n, pl, dr, ct)) 0 [(0, Value.ref (o.2.1)), (1, vI pos)] []
  refine g_iload_n hC dX2_redundant_0 rfl 1 rfl ?_
  refine g_if_lt hC 12 dX2_redundant_1 (by decide) (by omega) (fun c1 => ?_) (fun c1 => ?_)
  · refine g_iconst hC dX2_redundant_12 ?_
    exact hret _ _ (-1) () dX2_redundant_13 (rfl) (by omega) (Or.inl ⟨rfl, by omega⟩)
  · refine g_iload_n hC dX2_redundant_4 rfl 1 rfl ?_
    refine g_aload_n hC dX2_redundant_5 rfl 0 rfl ?_
    refine m_get_count hC dX2_redundant_6 ?_
    refine g_icmp_lt hC 14 dX2_redundant_9 (by decide) (by omega) (by omega) (fun c9 => ?_) (fun c9 => ?_)
    · refine g_iconst hC dX2_redundant_14 ?_
      refine g_istore_n hC [(2, vI 0), (0, Value.ref (o.2.1)), (1, vI pos)] dX2_redundant_15 rfl (by decide) rfl ?_
      have loop16 : ∀ (N : Nat) (p : Int) (hm16 : 0 ≤ pl - p ∧ pl - p < (N : Int)) (hp0 : 0 ≤ p ∧ p ≤ pl) (hno : ∀ x : Int, 0 ≤ x → x < p → sol ct pos sZ lf rt bd (tim n x) → mt sZ lf rt bd pos (tim n x)), gW k (wM o (sZ, lf, rt, bd, n, pl, dr, ct)) 16 [(0, Value.ref (o.2.1)), (1, vI pos), (2, vI p)] [] := by
        intro N
        induction N with
        | zero =>
          intro p hm16
          exfalso
          omega
        | succ N ih16 =>
          intro p hm16 hp0 hno
          refine g_iload_n hC dX2_redundant_16 rfl 2 rfl ?_
          refine g_aload_n hC dX2_redundant_17 rfl 0 rfl ?_
          refine m_get_plans hC dX2_redundant_18 ?_
          refine g_icmp_ge hC 54 dX2_redundant_21 (by decide) (by omega) (by omega) (fun c21 => ?_) (fun c21 => ?_)
          · refine g_iconst hC dX2_redundant_54 ?_
            exact hret _ _ 1 () dX2_redundant_55 (rfl) (by omega) (Or.inr ⟨by omega, Or.inl ⟨rfl, fun x hx => hno x hx.1.1 (by have := hx.1.2; omega) hx.2⟩⟩)
          · refine g_aload_n hC dX2_redundant_24 rfl 0 rfl ?_
            refine g_iload_n hC dX2_redundant_25 rfl 1 rfl ?_
            refine g_iload_n hC dX2_redundant_26 rfl 2 rfl ?_
            refine m_callI hC gi_M_met q298 (met_M_met _ _ o _ _ _ _ _ _ _ _ pos p hok.1 (by omega) (by have := (hok.2.2 pos (by omega) (by omega)).1; omega) (hok.2.2 pos (by omega) (by omega)).2 (by omega)) (by decide) rfl rfl (Nat.le_of_ble_eq_true rfl) dX2_redundant_27 (fun z27 _ rz27 h27 => ?_)
            refine g_if_ne hC 48 dX2_redundant_30 (by decide) (by have := isB_01 h27; omega) (fun c30 => ?_) (fun c30 => ?_)
            · refine g_iinc hC [(2, vI (p + 1)), (0, Value.ref (o.2.1)), (1, vI pos)] dX2_redundant_48 2 rfl (by decide) rfl ?_
              refine g_goto hC 16 dX2_redundant_51 (by decide) ?_
              refine g_lv [1, 2, 0] rfl ?_
              exact ih16 (p + 1) ⟨by omega, by omega⟩ (by omega) (i_ls hno (fun _ => isB_t h27 c30))
            · refine g_aload_n hC dX2_redundant_33 rfl 0 rfl ?_
              refine g_iload_n hC dX2_redundant_34 rfl 2 rfl ?_
              refine g_aload_n hC dX2_redundant_35 rfl 0 rfl ?_
              refine m_get_count hC dX2_redundant_36 ?_
              refine g_iload_n hC dX2_redundant_39 rfl 1 rfl ?_
              refine m_callI hC gi_M_meetsFirst q294 (met_M_meetsFirst _ _ o _ _ _ _ _ _ _ _ p ct pos hok (by omega) (by omega)) (by decide) rfl rfl (Nat.le_of_ble_eq_true rfl) dX2_redundant_40 (fun z40 _ rz40 h40 => ?_)
              refine g_if_eq hC 48 dX2_redundant_43 (by decide) (by have := isB_01 h40; omega) (fun c43 => ?_) (fun c43 => ?_)
              · refine g_iinc hC [(2, vI (p + 1)), (0, Value.ref (o.2.1)), (1, vI pos)] dX2_redundant_48 2 rfl (by decide) rfl ?_
                refine g_goto hC 16 dX2_redundant_51 (by decide) ?_
                refine g_lv [1, 2, 0] rfl ?_
                exact ih16 (p + 1) ⟨by omega, by omega⟩ (by omega) (i_ls hno (fun q => absurd q (isB_f h40 c43)))
              · refine g_iconst hC dX2_redundant_46 ?_
                exact hret _ _ 0 () dX2_redundant_47 (rfl) (by omega) (Or.inr ⟨by omega, Or.inr ⟨rfl, fun q => isB_f h27 (by omega) (q p ⟨⟨by omega, by omega⟩, isB_t h40 c43⟩)⟩⟩)
      refine g_lv [1, 2, 0] rfl ?_
      exact loop16 ((pl - 0 : Int) + 1).toNat 0 ⟨by omega, by omega⟩ (by omega) (i_l0)
    · refine g_iconst hC dX2_redundant_12 ?_
      exact hret _ _ (-1) () dX2_redundant_13 (rfl) (by omega) (Or.inl ⟨rfl, by omega⟩)
theorem gi_M_excess : gI yX2_excess RX2 cX2_excess 2 (some .int) 0 := ⟨q347, q348, q25, q349, by decide, by decide +kernel⟩
set_option maxHeartbeats 4000000 in
theorem met_M_excess (l : Launch) (D : va_G) (o : gO) (sZ lf rt bd : Int → Int) (n pl dr ct : Int) (hok : okC n ct sZ lf rt bd) (hpl : pl = p8 n) : gMetI l yX2_excess cX2_excess 2 .int 4 D [(o.1, .int)] (wM o (sZ, lf, rt, bd, n, pl, dr, ct)) [Value.ref o.2.1] (fun (z : Int) (_ : Unit) => exP n ct sZ lf rt bd z) (fun (_ : Unit) => (wM o (sZ, lf, rt, bd, n, pl, dr, ct))) := by
  refine g_metI (by decide) (Nat.le_of_ble_eq_true rfl) ?_
  intro k hC hret
  have hC : gC k cX2_excess RX2 [(o.1, .int)] 4 2 := hC
  have hct := hok.2.1
  have hp8 := p8n hok.1
  show gW k (wM o (sZ, lf, rt, bd, n, pl, dr, ct)) 0 [(0, Value.ref (o.2.1))] []
  refine g_iconst hC dX2_excess_0 ?_
  refine g_istore_n hC [(1, vI 0), (0, Value.ref (o.2.1))] dX2_excess_1 rfl (by decide) rfl ?_
  have loop2 : ∀ (N : Nat) (t : Int) (hm2 : 0 ≤ ct - t ∧ ct - t < (N : Int)) (ht : 0 ≤ t ∧ t ≤ ct) (hno : ∀ x : Int, 0 ≤ x → x < t → ¬ ∃ p : Int, dom n (ct - x) (-1) sZ lf rt bd p), gW k (wM o (sZ, lf, rt, bd, n, pl, dr, ct)) 2 [(0, Value.ref (o.2.1)), (1, vI t)] [] := by
    intro N
    induction N with
    | zero =>
      intro t hm2
      exfalso
      omega
    | succ N ih2 =>
      intro t hm2 ht hno
      refine g_iload_n hC dX2_excess_2 rfl 1 rfl ?_
      refine g_aload_n hC dX2_excess_3 rfl 0 rfl ?_
      refine m_get_count hC dX2_excess_4 ?_
      refine g_icmp_ge hC 29 dX2_excess_7 (by decide) (by omega) (by omega) (fun c7 => ?_) (fun c7 => ?_)
      · refine g_iload_n hC dX2_excess_29 rfl 1 rfl ?_
        exact hret _ _ t () dX2_excess_30 (rfl) (by omega) (⟨by omega, hno, by rw [show t = ct by omega, show ct - ct = 0 by omega]; exact ⟨0, ⟨by omega, by omega⟩, fun c c0 c1 => absurd c1 (by omega)⟩⟩)
      · refine g_aload_n hC dX2_excess_10 rfl 0 rfl ?_
        refine g_aload_n hC dX2_excess_11 rfl 0 rfl ?_
        refine m_get_count hC dX2_excess_12 ?_
        refine g_iload_n hC dX2_excess_15 rfl 1 rfl ?_
        refine g_isub hC dX2_excess_16 ?_
        refine m_callI hC gi_M_possible q290 (met_M_possible _ _ o _ _ _ _ _ _ _ _ (ct - t) (okC_le hok (by omega) (by omega)) hpl) (by decide) rfl rfl (Nat.le_of_ble_eq_true rfl) dX2_excess_17 (fun z17 _ rz17 h17 => ?_)
        refine g_if_ne hC 29 dX2_excess_20 (by decide) (by have := isB_01 h17; omega) (fun c20 => ?_) (fun c20 => ?_)
        · refine g_iload_n hC dX2_excess_29 rfl 1 rfl ?_
          exact hret _ _ t () dX2_excess_30 (rfl) (by omega) (⟨by omega, hno, isB_t h17 c20⟩)
        · refine g_iinc hC [(1, vI (t + 1)), (0, Value.ref (o.2.1))] dX2_excess_23 1 rfl (by decide) rfl ?_
          refine g_goto hC 2 dX2_excess_26 (by decide) ?_
          refine g_lv [1, 0] rfl ?_
          exact ih2 (t + 1) ⟨by omega, by omega⟩ (by omega) (i_ls hno (isB_f h17 (by omega)))
  refine g_lv [1, 0] rfl ?_
  exact loop2 ((ct - 0 : Int) + 1).toNat 0 ⟨by omega, by omega⟩ (by omega) (i_l0)
end
section
/-! CLASS: leaves -/
set_option maxRecDepth 100000
theorem gi_X_isEvent : gI yX1_isEvent RX1 cX1_isEvent 2 (some .boolean) 1 := ⟨q117, qs2, q24, q118, by decide, by decide +kernel⟩
set_option maxHeartbeats 4000000 in
theorem met_X_isEvent (l : Launch) (D : va_G) (o : gO) (eE eB eL sZ dE dB dL sT mX tN : Int → Int) (n ct ds ac sk sb be : Int) (e : Int) (hn : 0 ≤ n ∧ n ≤ 8) (he : -2147483648 ≤ e ∧ e < 2147483648) : gMetI l yX1_isEvent cX1_isEvent 2 .boolean 0 D [(o.1, .int)] (wX o (eE, eB, eL, sZ, dE, dB, dL, sT, mX, tN, n, ct, ds, ac, sk, sb, be)) [Value.ref o.2.1, vI e] (fun (z : Int) (_ : Unit) => isB z (0 ≤ e ∧ e < n)) (fun (_ : Unit) => (wX o (eE, eB, eL, sZ, dE, dB, dL, sT, mX, tN, n, ct, ds, ac, sk, sb, be))) := by
  refine g_metI (by decide) (Nat.le_of_ble_eq_true rfl) ?_
  intro k hC hret
  have hC : gC k cX1_isEvent RX1 [(o.1, .int)] 0 2 := hC
  show gW k (wX o (eE, eB, eL, sZ, dE, dB, dL, sT, mX, tN, n, ct, ds, ac, sk, sb, be)) 0 [(0, Value.ref (o.2.1)), (1, vI e)] []
  refine g_iload_n hC dX1_isEvent_0 rfl 1 rfl ?_
  refine g_if_lt hC 16 dX1_isEvent_1 (by decide) (by omega) (fun c1 => ?_) (fun c1 => ?_)
  · refine g_iconst hC dX1_isEvent_16 ?_
    exact hret _ _ 0 () dX1_isEvent_17 (rfl) (by omega) (Or.inr ⟨rfl, by omega⟩)
  · refine g_iload_n hC dX1_isEvent_4 rfl 1 rfl ?_
    refine g_aload_n hC dX1_isEvent_5 rfl 0 rfl ?_
    refine x_get_n hC dX1_isEvent_6 ?_
    refine g_icmp_ge hC 16 dX1_isEvent_9 (by decide) (by omega) (by omega) (fun c9 => ?_) (fun c9 => ?_)
    · refine g_iconst hC dX1_isEvent_16 ?_
      exact hret _ _ 0 () dX1_isEvent_17 (rfl) (by omega) (Or.inr ⟨rfl, by omega⟩)
    · refine g_iconst hC dX1_isEvent_12 ?_
      refine g_goto hC 17 dX1_isEvent_13 (by decide) ?_
      exact hret _ _ 1 () dX1_isEvent_17 (rfl) (by omega) (Or.inl ⟨rfl, by omega⟩)
theorem gi_X_isPoint : gI yX1_isPoint RX1 cX1_isPoint 2 (some .boolean) 1 := ⟨q97, qs0, q24, q98, by decide, by decide +kernel⟩
set_option maxHeartbeats 4000000 in
theorem met_X_isPoint (l : Launch) (D : va_G) (o : gO) (eE eB eL sZ dE dB dL sT mX tN : Int → Int) (n ct ds ac sk sb be : Int) (e : Int) (hn : 0 ≤ n ∧ n ≤ 8) (he : -2147483648 ≤ e ∧ e < 2147483648) : gMetI l yX1_isPoint cX1_isPoint 2 .boolean 0 D [(o.1, .int)] (wX o (eE, eB, eL, sZ, dE, dB, dL, sT, mX, tN, n, ct, ds, ac, sk, sb, be)) [Value.ref o.2.1, vI e] (fun (z : Int) (_ : Unit) => isB z (0 ≤ e ∧ e ≤ n)) (fun (_ : Unit) => (wX o (eE, eB, eL, sZ, dE, dB, dL, sT, mX, tN, n, ct, ds, ac, sk, sb, be))) := by
  refine g_metI (by decide) (Nat.le_of_ble_eq_true rfl) ?_
  intro k hC hret
  have hC : gC k cX1_isPoint RX1 [(o.1, .int)] 0 2 := hC
  show gW k (wX o (eE, eB, eL, sZ, dE, dB, dL, sT, mX, tN, n, ct, ds, ac, sk, sb, be)) 0 [(0, Value.ref (o.2.1)), (1, vI e)] []
  refine g_iload_n hC dX1_isPoint_0 rfl 1 rfl ?_
  refine g_if_lt hC 16 dX1_isPoint_1 (by decide) (by omega) (fun c1 => ?_) (fun c1 => ?_)
  · refine g_iconst hC dX1_isPoint_16 ?_
    exact hret _ _ 0 () dX1_isPoint_17 (rfl) (by omega) (Or.inr ⟨rfl, by omega⟩)
  · refine g_iload_n hC dX1_isPoint_4 rfl 1 rfl ?_
    refine g_aload_n hC dX1_isPoint_5 rfl 0 rfl ?_
    refine x_get_n hC dX1_isPoint_6 ?_
    refine g_icmp_gt hC 16 dX1_isPoint_9 (by decide) (by omega) (by omega) (fun c9 => ?_) (fun c9 => ?_)
    · refine g_iconst hC dX1_isPoint_16 ?_
      exact hret _ _ 0 () dX1_isPoint_17 (rfl) (by omega) (Or.inr ⟨rfl, by omega⟩)
    · refine g_iconst hC dX1_isPoint_12 ?_
      refine g_goto hC 17 dX1_isPoint_13 (by decide) ?_
      exact hret _ _ 1 () dX1_isPoint_17 (rfl) (by omega) (Or.inl ⟨rfl, by omega⟩)
theorem gi_X_isConstraint : gI yX1_isConstraint RX1 cX1_isConstraint 2 (some .boolean) 1 := ⟨q125, qs3, q24, q126, by decide, by decide +kernel⟩
set_option maxHeartbeats 4000000 in
theorem met_X_isConstraint (l : Launch) (D : va_G) (o : gO) (eE eB eL sZ dE dB dL sT mX tN : Int → Int) (n ct ds ac sk sb be : Int) (e : Int) (hn : 0 ≤ ct ∧ ct ≤ 8) (he : -2147483648 ≤ e ∧ e < 2147483648) : gMetI l yX1_isConstraint cX1_isConstraint 2 .boolean 0 D [(o.1, .int)] (wX o (eE, eB, eL, sZ, dE, dB, dL, sT, mX, tN, n, ct, ds, ac, sk, sb, be)) [Value.ref o.2.1, vI e] (fun (z : Int) (_ : Unit) => isB z (0 ≤ e ∧ e < ct)) (fun (_ : Unit) => (wX o (eE, eB, eL, sZ, dE, dB, dL, sT, mX, tN, n, ct, ds, ac, sk, sb, be))) := by
  refine g_metI (by decide) (Nat.le_of_ble_eq_true rfl) ?_
  intro k hC hret
  have hC : gC k cX1_isConstraint RX1 [(o.1, .int)] 0 2 := hC
  show gW k (wX o (eE, eB, eL, sZ, dE, dB, dL, sT, mX, tN, n, ct, ds, ac, sk, sb, be)) 0 [(0, Value.ref (o.2.1)), (1, vI e)] []
  refine g_iload_n hC dX1_isConstraint_0 rfl 1 rfl ?_
  refine g_if_lt hC 16 dX1_isConstraint_1 (by decide) (by omega) (fun c1 => ?_) (fun c1 => ?_)
  · refine g_iconst hC dX1_isConstraint_16 ?_
    exact hret _ _ 0 () dX1_isConstraint_17 (rfl) (by omega) (Or.inr ⟨rfl, by omega⟩)
  · refine g_iload_n hC dX1_isConstraint_4 rfl 1 rfl ?_
    refine g_aload_n hC dX1_isConstraint_5 rfl 0 rfl ?_
    refine x_get_count hC dX1_isConstraint_6 ?_
    refine g_icmp_ge hC 16 dX1_isConstraint_9 (by decide) (by omega) (by omega) (fun c9 => ?_) (fun c9 => ?_)
    · refine g_iconst hC dX1_isConstraint_16 ?_
      exact hret _ _ 0 () dX1_isConstraint_17 (rfl) (by omega) (Or.inr ⟨rfl, by omega⟩)
    · refine g_iconst hC dX1_isConstraint_12 ?_
      refine g_goto hC 17 dX1_isConstraint_13 (by decide) ?_
      exact hret _ _ 1 () dX1_isConstraint_17 (rfl) (by omega) (Or.inl ⟨rfl, by omega⟩)
theorem gi_X_events : gI yX1_events RX1 cX1_events 1 (some .int) 0 := ⟨q88, q89, q24, q90, by decide, by decide +kernel⟩
set_option maxHeartbeats 4000000 in
theorem met_X_events (l : Launch) (D : va_G) (o : gO) (eE eB eL sZ dE dB dL sT mX tN : Int → Int) (n ct ds ac sk sb be : Int) (hn : 2 ≤ n ∧ n ≤ 4) : gMetI l yX1_events cX1_events 1 .int 0 D [(o.1, .int)] (wX o (eE, eB, eL, sZ, dE, dB, dL, sT, mX, tN, n, ct, ds, ac, sk, sb, be)) [Value.ref o.2.1] (fun (z : Int) (_ : Unit) => z = n) (fun (_ : Unit) => (wX o (eE, eB, eL, sZ, dE, dB, dL, sT, mX, tN, n, ct, ds, ac, sk, sb, be))) := by
  refine g_metI (by decide) (Nat.le_of_ble_eq_true rfl) ?_
  intro k hC hret
  have hC : gC k cX1_events RX1 [(o.1, .int)] 0 1 := hC
  show gW k (wX o (eE, eB, eL, sZ, dE, dB, dL, sT, mX, tN, n, ct, ds, ac, sk, sb, be)) 0 [(0, Value.ref (o.2.1))] []
  refine g_aload_n hC dX1_events_0 rfl 0 rfl ?_
  refine x_get_n hC dX1_events_1 ?_
  exact hret _ _ n () dX1_events_4 (rfl) (by omega) (by omega)
theorem gi_X_size : gI yX1_size RX1 cX1_size 1 (some .int) 0 := ⟨q128, q129, q24, q130, by decide, by decide +kernel⟩
set_option maxHeartbeats 4000000 in
theorem met_X_size (l : Launch) (D : va_G) (o : gO) (eE eB eL sZ dE dB dL sT mX tN : Int → Int) (n ct ds ac sk sb be : Int) (hct : 0 ≤ ct ∧ ct ≤ 8) : gMetI l yX1_size cX1_size 1 .int 0 D [(o.1, .int)] (wX o (eE, eB, eL, sZ, dE, dB, dL, sT, mX, tN, n, ct, ds, ac, sk, sb, be)) [Value.ref o.2.1] (fun (z : Int) (_ : Unit) => z = ct) (fun (_ : Unit) => (wX o (eE, eB, eL, sZ, dE, dB, dL, sT, mX, tN, n, ct, ds, ac, sk, sb, be))) := by
  refine g_metI (by decide) (Nat.le_of_ble_eq_true rfl) ?_
  intro k hC hret
  have hC : gC k cX1_size RX1 [(o.1, .int)] 0 1 := hC
  show gW k (wX o (eE, eB, eL, sZ, dE, dB, dL, sT, mX, tN, n, ct, ds, ac, sk, sb, be)) 0 [(0, Value.ref (o.2.1))] []
  refine g_aload_n hC dX1_size_0 rfl 0 rfl ?_
  refine x_get_count hC dX1_size_1 ?_
  exact hret _ _ ct () dX1_size_4 (rfl) (by omega) (by omega)
theorem gi_X_clear : gI yX1_clear RX1 cX1_clear 2 (some .int) 0 := ⟨q100, q101, q24, q102, by decide, by decide +kernel⟩
set_option maxHeartbeats 4000000 in
theorem met_X_clear (l : Launch) (D : va_G) (o : gO) (eE eB eL sZ dE dB dL sT mX tN : Int → Int) (n ct ds ac sk sb be : Int) (hds : 0 ≤ ds ∧ ds ≤ 3) : gMetI l yX1_clear cX1_clear 2 .int 0 D [(o.1, .int)] (wX o (eE, eB, eL, sZ, dE, dB, dL, sT, mX, tN, n, ct, ds, ac, sk, sb, be)) [Value.ref o.2.1] (fun (z : Int) (ds' : Int) => z = ds ∧ ds' = 0) (fun (ds' : Int) => (wX o (eE, eB, eL, sZ, dE, dB, dL, sT, mX, tN, n, ct, ds', ac, sk, sb, be))) := by
  refine g_metI (by decide) (Nat.le_of_ble_eq_true rfl) ?_
  intro k hC hret
  have hC : gC k cX1_clear RX1 [(o.1, .int)] 0 2 := hC
  show gW k (wX o (eE, eB, eL, sZ, dE, dB, dL, sT, mX, tN, n, ct, ds, ac, sk, sb, be)) 0 [(0, Value.ref (o.2.1))] []
  refine g_aload_n hC dX1_clear_0 rfl 0 rfl ?_
  refine x_get_draftSize hC dX1_clear_1 ?_
  refine g_istore_n hC [(1, vI ds), (0, Value.ref (o.2.1))] dX1_clear_4 rfl (by decide) rfl ?_
  refine g_aload_n hC dX1_clear_5 rfl 1 rfl ?_
  refine g_iconst hC dX1_clear_6 ?_
  refine x_put_draftSize hC dX1_clear_7 ?_
  refine g_iload_n hC dX1_clear_10 rfl 0 rfl ?_
  exact hret _ _ ds (0) dX1_clear_11 (rfl) (by omega) (⟨rfl, rfl⟩)
theorem gi_X_offer : gI yX1_offer RX1 cX1_offer 5 none 3 := ⟨q109, qs1, q24, q110, by decide, by decide +kernel⟩
set_option maxHeartbeats 4000000 in
theorem met_X_offer (l : Launch) (D : va_G) (o : gO) (eE eB eL sZ dE dB dL sT mX tN : Int → Int) (n ct ds ac sk sb be : Int) (i j m : Int) (hct : 0 ≤ ct ∧ ct ≤ 7) (hz : 0 ≤ sZ ct ∧ sZ ct ≤ 2) : gMetV l yX1_offer cX1_offer 5 0 D [(o.1, .int)] (wX o (eE, eB, eL, sZ, dE, dB, dL, sT, mX, tN, n, ct, ds, ac, sk, sb, be)) [Value.ref o.2.1, vI i, vI j, vI m] (fun (u : (Int → Int) × (Int → Int) × (Int → Int) × (Int → Int)) => match u with | (eE', eB', eL', sZ') => eE' = iU eE (3 * ct + sZ ct) i ∧ eB' = iU eB (3 * ct + sZ ct) j ∧ eL' = iU eL (3 * ct + sZ ct) m ∧ sZ' = iU sZ ct (sZ ct + 1)) (fun (u : (Int → Int) × (Int → Int) × (Int → Int) × (Int → Int)) => match u with | (eE', eB', eL', sZ') => (wX o (eE', eB', eL', sZ', dE, dB, dL, sT, mX, tN, n, ct, ds, ac, sk, sb, be))) := by
  refine g_metV (by decide) (Nat.le_of_ble_eq_true rfl) ?_
  intro k hC hret
  have hC : gC k cX1_offer RX1 [(o.1, .int)] 0 5 := hC
  show gW k (wX o (eE, eB, eL, sZ, dE, dB, dL, sT, mX, tN, n, ct, ds, ac, sk, sb, be)) 0 [(0, Value.ref (o.2.1)), (1, vI i), (2, vI j), (3, vI m)] []
  refine g_iconst hC dX1_offer_0 ?_
  refine g_aload_n hC dX1_offer_1 rfl 0 rfl ?_
  refine x_get_count hC dX1_offer_2 ?_
  refine g_imul hC dX1_offer_5 ?_
  refine g_aload_n hC dX1_offer_6 rfl 0 rfl ?_
  refine x_get_sizes hC dX1_offer_7 ?_
  refine g_aload_n hC dX1_offer_10 rfl 0 rfl ?_
  refine x_get_count hC dX1_offer_11 ?_
  refine x_ld_sizes hC (by omega) dX1_offer_14 ?_
  refine g_iadd hC dX1_offer_15 ?_
  refine g_istore hC [(4, vI ((3 * ct) + (sZ ct))), (0, Value.ref (o.2.1)), (1, vI i), (2, vI j), (3, vI m)] dX1_offer_16 (by decide) rfl ?_
  refine g_aload_n hC dX1_offer_18 rfl 1 rfl ?_
  refine x_get_ends hC dX1_offer_19 ?_
  refine g_iload hC dX1_offer_22 0 rfl ?_
  refine g_iload_n hC dX1_offer_24 rfl 2 rfl ?_
  refine x_st_ends hC (by omega) dX1_offer_25 (fun eE_25 eeE_25 => ?_)
  refine g_aload_n hC dX1_offer_26 rfl 1 rfl ?_
  refine x_get_begins hC dX1_offer_27 ?_
  refine g_iload hC dX1_offer_30 0 rfl ?_
  refine g_iload_n hC dX1_offer_32 rfl 3 rfl ?_
  refine x_st_begins hC (by omega) dX1_offer_33 (fun eB_33 eeB_33 => ?_)
  refine g_aload_n hC dX1_offer_34 rfl 1 rfl ?_
  refine x_get_limits hC dX1_offer_35 ?_
  refine g_iload hC dX1_offer_38 0 rfl ?_
  refine g_iload_n hC dX1_offer_40 rfl 4 rfl ?_
  refine x_st_limits hC (by omega) dX1_offer_41 (fun eL_41 eeL_41 => ?_)
  refine g_aload_n hC dX1_offer_42 rfl 1 rfl ?_
  refine x_get_sizes hC dX1_offer_43 ?_
  refine g_aload_n hC dX1_offer_46 rfl 1 rfl ?_
  refine x_get_count hC dX1_offer_47 ?_
  refine g_dup2 hC rfl rfl dX1_offer_50 ?_
  refine x_ld_sizes hC (by omega) dX1_offer_51 ?_
  refine g_iconst hC dX1_offer_52 ?_
  refine g_iadd hC dX1_offer_53 ?_
  refine x_st_sizes hC (by omega) dX1_offer_54 (fun sZ_54 esZ_54 => ?_)
  exact hret _ _ (eE_25, eB_33, eL_41, sZ_54) dX1_offer_55 (⟨by assumption, by assumption, by assumption, by assumption⟩)
theorem gi_X_timeIn : gI yX1_timeIn RX1 cX1_timeIn 3 (some .int) 2 := ⟨q190, qs12, q24, q191, by decide, by decide +kernel⟩
set_option maxHeartbeats 4000000 in
theorem met_X_timeIn (l : Launch) (D : va_G) (o : gO) (eE eB eL sZ dE dB dL sT mX tN : Int → Int) (n ct ds ac sk sb be : Int) (plan i : Int) (hn : 2 ≤ n ∧ n ≤ 4) (hi : 0 ≤ i ∧ i ≤ n) (hp : 0 ≤ plan ∧ plan < 2147483648) : gMetI l yX1_timeIn cX1_timeIn 3 .int 0 D [(o.1, .int)] (wX o (eE, eB, eL, sZ, dE, dB, dL, sT, mX, tN, n, ct, ds, ac, sk, sb, be)) [Value.ref o.2.1, vI plan, vI i] (fun (z : Int) (_ : Unit) => z = tim n plan i) (fun (_ : Unit) => (wX o (eE, eB, eL, sZ, dE, dB, dL, sT, mX, tN, n, ct, ds, ac, sk, sb, be))) := by
  refine g_metI (by decide) (Nat.le_of_ble_eq_true rfl) ?_
  intro k hC hret
  have hC : gC k cX1_timeIn RX1 [(o.1, .int)] 0 3 := hC
  show gW k (wX o (eE, eB, eL, sZ, dE, dB, dL, sT, mX, tN, n, ct, ds, ac, sk, sb, be)) 0 [(0, Value.ref (o.2.1)), (1, vI plan), (2, vI i)] []
  refine g_iload_n hC dX1_timeIn_0 rfl 2 rfl ?_
  refine g_aload_n hC dX1_timeIn_1 rfl 0 rfl ?_
  refine x_get_n hC dX1_timeIn_2 ?_
  refine g_icmp_ne hC 12 dX1_timeIn_5 (by decide) (by omega) (by omega) (fun c5 => ?_) (fun c5 => ?_)
  · refine g_iload_n hC dX1_timeIn_12 rfl 1 rfl ?_
    refine g_iconst hC dX1_timeIn_13 ?_
    refine g_aload_n hC dX1_timeIn_14 rfl 0 rfl ?_
    refine x_get_n hC dX1_timeIn_15 ?_
    refine g_iconst hC dX1_timeIn_18 ?_
    refine g_isub hC dX1_timeIn_19 ?_
    refine g_iload_n hC dX1_timeIn_20 rfl 2 rfl ?_
    refine g_isub hC dX1_timeIn_21 ?_
    refine g_imul hC dX1_timeIn_22 ?_
    refine g_ishr hC ((n - 1) - i) (by omega) (by omega) (by omega) dX1_timeIn_23 ?_
    refine g_bipush hC dX1_timeIn_24 (by decide) ?_
    refine g_iand7 hC dX1_timeIn_26 ?_
    exact hret _ _ ((plan / p8 ((n - 1) - i)) % 8) () dX1_timeIn_27 (rfl) (by omega) ((tim_i (by omega)).symm)
  · refine g_iconst hC dX1_timeIn_8 ?_
    refine g_goto hC 27 dX1_timeIn_9 (by decide) ?_
    exact hret _ _ 0 () dX1_timeIn_27 (rfl) (by omega) ((tim_n (by omega)).symm)
theorem gi_X_openStart : gI yX1_openStart RX1 cX1_openStart 4 none 0 := ⟨q137, qs4, q24, q138, by decide, by decide +kernel⟩
set_option maxHeartbeats 4000000 in
theorem met_X_openStart (l : Launch) (D : va_G) (o : gO) (eE eB eL sZ dE dB dL sT mX tN : Int → Int) (n ct ds ac sk sb be : Int) (hn : 2 ≤ n ∧ n ≤ 4) : gMetV l yX1_openStart cX1_openStart 4 0 D [(o.1, .int)] (wX o (eE, eB, eL, sZ, dE, dB, dL, sT, mX, tN, n, ct, ds, ac, sk, sb, be)) [Value.ref o.2.1] (fun (u : (Int → Int) × Int) => match u with | (sT', sb') => sb' = 0 ∧ SI sT' sb' (bs n)) (fun (u : (Int → Int) × Int) => match u with | (sT', sb') => (wX o (eE, eB, eL, sZ, dE, dB, dL, sT', mX, tN, n, ct, ds, ac, sk, sb', be))) := by
  refine g_metV (by decide) (Nat.le_of_ble_eq_true rfl) ?_
  intro k hC hret
  have hC : gC k cX1_openStart RX1 [(o.1, .int)] 0 4 := hC
  show gW k (wX o (eE, eB, eL, sZ, dE, dB, dL, sT, mX, tN, n, ct, ds, ac, sk, sb, be)) 0 [(0, Value.ref (o.2.1))] []
  refine g_aload_n hC dX1_openStart_0 rfl 0 rfl ?_
  refine g_iconst hC dX1_openStart_1 ?_
  refine x_put_startBad hC rfl rfl dX1_openStart_2 ?_
  refine g_iconst hC dX1_openStart_5 ?_
  refine g_istore_n hC [(1, vI 0), (0, Value.ref (o.2.1))] dX1_openStart_6 rfl (by decide) rfl ?_
  have loop7 : ∀ (N : Nat) (m : Int) (sTx : Int → Int) (hm7 : 0 ≤ 25 - m ∧ 25 - m < (N : Int)) (hm : 0 ≤ m ∧ m ≤ 25) (hf : ∀ r : Int, 0 ≤ r → r < m → sTx r = osf n r), gW k (wX o (eE, eB, eL, sZ, dE, dB, dL, sTx, mX, tN, n, ct, ds, ac, sk, 0, be)) 7 [(0, Value.ref (o.2.1)), (1, vI m)] [] := by
    intro N
    induction N with
    | zero =>
      intro m sTx hm7
      exfalso
      omega
    | succ N ih7 =>
      intro m sTx hm7 hm hf
      refine g_iload_n hC dX1_openStart_7 rfl 1 rfl ?_
      refine g_bipush hC dX1_openStart_8 (by decide) ?_
      refine g_icmp_ge hC 55 dX1_openStart_10 (by decide) (by omega) (by omega) (fun c10 => ?_) (fun c10 => ?_)
      · exact hret _ _ (sTx, 0) dX1_openStart_55 (⟨rfl, os_SI (fun r r0 r1 => hf r r0 (by omega))⟩)
      · refine g_iload_n hC dX1_openStart_13 rfl 1 rfl ?_
        refine g_iconst hC dX1_openStart_14 ?_
        refine g_idiv hC (by omega) (by omega) dX1_openStart_15 ?_
        refine g_istore_n hC [(2, vI (m / 5)), (0, Value.ref (o.2.1)), (1, vI m)] dX1_openStart_16 rfl (by decide) rfl ?_
        refine g_iload_n hC dX1_openStart_17 rfl 2 rfl ?_
        refine g_iconst hC dX1_openStart_18 ?_
        refine g_irem hC (by omega) (by omega) dX1_openStart_19 ?_
        refine g_istore_n hC [(3, vI (m % 5)), (2, vI (m / 5)), (0, Value.ref (o.2.1)), (1, vI m)] dX1_openStart_20 rfl (by decide) rfl ?_
        refine g_aload_n hC dX1_openStart_21 rfl 2 rfl ?_
        refine x_get_start hC dX1_openStart_22 ?_
        refine g_iload_n hC dX1_openStart_25 rfl 3 rfl ?_
        refine g_bipush hC dX1_openStart_26 (by decide) ?_
        refine x_st_start hC (by omega) dX1_openStart_28 (fun sT_28 esT_28 => ?_)
        refine g_iload_n hC dX1_openStart_29 rfl 1 rfl ?_
        refine g_iload_n hC dX1_openStart_30 rfl 0 rfl ?_
        refine g_icmp_eq hC 42 dX1_openStart_31 (by decide) (by omega) (by omega) (fun c31 => ?_) (fun c31 => ?_)
        · refine g_aload_n hC dX1_openStart_42 rfl 2 rfl ?_
          refine x_get_start hC dX1_openStart_43 ?_
          refine g_iload_n hC dX1_openStart_46 rfl 3 rfl ?_
          refine g_iconst hC dX1_openStart_47 ?_
          refine x_st_start hC (by omega) dX1_openStart_48 (fun sT_48 esT_48 => ?_)
          refine g_iinc hC [(1, vI (m + 1)), (3, vI (m % 5)), (2, vI (m / 5)), (0, Value.ref (o.2.1))] dX1_openStart_49 3 rfl (by decide) rfl ?_
          refine g_goto hC 7 dX1_openStart_52 (by decide) ?_
          refine g_lv [3, 0] rfl ?_
          exact ih7 (m + 1) sT_48 ⟨by omega, by omega⟩ (by omega) (os_s0 hf esT_28 esT_48 (Or.inl c31))
        · refine g_iload_n hC dX1_openStart_34 rfl 1 rfl ?_
          refine g_aload_n hC dX1_openStart_35 rfl 2 rfl ?_
          refine x_get_n hC dX1_openStart_36 ?_
          refine g_icmp_ne hC 49 dX1_openStart_39 (by decide) (by omega) (by omega) (fun c39 => ?_) (fun c39 => ?_)
          · refine g_iinc hC [(1, vI (m + 1)), (3, vI (m % 5)), (2, vI (m / 5)), (0, Value.ref (o.2.1))] dX1_openStart_49 3 rfl (by decide) rfl ?_
            refine g_goto hC 7 dX1_openStart_52 (by decide) ?_
            refine g_lv [3, 0] rfl ?_
            exact ih7 (m + 1) sT_28 ⟨by omega, by omega⟩ (by omega) (os_s7 hf esT_28 (by omega))
          · refine g_aload_n hC dX1_openStart_42 rfl 2 rfl ?_
            refine x_get_start hC dX1_openStart_43 ?_
            refine g_iload_n hC dX1_openStart_46 rfl 3 rfl ?_
            refine g_iconst hC dX1_openStart_47 ?_
            refine x_st_start hC (by omega) dX1_openStart_48 (fun sT_48 esT_48 => ?_)
            refine g_iinc hC [(1, vI (m + 1)), (3, vI (m % 5)), (2, vI (m / 5)), (0, Value.ref (o.2.1))] dX1_openStart_49 3 rfl (by decide) rfl ?_
            refine g_goto hC 7 dX1_openStart_52 (by decide) ?_
            refine g_lv [3, 0] rfl ?_
            exact ih7 (m + 1) sT_48 ⟨by omega, by omega⟩ (by omega) (os_s0 hf esT_28 esT_48 (Or.inr c39))
  refine g_lv [1, 0] rfl ?_
  exact loop7 ((25 - 0 : Int) + 1).toNat 0 sT ⟨by omega, by omega⟩ (by omega) (i_l0)
theorem gi_X_tightenStart : gI yX1_tightenStart RX1 cX1_tightenStart 8 none 3 := ⟨q182, qs11, q24, q183, by decide, by decide +kernel⟩
set_option maxHeartbeats 4000000 in
theorem met_X_tightenStart (l : Launch) (D : va_G) (o : gO) (eE eB eL sZ dE dB dL sT mX tN : Int → Int) (n ct ds ac sk sb be : Int) (i j lim : Int) (P : (Int → Int) → Prop) (hi : 0 ≤ i ∧ i ≤ 4) (hj : 0 ≤ j ∧ j ≤ 4) (hl : -1000 ≤ lim ∧ lim ≤ 1000) (hS : SI sT sb P) : gMetV l yX1_tightenStart cX1_tightenStart 8 0 D [(o.1, .int)] (wX o (eE, eB, eL, sZ, dE, dB, dL, sT, mX, tN, n, ct, ds, ac, sk, sb, be)) [Value.ref o.2.1, vI i, vI j, vI lim] (fun (u : (Int → Int) × Int) => match u with | (sT', sb') => SI sT' sb' (fun t => P t ∧ t i - t j ≤ lim)) (fun (u : (Int → Int) × Int) => match u with | (sT', sb') => (wX o (eE, eB, eL, sZ, dE, dB, dL, sT', mX, tN, n, ct, ds, ac, sk, sb', be))) := by
  refine g_metV (by decide) (Nat.le_of_ble_eq_true rfl) ?_
  intro k hC hret
  have hC : gC k cX1_tightenStart RX1 [(o.1, .int)] 0 8 := hC
  have h01 := SI_01 hS
  show gW k (wX o (eE, eB, eL, sZ, dE, dB, dL, sT, mX, tN, n, ct, ds, ac, sk, sb, be)) 0 [(0, Value.ref (o.2.1)), (1, vI i), (2, vI j), (3, vI lim)] []
  refine g_aload_n hC dX1_tightenStart_0 rfl 0 rfl ?_
  refine x_get_startBad hC dX1_tightenStart_1 ?_
  refine g_if_ne hC 21 dX1_tightenStart_4 (by decide) (by omega) (fun c4 => ?_) (fun c4 => ?_)
  · exact hret _ _ (sT, sb) dX1_tightenStart_21 (SI_bad hS c4)
  · have hcl := (SI_0 hS c4).1
    have r1 := clo_0 hcl hi hj
    have r2 := clo_0 hcl hj hi
    refine g_iload_n hC dX1_tightenStart_7 rfl 3 rfl ?_
    refine g_aload_n hC dX1_tightenStart_8 rfl 0 rfl ?_
    refine x_get_start hC dX1_tightenStart_9 ?_
    refine g_iconst hC dX1_tightenStart_12 ?_
    refine g_iload_n hC dX1_tightenStart_13 rfl 1 rfl ?_
    refine g_imul hC dX1_tightenStart_14 ?_
    refine g_iload_n hC dX1_tightenStart_15 rfl 2 rfl ?_
    refine g_iadd hC dX1_tightenStart_16 ?_
    refine x_ld_start hC (by omega) dX1_tightenStart_17 ?_
    refine g_icmp_lt hC 22 dX1_tightenStart_18 (by decide) (by omega) (by omega) (fun c18 => ?_) (fun c18 => ?_)
    · refine g_aload_n hC dX1_tightenStart_22 rfl 0 rfl ?_
      refine x_get_start hC dX1_tightenStart_23 ?_
      refine g_iconst hC dX1_tightenStart_26 ?_
      refine g_iload_n hC dX1_tightenStart_27 rfl 2 rfl ?_
      refine g_imul hC dX1_tightenStart_28 ?_
      refine g_iload_n hC dX1_tightenStart_29 rfl 1 rfl ?_
      refine g_iadd hC dX1_tightenStart_30 ?_
      refine x_ld_start hC (by omega) dX1_tightenStart_31 ?_
      refine g_iload_n hC dX1_tightenStart_32 rfl 3 rfl ?_
      refine g_iadd hC dX1_tightenStart_33 ?_
      refine g_if_ge hC 43 dX1_tightenStart_34 (by decide) (by omega) (fun c34 => ?_) (fun c34 => ?_)
      · have hl0 : 0 ≤ sT (5 * j + i) + lim := by omega
        refine g_iconst hC dX1_tightenStart_43 ?_
        refine g_istore hC [(4, vI 0), (0, Value.ref (o.2.1)), (1, vI i), (2, vI j), (3, vI lim)] dX1_tightenStart_44 (by decide) rfl ?_
        have loop46 : ∀ (N : Nat) (m : Int) (sTx : Int → Int) (hm46 : 0 ≤ 25 - m ∧ 25 - m < (N : Int)) (hm : 0 ≤ m ∧ m ≤ 25) (hg : tSg sT i j lim m sTx), gW k (wX o (eE, eB, eL, sZ, dE, dB, dL, sTx, mX, tN, n, ct, ds, ac, sk, sb, be)) 46 [(0, Value.ref (o.2.1)), (1, vI i), (2, vI j), (3, vI lim), (4, vI m)] [] := by
          intro N
          induction N with
          | zero =>
            intro m sTx hm46
            exfalso
            omega
          | succ N ih46 =>
            intro m sTx hm46 hm hg
            refine g_iload hC dX1_tightenStart_46 4 rfl ?_
            refine g_bipush hC dX1_tightenStart_48 (by decide) ?_
            refine g_icmp_ge hC 129 dX1_tightenStart_50 (by decide) (by omega) (by omega) (fun c50 => ?_) (fun c50 => ?_)
            · exact hret _ _ (sTx, sb) dX1_tightenStart_129 (tS_end hS c4 hi hj hl0 hg (by omega))
            · obtain ⟨g0, g1, g2, g3⟩ := tS_rd hcl hi hj hl0 (by omega) hg
              refine g_iload hC dX1_tightenStart_53 4 rfl ?_
              refine g_iconst hC dX1_tightenStart_55 ?_
              refine g_idiv hC (by omega) (by omega) dX1_tightenStart_56 ?_
              refine g_istore hC [(5, vI (m / 5)), (0, Value.ref (o.2.1)), (1, vI i), (2, vI j), (3, vI lim), (4, vI m)] dX1_tightenStart_57 (by decide) rfl ?_
              refine g_iload hC dX1_tightenStart_59 5 rfl ?_
              refine g_iconst hC dX1_tightenStart_61 ?_
              refine g_irem hC (by omega) (by omega) dX1_tightenStart_62 ?_
              refine g_istore hC [(6, vI (m % 5)), (5, vI (m / 5)), (0, Value.ref (o.2.1)), (1, vI i), (2, vI j), (3, vI lim), (4, vI m)] dX1_tightenStart_63 (by decide) rfl ?_
              refine g_aload_n hC dX1_tightenStart_65 rfl 2 rfl ?_
              refine x_get_start hC dX1_tightenStart_66 ?_
              refine g_iconst hC dX1_tightenStart_69 ?_
              refine g_iload hC dX1_tightenStart_70 1 rfl ?_
              refine g_imul hC dX1_tightenStart_72 ?_
              refine g_iload_n hC dX1_tightenStart_73 rfl 3 rfl ?_
              refine g_iadd hC dX1_tightenStart_74 ?_
              refine x_ld_start hC (by omega) dX1_tightenStart_75 ?_
              refine g_iload_n hC dX1_tightenStart_76 rfl 5 rfl ?_
              refine g_iadd hC dX1_tightenStart_77 ?_
              refine g_aload_n hC dX1_tightenStart_78 rfl 2 rfl ?_
              refine x_get_start hC dX1_tightenStart_79 ?_
              refine g_iconst hC dX1_tightenStart_82 ?_
              refine g_iload_n hC dX1_tightenStart_83 rfl 4 rfl ?_
              refine g_imul hC dX1_tightenStart_84 ?_
              refine g_iload hC dX1_tightenStart_85 0 rfl ?_
              refine g_iadd hC dX1_tightenStart_87 ?_
              refine x_ld_start hC (by omega) dX1_tightenStart_88 ?_
              refine g_iadd hC dX1_tightenStart_89 ?_
              refine g_istore hC [(7, vI (((sTx ((5 * (m / 5)) + i)) + lim) + (sTx ((5 * j) + (m % 5))))), (6, vI (m % 5)), (5, vI (m / 5)), (0, Value.ref (o.2.1)), (1, vI i), (2, vI j), (3, vI lim), (4, vI m)] dX1_tightenStart_90 (by decide) rfl ?_
              refine g_aload_n hC dX1_tightenStart_92 rfl 3 rfl ?_
              refine x_get_start hC dX1_tightenStart_93 ?_
              refine g_iload hC dX1_tightenStart_96 7 rfl ?_
              refine g_iload hC dX1_tightenStart_98 0 rfl ?_
              refine g_aload_n hC dX1_tightenStart_100 rfl 3 rfl ?_
              refine x_get_start hC dX1_tightenStart_101 ?_
              refine g_iload hC dX1_tightenStart_104 7 rfl ?_
              refine x_ld_start hC (by omega) dX1_tightenStart_106 ?_
              refine g_icmp_ge hC 115 dX1_tightenStart_107 (by decide) (by omega) (by omega) (fun c107 => ?_) (fun c107 => ?_)
              · refine g_aload_n hC dX1_tightenStart_115 rfl 3 rfl ?_
                refine x_get_start hC dX1_tightenStart_116 ?_
                refine g_iload hC dX1_tightenStart_119 7 rfl ?_
                refine x_ld_start hC (by omega) dX1_tightenStart_121 ?_
                refine x_st_start hC (by omega) dX1_tightenStart_122 (fun sT_122 esT_122 => ?_)
                refine g_iinc hC [(4, vI (m + 1)), (7, vI (((sTx ((5 * (m / 5)) + i)) + lim) + (sTx ((5 * j) + (m % 5))))), (6, vI (m % 5)), (5, vI (m / 5)), (0, Value.ref (o.2.1)), (1, vI i), (2, vI j), (3, vI lim)] dX1_tightenStart_123 7 rfl (by decide) rfl ?_
                refine g_goto hC 46 dX1_tightenStart_126 (by decide) ?_
                refine g_lv [4, 5, 6, 7, 0] rfl ?_
                exact ih46 (m + 1) sT_122 ⟨by omega, by omega⟩ (by omega) (tS_s2 g0 hg esT_122 rfl (by omega))
              · refine g_iload hC dX1_tightenStart_110 0 rfl ?_
                refine g_goto hC 122 dX1_tightenStart_112 (by decide) ?_
                refine x_st_start hC (by omega) dX1_tightenStart_122 (fun sT_122 esT_122 => ?_)
                refine g_iinc hC [(4, vI (m + 1)), (7, vI (((sTx ((5 * (m / 5)) + i)) + lim) + (sTx ((5 * j) + (m % 5))))), (6, vI (m % 5)), (5, vI (m / 5)), (0, Value.ref (o.2.1)), (1, vI i), (2, vI j), (3, vI lim)] dX1_tightenStart_123 7 rfl (by decide) rfl ?_
                refine g_goto hC 46 dX1_tightenStart_126 (by decide) ?_
                refine g_lv [4, 5, 6, 7, 0] rfl ?_
                exact ih46 (m + 1) sT_122 ⟨by omega, by omega⟩ (by omega) (tS_s1 g0 hg esT_122 rfl (by omega))
        refine g_lv [1, 2, 3, 4, 0] rfl ?_
        exact loop46 ((25 - 0 : Int) + 1).toNat 0 sT ⟨by omega, by omega⟩ (by omega) (tS_0)
      · refine g_aload_n hC dX1_tightenStart_37 rfl 0 rfl ?_
        refine g_iconst hC dX1_tightenStart_38 ?_
        refine x_put_startBad hC rfl rfl dX1_tightenStart_39 ?_
        exact hret _ _ (sT, 1) dX1_tightenStart_42 (tS_bad hS c4 hi hj (by omega))
    · exact hret _ _ (sT, sb) dX1_tightenStart_21 (tS_any hS c4 hi hj (by omega))
theorem gi_X_copyOn : gI yX1_copyOn RX1 cX1_copyOn 3 none 1 := ⟨q154, qs8, q24, q155, by decide, by decide +kernel⟩
set_option maxHeartbeats 4000000 in
theorem met_X_copyOn (l : Launch) (D : va_G) (o : gO) (eE eB eL sZ dE dB dL sT mX tN : Int → Int) (n ct ds ac sk sb be : Int) (d : Int) (hd : 0 ≤ d ∧ d ≤ 7) : gMetV l yX1_copyOn cX1_copyOn 3 0 D [(o.1, .int)] (wX o (eE, eB, eL, sZ, dE, dB, dL, sT, mX, tN, n, ct, ds, ac, sk, sb, be)) [Value.ref o.2.1, vI d] (fun (mX' : (Int → Int)) => (∀ m : Int, 0 ≤ m → m < 25 → mX' (25 * d + 25 + m) = mX (25 * d + m)) ∧ ∀ m : Int, m < 25 * d + 25 ∨ 25 * d + 50 ≤ m → mX' m = mX m) (fun (mX' : (Int → Int)) => (wX o (eE, eB, eL, sZ, dE, dB, dL, sT, mX', tN, n, ct, ds, ac, sk, sb, be))) := by
  refine g_metV (by decide) (Nat.le_of_ble_eq_true rfl) ?_
  intro k hC hret
  have hC : gC k cX1_copyOn RX1 [(o.1, .int)] 0 3 := hC
  show gW k (wX o (eE, eB, eL, sZ, dE, dB, dL, sT, mX, tN, n, ct, ds, ac, sk, sb, be)) 0 [(0, Value.ref (o.2.1)), (1, vI d)] []
  refine g_iconst hC dX1_copyOn_0 ?_
  refine g_istore_n hC [(2, vI 0), (0, Value.ref (o.2.1)), (1, vI d)] dX1_copyOn_1 rfl (by decide) rfl ?_
  have loop2 : ∀ (N : Nat) (m : Int) (mXx : Int → Int) (hm2 : 0 ≤ 25 - m ∧ 25 - m < (N : Int)) (hm : 0 ≤ m ∧ m ≤ 25) (hA : ∀ r : Int, 0 ≤ r → r < m → mXx (25 * d + 25 + r) = mX (25 * d + r)) (hB : ∀ r : Int, r < 25 * d + 25 ∨ 25 * d + 25 + m ≤ r → mXx r = mX r), gW k (wX o (eE, eB, eL, sZ, dE, dB, dL, sT, mXx, tN, n, ct, ds, ac, sk, sb, be)) 2 [(0, Value.ref (o.2.1)), (1, vI d), (2, vI m)] [] := by
    intro N
    induction N with
    | zero =>
      intro m mXx hm2
      exfalso
      omega
    | succ N ih2 =>
      intro m mXx hm2 hm hA hB
      refine g_iload_n hC dX1_copyOn_2 rfl 2 rfl ?_
      refine g_bipush hC dX1_copyOn_3 (by decide) ?_
      refine g_icmp_ge hC 39 dX1_copyOn_5 (by decide) (by omega) (by omega) (fun c5 => ?_) (fun c5 => ?_)
      · exact hret _ _ (mXx) dX1_copyOn_39 (⟨fun r r0 r1 => hA r r0 (by omega), fun r r0 => hB r (by omega)⟩)
      · refine g_aload_n hC dX1_copyOn_8 rfl 0 rfl ?_
        refine x_get_matrix hC dX1_copyOn_9 ?_
        refine g_bipush hC dX1_copyOn_12 (by decide) ?_
        refine g_iload_n hC dX1_copyOn_14 rfl 1 rfl ?_
        refine g_imul hC dX1_copyOn_15 ?_
        refine g_bipush hC dX1_copyOn_16 (by decide) ?_
        refine g_iadd hC dX1_copyOn_18 ?_
        refine g_iload_n hC dX1_copyOn_19 rfl 2 rfl ?_
        refine g_iadd hC dX1_copyOn_20 ?_
        refine g_aload_n hC dX1_copyOn_21 rfl 0 rfl ?_
        refine x_get_matrix hC dX1_copyOn_22 ?_
        refine g_bipush hC dX1_copyOn_25 (by decide) ?_
        refine g_iload_n hC dX1_copyOn_27 rfl 1 rfl ?_
        refine g_imul hC dX1_copyOn_28 ?_
        refine g_iload_n hC dX1_copyOn_29 rfl 2 rfl ?_
        refine g_iadd hC dX1_copyOn_30 ?_
        refine x_ld_matrix hC (by omega) dX1_copyOn_31 ?_
        refine x_st_matrix hC (by omega) dX1_copyOn_32 (fun mX_32 emX_32 => ?_)
        refine g_iinc hC [(2, vI (m + 1)), (0, Value.ref (o.2.1)), (1, vI d)] dX1_copyOn_33 2 rfl (by decide) rfl ?_
        refine g_goto hC 2 dX1_copyOn_36 (by decide) ?_
        refine g_lv [1, 2, 0] rfl ?_
        exact ih2 (m + 1) mX_32 ⟨by omega, by omega⟩ (by omega) (cpo_A hA (hB _ (by omega)) emX_32) (cpo_B (by omega) hB emX_32)
  refine g_lv [1, 2, 0] rfl ?_
  exact loop2 ((25 - 0 : Int) + 1).toNat 0 mX ⟨by omega, by omega⟩ (by omega) (i_l0) (fun r _ => rfl)
theorem gi_X_tighten : gI yX1_tighten RX1 cX1_tighten 11 none 4 := ⟨q158, qs9, q24, q159, by decide, by decide +kernel⟩
set_option maxHeartbeats 4000000 in
theorem met_X_tighten (l : Launch) (D : va_G) (o : gO) (eE eB eL sZ dE dB dL sT mX tN : Int → Int) (n ct ds ac sk sb be : Int) (d i j lim : Int) (hd : 1 ≤ d ∧ d ≤ 8) (hi : 0 ≤ i ∧ i ≤ 4) (hj : 0 ≤ j ∧ j ≤ 4) (hl : -10 ≤ lim ∧ lim ≤ 10) (hc : clo mX (25 * d - 25)) (hcp : ∀ r : Int, 0 ≤ r → r < 25 → mX (25 * d + r) = mX (25 * d - 25 + r)) : gMetV l yX1_tighten cX1_tighten 11 0 D [(o.1, .int)] (wX o (eE, eB, eL, sZ, dE, dB, dL, sT, mX, tN, n, ct, ds, ac, sk, sb, be)) [Value.ref o.2.1, vI d, vI i, vI j, vI lim] (fun (mX' : (Int → Int)) => (∀ p q : Int, 0 ≤ p → p < 5 → 0 ≤ q → q < 5 → mX' (25 * d + 5 * p + q) = tgt mX (25 * d - 25) i j lim p q) ∧ ∀ m : Int, m < 25 * d ∨ 25 * d + 25 ≤ m → mX' m = mX m) (fun (mX' : (Int → Int)) => (wX o (eE, eB, eL, sZ, dE, dB, dL, sT, mX', tN, n, ct, ds, ac, sk, sb, be))) := by
  refine g_metV (by decide) (Nat.le_of_ble_eq_true rfl) ?_
  intro k hC hret
  have hC : gC k cX1_tighten RX1 [(o.1, .int)] 0 11 := hC
  show gW k (wX o (eE, eB, eL, sZ, dE, dB, dL, sT, mX, tN, n, ct, ds, ac, sk, sb, be)) 0 [(0, Value.ref (o.2.1)), (1, vI d), (2, vI i), (3, vI j), (4, vI lim)] []
  refine g_bipush hC dX1_tighten_0 (by decide) ?_
  refine g_iload_n hC dX1_tighten_2 rfl 1 rfl ?_
  refine g_imul hC dX1_tighten_3 ?_
  refine g_istore hC [(5, vI (25 * d)), (0, Value.ref (o.2.1)), (1, vI d), (2, vI i), (3, vI j), (4, vI lim)] dX1_tighten_4 (by decide) rfl ?_
  refine g_iload hC dX1_tighten_6 0 rfl ?_
  refine g_bipush hC dX1_tighten_8 (by decide) ?_
  refine g_isub hC dX1_tighten_10 ?_
  refine g_istore hC [(6, vI ((25 * d) - 25)), (5, vI (25 * d)), (0, Value.ref (o.2.1)), (1, vI d), (2, vI i), (3, vI j), (4, vI lim)] dX1_tighten_11 (by decide) rfl ?_
  refine g_iconst hC dX1_tighten_13 ?_
  refine g_istore hC [(7, vI 0), (6, vI ((25 * d) - 25)), (5, vI (25 * d)), (0, Value.ref (o.2.1)), (1, vI d), (2, vI i), (3, vI j), (4, vI lim)] dX1_tighten_14 (by decide) rfl ?_
  have loop16 : ∀ (N : Nat) (m : Int) (mXx : Int → Int) (hm16 : 0 ≤ 25 - m ∧ 25 - m < (N : Int)) (hm : 0 ≤ m ∧ m ≤ 25) (hA : ∀ r : Int, 0 ≤ r → r < 25 → mXx (25 * d + r) = if r < m then tgt mX (25 * d - 25) i j lim (r / 5) (r % 5) else mX (25 * d - 25 + r)) (hB : ∀ r : Int, r < 25 * d ∨ 25 * d + 25 ≤ r → mXx r = mX r), gW k (wX o (eE, eB, eL, sZ, dE, dB, dL, sT, mXx, tN, n, ct, ds, ac, sk, sb, be)) 16 [(0, Value.ref (o.2.1)), (1, vI d), (2, vI i), (3, vI j), (4, vI lim), (5, vI (25 * d)), (6, vI ((25 * d) - 25)), (7, vI m)] [] := by
    intro N
    induction N with
    | zero =>
      intro m mXx hm16
      exfalso
      omega
    | succ N ih16 =>
      intro m mXx hm16 hm hA hB
      refine g_iload hC dX1_tighten_16 7 rfl ?_
      refine g_bipush hC dX1_tighten_18 (by decide) ?_
      refine g_icmp_ge hC 102 dX1_tighten_20 (by decide) (by omega) (by omega) (fun c20 => ?_) (fun c20 => ?_)
      · exact hret _ _ (mXx) dX1_tighten_102 (⟨fun p q p0 p1 q0 q1 => by have h1 := hA (5 * p + q) (by omega) (by omega); rw [if_pos (by omega), show (5 * p + q) / 5 = p by omega, show (5 * p + q) % 5 = q by omega, show 25 * d + (5 * p + q) = 25 * d + 5 * p + q by omega] at h1; exact h1, hB⟩)
      · have e1 := hB (25 * d - 25 + 5 * (m / 5) + i) (by omega)
        have e2 := hB (25 * d - 25 + 5 * j + m % 5) (by omega)
        have e3 := hA m (by omega) (by omega)
        rw [if_neg (by omega)] at e3
        have r1 := clo_rg hc (i := m / 5) (j := i) (by omega) (by omega) (by omega) (by omega)
        have r2 := clo_rg hc (i := j) (j := m % 5) (by omega) (by omega) (by omega) (by omega)
        have r3 := clo_rg hc (i := m / 5) (j := m % 5) (by omega) (by omega) (by omega) (by omega)
        have e4 : mX (25 * d - 25 + m) = mX (25 * d - 25 + 5 * (m / 5) + m % 5) := ix5 (25 * d - 25) m (by omega)
        refine g_iload hC dX1_tighten_23 7 rfl ?_
        refine g_iconst hC dX1_tighten_25 ?_
        refine g_idiv hC (by omega) (by omega) dX1_tighten_26 ?_
        refine g_istore hC [(8, vI (m / 5)), (0, Value.ref (o.2.1)), (1, vI d), (2, vI i), (3, vI j), (4, vI lim), (5, vI (25 * d)), (6, vI ((25 * d) - 25)), (7, vI m)] dX1_tighten_27 (by decide) rfl ?_
        refine g_iload hC dX1_tighten_29 8 rfl ?_
        refine g_iconst hC dX1_tighten_31 ?_
        refine g_irem hC (by omega) (by omega) dX1_tighten_32 ?_
        refine g_istore hC [(9, vI (m % 5)), (8, vI (m / 5)), (0, Value.ref (o.2.1)), (1, vI d), (2, vI i), (3, vI j), (4, vI lim), (5, vI (25 * d)), (6, vI ((25 * d) - 25)), (7, vI m)] dX1_tighten_33 (by decide) rfl ?_
        refine g_aload_n hC dX1_tighten_35 rfl 2 rfl ?_
        refine x_get_matrix hC dX1_tighten_36 ?_
        refine g_iload hC dX1_tighten_39 8 rfl ?_
        refine g_iconst hC dX1_tighten_41 ?_
        refine g_iload hC dX1_tighten_42 1 rfl ?_
        refine g_imul hC dX1_tighten_44 ?_
        refine g_iadd hC dX1_tighten_45 ?_
        refine g_iload_n hC dX1_tighten_46 rfl 4 rfl ?_
        refine g_iadd hC dX1_tighten_47 ?_
        refine x_ld_matrix hC (by omega) dX1_tighten_48 ?_
        refine g_iload hC dX1_tighten_49 6 rfl ?_
        refine g_iadd hC dX1_tighten_51 ?_
        refine g_aload_n hC dX1_tighten_52 rfl 2 rfl ?_
        refine x_get_matrix hC dX1_tighten_53 ?_
        refine g_iload hC dX1_tighten_56 8 rfl ?_
        refine g_iconst hC dX1_tighten_58 ?_
        refine g_iload_n hC dX1_tighten_59 rfl 5 rfl ?_
        refine g_imul hC dX1_tighten_60 ?_
        refine g_iadd hC dX1_tighten_61 ?_
        refine g_iload hC dX1_tighten_62 0 rfl ?_
        refine g_iadd hC dX1_tighten_64 ?_
        refine x_ld_matrix hC (by omega) dX1_tighten_65 ?_
        refine g_iadd hC dX1_tighten_66 ?_
        refine g_istore hC [(10, vI (((mXx ((((25 * d) - 25) + (5 * (m / 5))) + i)) + lim) + (mXx ((((25 * d) - 25) + (5 * j)) + (m % 5))))), (9, vI (m % 5)), (8, vI (m / 5)), (0, Value.ref (o.2.1)), (1, vI d), (2, vI i), (3, vI j), (4, vI lim), (5, vI (25 * d)), (6, vI ((25 * d) - 25)), (7, vI m)] dX1_tighten_67 (by decide) rfl ?_
        refine g_iload hC dX1_tighten_69 0 rfl ?_
        refine g_aload_n hC dX1_tighten_71 rfl 3 rfl ?_
        refine x_get_matrix hC dX1_tighten_72 ?_
        refine g_iload hC dX1_tighten_75 8 rfl ?_
        refine g_iload hC dX1_tighten_77 10 rfl ?_
        refine g_iadd hC dX1_tighten_79 ?_
        refine x_ld_matrix hC (by omega) dX1_tighten_80 ?_
        refine g_icmp_ge hC 96 dX1_tighten_81 (by decide) (by omega) (by omega) (fun c81 => ?_) (fun c81 => ?_)
        · refine g_iinc hC [(7, vI (m + 1)), (10, vI (((mXx ((((25 * d) - 25) + (5 * (m / 5))) + i)) + lim) + (mXx ((((25 * d) - 25) + (5 * j)) + (m % 5))))), (9, vI (m % 5)), (8, vI (m / 5)), (0, Value.ref (o.2.1)), (1, vI d), (2, vI i), (3, vI j), (4, vI lim), (5, vI (25 * d)), (6, vI ((25 * d) - 25))] dX1_tighten_96 10 rfl (by decide) rfl ?_
          refine g_goto hC 16 dX1_tighten_99 (by decide) ?_
          refine g_lv [4, 5, 6, 7, 8, 9, 10, 0] rfl ?_
          exact ih16 (m + 1) mXx ⟨by omega, by omega⟩ (by omega) (tg_A0 hA (tgt_ge e4 (by omega))) (hB)
        · refine g_aload_n hC dX1_tighten_84 rfl 3 rfl ?_
          refine x_get_matrix hC dX1_tighten_85 ?_
          refine g_iload hC dX1_tighten_88 8 rfl ?_
          refine g_iload hC dX1_tighten_90 10 rfl ?_
          refine g_iadd hC dX1_tighten_92 ?_
          refine g_iload hC dX1_tighten_93 0 rfl ?_
          refine x_st_matrix hC (by omega) dX1_tighten_95 (fun mX_95 emX_95 => ?_)
          refine g_iinc hC [(7, vI (m + 1)), (10, vI (((mXx ((((25 * d) - 25) + (5 * (m / 5))) + i)) + lim) + (mXx ((((25 * d) - 25) + (5 * j)) + (m % 5))))), (9, vI (m % 5)), (8, vI (m / 5)), (0, Value.ref (o.2.1)), (1, vI d), (2, vI i), (3, vI j), (4, vI lim), (5, vI (25 * d)), (6, vI ((25 * d) - 25))] dX1_tighten_96 10 rfl (by decide) rfl ?_
          refine g_goto hC 16 dX1_tighten_99 (by decide) ?_
          refine g_lv [4, 5, 6, 7, 8, 9, 10, 0] rfl ?_
          exact ih16 (m + 1) mX_95 ⟨by omega, by omega⟩ (by omega) (tg_A hA (tgt_lt (by omega) (by omega)) emX_95) (tg_B (by omega) hB emX_95)
  refine g_lv [3, 4, 5, 6, 7, 2, 1, 0] rfl ?_
  exact loop16 ((25 - 0 : Int) + 1).toNat 0 mX ⟨by omega, by omega⟩ (by omega) (fun r r0 r1 => by rw [if_neg (by omega)]; exact hcp r r0 r1) (fun r _ => rfl)
end
section
/-! CLASS: mutators -/
set_option maxRecDepth 100000
theorem gi_X_alternative : gI yX1_alternative RX1 cX1_alternative 4 (some .int) 3 := ⟨q92, q93, q24, q94, by decide, by decide +kernel⟩
set_option maxHeartbeats 4000000 in
theorem met_X_alternative (l : Launch) (D : va_G) (o : gO) (eE eB eL sZ dE dB dL sT mX tN : Int → Int) (n ct ds ac sk sb be : Int) (i j m : Int) (hn : 2 ≤ n ∧ n ≤ 4) (hi : -2147483648 ≤ i ∧ i < 2147483648) (hj : -2147483648 ≤ j ∧ j < 2147483648) (hk : -2147483648 ≤ m ∧ m < 2147483648) (hds : 0 ≤ ds ∧ ds ≤ 3) : gMetI l yX1_alternative cX1_alternative 4 .int 1 D [(o.1, .int)] (wX o (eE, eB, eL, sZ, dE, dB, dL, sT, mX, tN, n, ct, ds, ac, sk, sb, be)) [Value.ref o.2.1, vI i, vI j, vI m] (fun (z : Int) (u : (Int → Int) × (Int → Int) × (Int → Int) × Int) => match u with | (dE', dB', dL', ds') => z = altZ n ds i j m ∧ ((z < 0 ∧ dE' = dE ∧ dB' = dB ∧ dL' = dL ∧ ds' = ds) ∨ (z = ds + 1 ∧ (0 ≤ i ∧ i ≤ n ∧ 0 ≤ j ∧ j ≤ n ∧ i ≠ j ∧ -10 ≤ m ∧ m ≤ 10 ∧ ds < 3) ∧ ds' = ds + 1 ∧ dE' = iU dE ds i ∧ dB' = iU dB ds j ∧ dL' = iU dL ds m))) (fun (u : (Int → Int) × (Int → Int) × (Int → Int) × Int) => match u with | (dE', dB', dL', ds') => (wX o (eE, eB, eL, sZ, dE', dB', dL', sT, mX, tN, n, ct, ds', ac, sk, sb, be))) := by
  refine g_metI (by decide) (Nat.le_of_ble_eq_true rfl) ?_
  intro k hC hret
  have hC : gC k cX1_alternative RX1 [(o.1, .int)] 1 4 := hC
  show gW k (wX o (eE, eB, eL, sZ, dE, dB, dL, sT, mX, tN, n, ct, ds, ac, sk, sb, be)) 0 [(0, Value.ref (o.2.1)), (1, vI i), (2, vI j), (3, vI m)] []
  refine g_aload_n hC dX1_alternative_0 rfl 0 rfl ?_
  refine g_iload_n hC dX1_alternative_1 rfl 1 rfl ?_
  refine x_callI hC gi_X_isPoint q95 (met_X_isPoint _ _ o _ _ _ _ _ _ _ _ _ _ _ _ _ _ _ _ _ i (by omega) (by omega)) (by decide) rfl rfl (Nat.le_of_ble_eq_true rfl) dX1_alternative_2 (fun z2 _ rz2 h2 => ?_)
  have b2 : (z2 = 1 ∧ (0 ≤ i ∧ i ≤ n)) ∨ (z2 = 0 ∧ ¬ (0 ≤ i ∧ i ≤ n)) := h2
  refine g_if_eq hC 16 dX1_alternative_5 (by decide) (by omega) (fun c5 => ?_) (fun c5 => ?_)
  · refine g_iconst hC dX1_alternative_16 ?_
    exact hret _ _ (-1) (dE, dB, dL, ds) dX1_alternative_17 (rfl) (by omega) (⟨by unfold altZ; (repeat' split) <;> omega, Or.inl ⟨by omega, rfl, rfl, rfl, rfl⟩⟩)
  · refine g_aload_n hC dX1_alternative_8 rfl 0 rfl ?_
    refine g_iload_n hC dX1_alternative_9 rfl 2 rfl ?_
    refine x_callI hC gi_X_isPoint q95 (met_X_isPoint _ _ o _ _ _ _ _ _ _ _ _ _ _ _ _ _ _ _ _ j (by omega) (by omega)) (by decide) rfl rfl (Nat.le_of_ble_eq_true rfl) dX1_alternative_10 (fun z10 _ rz10 h10 => ?_)
    have b10 : (z10 = 1 ∧ (0 ≤ j ∧ j ≤ n)) ∨ (z10 = 0 ∧ ¬ (0 ≤ j ∧ j ≤ n)) := h10
    refine g_if_ne hC 18 dX1_alternative_13 (by decide) (by omega) (fun c13 => ?_) (fun c13 => ?_)
    · refine g_iload_n hC dX1_alternative_18 rfl 1 rfl ?_
      refine g_iload_n hC dX1_alternative_19 rfl 2 rfl ?_
      refine g_icmp_ne hC 26 dX1_alternative_20 (by decide) (by omega) (by omega) (fun c20 => ?_) (fun c20 => ?_)
      · refine g_iload_n hC dX1_alternative_26 rfl 3 rfl ?_
        refine g_bipush hC dX1_alternative_27 (by decide) ?_
        refine g_icmp_lt hC 38 dX1_alternative_29 (by decide) (by omega) (by omega) (fun c29 => ?_) (fun c29 => ?_)
        · refine g_bipush hC dX1_alternative_38 (by decide) ?_
          exact hret _ _ (-3) (dE, dB, dL, ds) dX1_alternative_40 (rfl) (by omega) (⟨by unfold altZ; (repeat' split) <;> omega, Or.inl ⟨by omega, rfl, rfl, rfl, rfl⟩⟩)
        · refine g_iload_n hC dX1_alternative_32 rfl 3 rfl ?_
          refine g_bipush hC dX1_alternative_33 (by decide) ?_
          refine g_icmp_le hC 41 dX1_alternative_35 (by decide) (by omega) (by omega) (fun c35 => ?_) (fun c35 => ?_)
          · refine g_aload_n hC dX1_alternative_41 rfl 0 rfl ?_
            refine x_get_draftSize hC dX1_alternative_42 ?_
            refine g_iconst hC dX1_alternative_45 ?_
            refine g_icmp_ne hC 52 dX1_alternative_46 (by decide) (by omega) (by omega) (fun c46 => ?_) (fun c46 => ?_)
            · refine g_aload_n hC dX1_alternative_52 rfl 0 rfl ?_
              refine x_get_draftEnd hC dX1_alternative_53 ?_
              refine g_aload_n hC dX1_alternative_56 rfl 0 rfl ?_
              refine x_get_draftSize hC dX1_alternative_57 ?_
              refine g_iload_n hC dX1_alternative_60 rfl 1 rfl ?_
              refine x_st_draftEnd hC (by omega) dX1_alternative_61 (fun dE_61 edE_61 => ?_)
              refine g_aload_n hC dX1_alternative_62 rfl 0 rfl ?_
              refine x_get_draftBegin hC dX1_alternative_63 ?_
              refine g_aload_n hC dX1_alternative_66 rfl 0 rfl ?_
              refine x_get_draftSize hC dX1_alternative_67 ?_
              refine g_iload_n hC dX1_alternative_70 rfl 2 rfl ?_
              refine x_st_draftBegin hC (by omega) dX1_alternative_71 (fun dB_71 edB_71 => ?_)
              refine g_aload_n hC dX1_alternative_72 rfl 0 rfl ?_
              refine x_get_draftLimit hC dX1_alternative_73 ?_
              refine g_aload_n hC dX1_alternative_76 rfl 0 rfl ?_
              refine x_get_draftSize hC dX1_alternative_77 ?_
              refine g_iload_n hC dX1_alternative_80 rfl 3 rfl ?_
              refine x_st_draftLimit hC (by omega) dX1_alternative_81 (fun dL_81 edL_81 => ?_)
              refine g_aload_n hC dX1_alternative_82 rfl 0 rfl ?_
              refine g_dup hC rfl dX1_alternative_83 ?_
              refine x_get_draftSize hC dX1_alternative_84 ?_
              refine g_iconst hC dX1_alternative_87 ?_
              refine g_iadd hC dX1_alternative_88 ?_
              refine x_put_draftSize hC dX1_alternative_89 ?_
              refine g_aload_n hC dX1_alternative_92 rfl 0 rfl ?_
              refine x_get_draftSize hC dX1_alternative_93 ?_
              exact hret _ _ (ds + 1) (dE_61, dB_71, dL_81, (ds + 1)) dX1_alternative_96 (rfl) (by omega) (⟨by unfold altZ; (repeat' split) <;> omega, Or.inr ⟨by omega, by omega, by omega, edE_61, edB_71, edL_81⟩⟩)
            · refine g_bipush hC dX1_alternative_49 (by decide) ?_
              exact hret _ _ (-4) (dE, dB, dL, ds) dX1_alternative_51 (rfl) (by omega) (⟨by unfold altZ; (repeat' split) <;> omega, Or.inl ⟨by omega, rfl, rfl, rfl, rfl⟩⟩)
          · refine g_bipush hC dX1_alternative_38 (by decide) ?_
            exact hret _ _ (-3) (dE, dB, dL, ds) dX1_alternative_40 (rfl) (by omega) (⟨by unfold altZ; (repeat' split) <;> omega, Or.inl ⟨by omega, rfl, rfl, rfl, rfl⟩⟩)
      · refine g_bipush hC dX1_alternative_23 (by decide) ?_
        exact hret _ _ (-2) (dE, dB, dL, ds) dX1_alternative_25 (rfl) (by omega) (⟨by unfold altZ; (repeat' split) <;> omega, Or.inl ⟨by omega, rfl, rfl, rfl, rfl⟩⟩)
    · refine g_iconst hC dX1_alternative_16 ?_
      exact hret _ _ (-1) (dE, dB, dL, ds) dX1_alternative_17 (rfl) (by omega) (⟨by unfold altZ; (repeat' split) <;> omega, Or.inl ⟨by omega, rfl, rfl, rfl, rfl⟩⟩)
theorem gi_X_add : gI yX1_add RX1 cX1_add 2 (some .int) 0 := ⟨q104, q105, q24, q106, by decide, by decide +kernel⟩
set_option maxHeartbeats 4000000 in
theorem met_X_add (l : Launch) (D : va_G) (o : gO) (eE eB eL sZ dE dB dL sT mX tN : Int → Int) (n ct ds ac sk sb be : Int) (hds : 0 ≤ ds ∧ ds ≤ 3) (hct : 0 ≤ ct ∧ ct ≤ 8) : gMetI l yX1_add cX1_add 2 .int 1 D [(o.1, .int)] (wX o (eE, eB, eL, sZ, dE, dB, dL, sT, mX, tN, n, ct, ds, ac, sk, sb, be)) [Value.ref o.2.1] (fun (z : Int) (u : (Int → Int) × (Int → Int) × (Int → Int) × (Int → Int) × Int × Int) => match u with | (eE', eB', eL', sZ', ds', ct') => (z = (if ds = 0 then -1 else -2) ∧ (ds = 0 ∨ ct = 8) ∧ eE' = eE ∧ eB' = eB ∧ eL' = eL ∧ sZ' = sZ ∧ ds' = ds ∧ ct' = ct) ∨ (z = ct + 1 ∧ ds ≠ 0 ∧ ct < 8 ∧ eE' = pu eE dE (3 * ct) ds ∧ eB' = pu eB dB (3 * ct) ds ∧ eL' = pu eL dL (3 * ct) ds ∧ sZ' = iU sZ ct ds ∧ ds' = 0 ∧ ct' = ct + 1)) (fun (u : (Int → Int) × (Int → Int) × (Int → Int) × (Int → Int) × Int × Int) => match u with | (eE', eB', eL', sZ', ds', ct') => (wX o (eE', eB', eL', sZ', dE, dB, dL, sT, mX, tN, n, ct', ds', ac, sk, sb, be))) := by
  refine g_metI (by decide) (Nat.le_of_ble_eq_true rfl) ?_
  intro k hC hret
  have hC : gC k cX1_add RX1 [(o.1, .int)] 1 2 := hC
  show gW k (wX o (eE, eB, eL, sZ, dE, dB, dL, sT, mX, tN, n, ct, ds, ac, sk, sb, be)) 0 [(0, Value.ref (o.2.1))] []
  refine g_aload_n hC dX1_add_0 rfl 0 rfl ?_
  refine x_get_draftSize hC dX1_add_1 ?_
  refine g_if_ne hC 9 dX1_add_4 (by decide) (by omega) (fun c4 => ?_) (fun c4 => ?_)
  · refine g_aload_n hC dX1_add_9 rfl 0 rfl ?_
    refine x_get_count hC dX1_add_10 ?_
    refine g_bipush hC dX1_add_13 (by decide) ?_
    refine g_icmp_ne hC 21 dX1_add_15 (by decide) (by omega) (by omega) (fun c15 => ?_) (fun c15 => ?_)
    · refine g_aload_n hC dX1_add_21 rfl 0 rfl ?_
      refine x_get_sizes hC dX1_add_22 ?_
      refine g_aload_n hC dX1_add_25 rfl 0 rfl ?_
      refine x_get_count hC dX1_add_26 ?_
      refine g_iconst hC dX1_add_29 ?_
      refine x_st_sizes hC (by omega) dX1_add_30 (fun sZ_30 esZ_30 => ?_)
      refine g_iconst hC dX1_add_31 ?_
      refine g_istore_n hC [(1, vI 0), (0, Value.ref (o.2.1))] dX1_add_32 rfl (by decide) rfl ?_
      have loop33 : ∀ (N : Nat) (a : Int) (eEx : Int → Int) (eBx : Int → Int) (eLx : Int → Int) (sZx : Int → Int) (hm33 : 0 ≤ ds - a ∧ ds - a < (N : Int)) (ha : 0 ≤ a ∧ a ≤ ds) (i1 : eEx = pu eE dE (3 * ct) a) (i2 : eBx = pu eB dB (3 * ct) a) (i3 : eLx = pu eL dL (3 * ct) a) (i0 : sZx = iU sZ ct a), gW k (wX o (eEx, eBx, eLx, sZx, dE, dB, dL, sT, mX, tN, n, ct, ds, ac, sk, sb, be)) 33 [(0, Value.ref (o.2.1)), (1, vI a)] [] := by
        intro N
        induction N with
        | zero =>
          intro a eEx eBx eLx sZx hm33
          exfalso
          omega
        | succ N ih33 =>
          intro a eEx eBx eLx sZx hm33 ha i1 i2 i3 i0
          refine g_iload_n hC dX1_add_33 rfl 1 rfl ?_
          refine g_aload_n hC dX1_add_34 rfl 0 rfl ?_
          refine x_get_draftSize hC dX1_add_35 ?_
          refine g_icmp_ge hC 69 dX1_add_38 (by decide) (by omega) (by omega) (fun c38 => ?_) (fun c38 => ?_)
          · refine g_aload_n hC dX1_add_69 rfl 0 rfl ?_
            refine g_iconst hC dX1_add_70 ?_
            refine x_put_draftSize hC dX1_add_71 ?_
            refine g_aload_n hC dX1_add_74 rfl 0 rfl ?_
            refine g_dup hC rfl dX1_add_75 ?_
            refine x_get_count hC dX1_add_76 ?_
            refine g_iconst hC dX1_add_79 ?_
            refine g_iadd hC dX1_add_80 ?_
            refine x_put_count hC dX1_add_81 ?_
            refine g_aload_n hC dX1_add_84 rfl 0 rfl ?_
            refine x_get_count hC dX1_add_85 ?_
            exact hret _ _ (ct + 1) (eEx, eBx, eLx, sZx, 0, (ct + 1)) dX1_add_88 (rfl) (by omega) (by have e3 : ds = a := (by omega); rw [e3]; exact Or.inr ⟨rfl, by omega, by omega, i1, i2, i3, i0, rfl, rfl⟩)
          · have z0 : sZx ct = a := by rw [i0]; exact iU_s
            refine g_aload_n hC dX1_add_41 rfl 0 rfl ?_
            refine g_aload_n hC dX1_add_42 rfl 0 rfl ?_
            refine x_get_draftEnd hC dX1_add_43 ?_
            refine g_iload_n hC dX1_add_46 rfl 1 rfl ?_
            refine x_ld_draftEnd hC (by omega) dX1_add_47 ?_
            refine g_aload_n hC dX1_add_48 rfl 0 rfl ?_
            refine x_get_draftBegin hC dX1_add_49 ?_
            refine g_iload_n hC dX1_add_52 rfl 1 rfl ?_
            refine x_ld_draftBegin hC (by omega) dX1_add_53 ?_
            refine g_aload_n hC dX1_add_54 rfl 0 rfl ?_
            refine x_get_draftLimit hC dX1_add_55 ?_
            refine g_iload_n hC dX1_add_58 rfl 1 rfl ?_
            refine x_ld_draftLimit hC (by omega) dX1_add_59 ?_
            refine x_callV hC gi_X_offer q107 (met_X_offer _ _ o _ _ _ _ _ _ _ _ _ _ _ _ _ _ _ _ _ (dE a) (dB a) (dL a) (by omega) (by omega)) (by decide) rfl rfl (Nat.le_of_ble_eq_true rfl) dX1_add_60 (fun u h60 => ?_)
            obtain ⟨eE_60, eB_60, eL_60, sZ_60⟩ := u
            show gW k (wX o (eE_60, eB_60, eL_60, sZ_60, dE, dB, dL, sT, mX, tN, n, ct, ds, ac, sk, sb, be)) 63 [(0, Value.ref (o.2.1)), (1, vI a)] []
            obtain ⟨k1, k2, k3, k4⟩ := h60
            rw [z0] at k1 k2 k3 k4
            refine g_iinc hC [(1, vI (a + 1)), (0, Value.ref (o.2.1))] dX1_add_63 1 rfl (by decide) rfl ?_
            refine g_goto hC 33 dX1_add_66 (by decide) ?_
            refine g_lv [1, 0] rfl ?_
            exact ih33 (a + 1) eE_60 eB_60 eL_60 sZ_60 ⟨by omega, by omega⟩ (by omega) (pu_s i1 ha.1 k1) (pu_s i2 ha.1 k2) (pu_s i3 ha.1 k3) (iU_2 i0 k4)
      refine g_lv [1, 0] rfl ?_
      exact loop33 ((ds - 0 : Int) + 1).toNat 0 eE eB eL sZ_30 ⟨by omega, by omega⟩ (by omega) (pu_0 _ _ _) (pu_0 _ _ _) (pu_0 _ _ _) (esZ_30)
    · refine g_bipush hC dX1_add_18 (by decide) ?_
      exact hret _ _ (-2) (eE, eB, eL, sZ, ds, ct) dX1_add_20 (rfl) (by omega) (Or.inl ⟨by rw [if_neg (by omega)], by omega, rfl, rfl, rfl, rfl, rfl, rfl⟩)
  · refine g_iconst hC dX1_add_7 ?_
    exact hret _ _ (-1) (eE, eB, eL, sZ, ds, ct) dX1_add_8 (rfl) (by omega) (Or.inl ⟨by rw [if_pos (by omega)], by omega, rfl, rfl, rfl, rfl, rfl, rfl⟩)
end
section
/-! CLASS: mutators, 2 -/
set_option maxRecDepth 100000
theorem gi_X_apart : gI yX1_apart RX1 cX1_apart 6 (some .int) 3 := ⟨q112, q113, q24, q114, by decide, by decide +kernel⟩
set_option maxHeartbeats 4000000 in
theorem met_X_apart (l : Launch) (D : va_G) (o : gO) (eE eB eL sZ dE dB dL sT mX tN : Int → Int) (n ct ds ac sk sb be : Int) (pair gap span : Int) (hn : 2 ≤ n ∧ n ≤ 4) (hi : -2147483648 ≤ pair ∧ pair < 2147483648) (hj : -2147483648 ≤ gap ∧ gap < 2147483648) (hk : -2147483648 ≤ span ∧ span < 2147483648) (hct : 0 ≤ ct ∧ ct ≤ 8) : gMetI l yX1_apart cX1_apart 6 .int 1 D [(o.1, .int)] (wX o (eE, eB, eL, sZ, dE, dB, dL, sT, mX, tN, n, ct, ds, ac, sk, sb, be)) [Value.ref o.2.1, vI pair, vI gap, vI span] (fun (z : Int) (u : (Int → Int) × (Int → Int) × (Int → Int) × (Int → Int) × Int) => match u with | (sZ', eE', eB', eL', ct') => z = apZ n ct pair gap span ∧ ((z < 0 ∧ sZ' = sZ ∧ eE' = eE ∧ eB' = eB ∧ eL' = eL ∧ ct' = ct) ∨ (z = ct + 3 ∧ ct' = ct + 3 ∧ apS n ct (pair / 8) (pair % 8) gap span sZ eE eB eL sZ' eE' eB' eL'))) (fun (u : (Int → Int) × (Int → Int) × (Int → Int) × (Int → Int) × Int) => match u with | (sZ', eE', eB', eL', ct') => (wX o (eE', eB', eL', sZ', dE, dB, dL, sT, mX, tN, n, ct', ds, ac, sk, sb, be))) := by
  refine g_metI (by decide) (Nat.le_of_ble_eq_true rfl) ?_
  intro k hC hret
  have hC : gC k cX1_apart RX1 [(o.1, .int)] 1 6 := hC
  show gW k (wX o (eE, eB, eL, sZ, dE, dB, dL, sT, mX, tN, n, ct, ds, ac, sk, sb, be)) 0 [(0, Value.ref (o.2.1)), (1, vI pair), (2, vI gap), (3, vI span)] []
  refine g_iload_n hC dX1_apart_0 rfl 1 rfl ?_
  refine g_iconst hC dX1_apart_1 ?_
  refine g_ishr hC 1 (by omega) (by omega) (by omega) dX1_apart_2 ?_
  refine g_top (show ((pair / p8 1) : Int) = pair / 8 from by rw [p8_1]) ?_
  refine g_istore hC [(4, vI (pair / 8)), (0, Value.ref (o.2.1)), (1, vI pair), (2, vI gap), (3, vI span)] dX1_apart_3 (by decide) rfl ?_
  refine g_iload_n hC dX1_apart_5 rfl 2 rfl ?_
  refine g_bipush hC dX1_apart_6 (by decide) ?_
  refine g_iand7 hC dX1_apart_8 ?_
  refine g_istore hC [(5, vI (pair % 8)), (4, vI (pair / 8)), (0, Value.ref (o.2.1)), (1, vI pair), (2, vI gap), (3, vI span)] dX1_apart_9 (by decide) rfl ?_
  refine g_iload_n hC dX1_apart_11 rfl 3 rfl ?_
  refine g_if_lt hC 33 dX1_apart_12 (by decide) (by omega) (fun c12 => ?_) (fun c12 => ?_)
  · refine g_iconst hC dX1_apart_33 ?_
    exact hret _ _ (-1) (sZ, eE, eB, eL, ct) dX1_apart_34 (rfl) (by omega) (⟨by unfold apZ; (repeat' split) <;> omega, Or.inl ⟨by omega, rfl, rfl, rfl, rfl, rfl⟩⟩)
  · refine g_aload_n hC dX1_apart_15 rfl 2 rfl ?_
    refine g_iload hC dX1_apart_16 1 rfl ?_
    refine x_callI hC gi_X_isEvent q115 (met_X_isEvent _ _ o _ _ _ _ _ _ _ _ _ _ _ _ _ _ _ _ _ (pair / 8) (by omega) (by omega)) (by decide) rfl rfl (Nat.le_of_ble_eq_true rfl) dX1_apart_18 (fun z18 _ rz18 h18 => ?_)
    have b18 : (z18 = 1 ∧ (0 ≤ pair / 8 ∧ pair / 8 < n)) ∨ (z18 = 0 ∧ ¬ (0 ≤ pair / 8 ∧ pair / 8 < n)) := h18
    refine g_if_eq hC 33 dX1_apart_21 (by decide) (by omega) (fun c21 => ?_) (fun c21 => ?_)
    · refine g_iconst hC dX1_apart_33 ?_
      exact hret _ _ (-1) (sZ, eE, eB, eL, ct) dX1_apart_34 (rfl) (by omega) (⟨by unfold apZ; (repeat' split) <;> omega, Or.inl ⟨by omega, rfl, rfl, rfl, rfl, rfl⟩⟩)
    · refine g_aload_n hC dX1_apart_24 rfl 2 rfl ?_
      refine g_iload hC dX1_apart_25 0 rfl ?_
      refine x_callI hC gi_X_isEvent q115 (met_X_isEvent _ _ o _ _ _ _ _ _ _ _ _ _ _ _ _ _ _ _ _ (pair % 8) (by omega) (by omega)) (by decide) rfl rfl (Nat.le_of_ble_eq_true rfl) dX1_apart_27 (fun z27 _ rz27 h27 => ?_)
      have b27 : (z27 = 1 ∧ (0 ≤ pair % 8 ∧ pair % 8 < n)) ∨ (z27 = 0 ∧ ¬ (0 ≤ pair % 8 ∧ pair % 8 < n)) := h27
      refine g_if_ne hC 35 dX1_apart_30 (by decide) (by omega) (fun c30 => ?_) (fun c30 => ?_)
      · refine g_iload hC dX1_apart_35 1 rfl ?_
        refine g_iload hC dX1_apart_37 0 rfl ?_
        refine g_icmp_ne hC 45 dX1_apart_39 (by decide) (by omega) (by omega) (fun c39 => ?_) (fun c39 => ?_)
        · refine g_iload_n hC dX1_apart_45 rfl 4 rfl ?_
          refine g_if_lt hC 55 dX1_apart_46 (by decide) (by omega) (fun c46 => ?_) (fun c46 => ?_)
          · refine g_bipush hC dX1_apart_55 (by decide) ?_
            exact hret _ _ (-3) (sZ, eE, eB, eL, ct) dX1_apart_57 (rfl) (by omega) (⟨by unfold apZ; (repeat' split) <;> omega, Or.inl ⟨by omega, rfl, rfl, rfl, rfl, rfl⟩⟩)
          · refine g_iload_n hC dX1_apart_49 rfl 4 rfl ?_
            refine g_bipush hC dX1_apart_50 (by decide) ?_
            refine g_icmp_le hC 58 dX1_apart_52 (by decide) (by omega) (by omega) (fun c52 => ?_) (fun c52 => ?_)
            · refine g_iload_n hC dX1_apart_58 rfl 5 rfl ?_
              refine g_if_lt hC 68 dX1_apart_59 (by decide) (by omega) (fun c59 => ?_) (fun c59 => ?_)
              · refine g_bipush hC dX1_apart_68 (by decide) ?_
                exact hret _ _ (-4) (sZ, eE, eB, eL, ct) dX1_apart_70 (rfl) (by omega) (⟨by unfold apZ; (repeat' split) <;> omega, Or.inl ⟨by omega, rfl, rfl, rfl, rfl, rfl⟩⟩)
              · refine g_iload_n hC dX1_apart_62 rfl 5 rfl ?_
                refine g_bipush hC dX1_apart_63 (by decide) ?_
                refine g_icmp_le hC 71 dX1_apart_65 (by decide) (by omega) (by omega) (fun c65 => ?_) (fun c65 => ?_)
                · refine g_aload_n hC dX1_apart_71 rfl 2 rfl ?_
                  refine x_get_count hC dX1_apart_72 ?_
                  refine g_iconst hC dX1_apart_75 ?_
                  refine g_iadd hC dX1_apart_76 ?_
                  refine g_bipush hC dX1_apart_77 (by decide) ?_
                  refine g_icmp_le hC 85 dX1_apart_79 (by decide) (by omega) (by omega) (fun c79 => ?_) (fun c79 => ?_)
                  · refine g_aload_n hC dX1_apart_85 rfl 2 rfl ?_
                    refine x_get_sizes hC dX1_apart_86 ?_
                    refine g_aload_n hC dX1_apart_89 rfl 2 rfl ?_
                    refine x_get_count hC dX1_apart_90 ?_
                    refine g_iconst hC dX1_apart_93 ?_
                    refine x_st_sizes hC (by omega) dX1_apart_94 (fun sZ_94 esZ_94 => ?_)
                    have y0 : sZ_94 ct = 0 := by rw [esZ_94]; exact iU_s
                    refine g_aload_n hC dX1_apart_95 rfl 2 rfl ?_
                    refine g_iload hC dX1_apart_96 1 rfl ?_
                    refine g_iload hC dX1_apart_98 0 rfl ?_
                    refine g_iload_n hC dX1_apart_100 rfl 4 rfl ?_
                    refine g_ineg hC dX1_apart_101 ?_
                    refine x_callV hC gi_X_offer q107 (met_X_offer _ _ o _ _ _ _ _ _ _ _ _ _ _ _ _ _ _ _ _ (pair / 8) (pair % 8) (-gap) (by omega) (by omega)) (by decide) rfl rfl (Nat.le_of_ble_eq_true rfl) dX1_apart_102 (fun u h102 => ?_)
                    obtain ⟨eE_102, eB_102, eL_102, sZ_102⟩ := u
                    show gW k (wX o (eE_102, eB_102, eL_102, sZ_102, dE, dB, dL, sT, mX, tN, n, ct, ds, ac, sk, sb, be)) 105 [(5, vI (pair % 8)), (4, vI (pair / 8)), (0, Value.ref (o.2.1)), (1, vI pair), (2, vI gap), (3, vI span)] []
                    obtain ⟨k1, k2, k3, k4⟩ := h102
                    rw [y0] at k1 k2 k3 k4
                    have y1 : sZ_102 ct = 1 := by rw [k4]; exact iU_s
                    refine g_aload_n hC dX1_apart_105 rfl 2 rfl ?_
                    refine g_iload hC dX1_apart_106 0 rfl ?_
                    refine g_iload hC dX1_apart_108 1 rfl ?_
                    refine g_iload_n hC dX1_apart_110 rfl 4 rfl ?_
                    refine g_ineg hC dX1_apart_111 ?_
                    refine x_callV hC gi_X_offer q107 (met_X_offer _ _ o _ _ _ _ _ _ _ _ _ _ _ _ _ _ _ _ _ (pair % 8) (pair / 8) (-gap) (by omega) (by omega)) (by decide) rfl rfl (Nat.le_of_ble_eq_true rfl) dX1_apart_112 (fun u h112 => ?_)
                    obtain ⟨eE_112, eB_112, eL_112, sZ_112⟩ := u
                    show gW k (wX o (eE_112, eB_112, eL_112, sZ_112, dE, dB, dL, sT, mX, tN, n, ct, ds, ac, sk, sb, be)) 115 [(5, vI (pair % 8)), (4, vI (pair / 8)), (0, Value.ref (o.2.1)), (1, vI pair), (2, vI gap), (3, vI span)] []
                    obtain ⟨l1, l2, l3, l4⟩ := h112
                    rw [y1] at l1 l2 l3 l4
                    refine g_aload_n hC dX1_apart_115 rfl 2 rfl ?_
                    refine g_dup hC rfl dX1_apart_116 ?_
                    refine x_get_count hC dX1_apart_117 ?_
                    refine g_iconst hC dX1_apart_120 ?_
                    refine g_iadd hC dX1_apart_121 ?_
                    refine x_put_count hC dX1_apart_122 ?_
                    refine g_aload_n hC dX1_apart_125 rfl 2 rfl ?_
                    refine x_get_sizes hC dX1_apart_126 ?_
                    refine g_aload_n hC dX1_apart_129 rfl 2 rfl ?_
                    refine x_get_count hC dX1_apart_130 ?_
                    refine g_iconst hC dX1_apart_133 ?_
                    refine x_st_sizes hC (by omega) dX1_apart_134 (fun sZ_134 esZ_134 => ?_)
                    have y2 : sZ_134 (ct + 1) = 0 := by rw [esZ_134]; exact iU_s
                    refine g_aload_n hC dX1_apart_135 rfl 2 rfl ?_
                    refine g_iload hC dX1_apart_136 1 rfl ?_
                    refine g_iload hC dX1_apart_138 0 rfl ?_
                    refine g_iload_n hC dX1_apart_140 rfl 5 rfl ?_
                    refine x_callV hC gi_X_offer q107 (met_X_offer _ _ o _ _ _ _ _ _ _ _ _ _ _ _ _ _ _ _ _ (pair / 8) (pair % 8) span (by omega) (by omega)) (by decide) rfl rfl (Nat.le_of_ble_eq_true rfl) dX1_apart_141 (fun u h141 => ?_)
                    obtain ⟨eE_141, eB_141, eL_141, sZ_141⟩ := u
                    show gW k (wX o (eE_141, eB_141, eL_141, sZ_141, dE, dB, dL, sT, mX, tN, n, (ct + 1), ds, ac, sk, sb, be)) 144 [(5, vI (pair % 8)), (4, vI (pair / 8)), (0, Value.ref (o.2.1)), (1, vI pair), (2, vI gap), (3, vI span)] []
                    obtain ⟨m1, m2, m3, m4⟩ := h141
                    rw [y2] at m1 m2 m3 m4
                    refine g_aload_n hC dX1_apart_144 rfl 2 rfl ?_
                    refine g_dup hC rfl dX1_apart_145 ?_
                    refine x_get_count hC dX1_apart_146 ?_
                    refine g_iconst hC dX1_apart_149 ?_
                    refine g_iadd hC dX1_apart_150 ?_
                    refine x_put_count hC dX1_apart_151 ?_
                    refine g_aload_n hC dX1_apart_154 rfl 2 rfl ?_
                    refine x_get_sizes hC dX1_apart_155 ?_
                    refine g_aload_n hC dX1_apart_158 rfl 2 rfl ?_
                    refine x_get_count hC dX1_apart_159 ?_
                    refine g_iconst hC dX1_apart_162 ?_
                    refine x_st_sizes hC (by omega) dX1_apart_163 (fun sZ_163 esZ_163 => ?_)
                    have y3 : sZ_163 (ct + 1 + 1) = 0 := by rw [esZ_163]; exact iU_s
                    refine g_aload_n hC dX1_apart_164 rfl 2 rfl ?_
                    refine g_iload hC dX1_apart_165 0 rfl ?_
                    refine g_iload hC dX1_apart_167 1 rfl ?_
                    refine g_iload_n hC dX1_apart_169 rfl 5 rfl ?_
                    refine x_callV hC gi_X_offer q107 (met_X_offer _ _ o _ _ _ _ _ _ _ _ _ _ _ _ _ _ _ _ _ (pair % 8) (pair / 8) span (by omega) (by omega)) (by decide) rfl rfl (Nat.le_of_ble_eq_true rfl) dX1_apart_170 (fun u h170 => ?_)
                    obtain ⟨eE_170, eB_170, eL_170, sZ_170⟩ := u
                    show gW k (wX o (eE_170, eB_170, eL_170, sZ_170, dE, dB, dL, sT, mX, tN, n, ((ct + 1) + 1), ds, ac, sk, sb, be)) 173 [(5, vI (pair % 8)), (4, vI (pair / 8)), (0, Value.ref (o.2.1)), (1, vI pair), (2, vI gap), (3, vI span)] []
                    obtain ⟨n1, n2, n3, n4⟩ := h170
                    rw [y3] at n1 n2 n3 n4
                    refine g_aload_n hC dX1_apart_173 rfl 2 rfl ?_
                    refine g_dup hC rfl dX1_apart_174 ?_
                    refine x_get_count hC dX1_apart_175 ?_
                    refine g_iconst hC dX1_apart_178 ?_
                    refine g_iadd hC dX1_apart_179 ?_
                    refine x_put_count hC dX1_apart_180 ?_
                    refine g_aload_n hC dX1_apart_183 rfl 2 rfl ?_
                    refine x_get_count hC dX1_apart_184 ?_
                    exact hret _ _ (((ct + 1) + 1) + 1) (sZ_170, eE_170, eB_170, eL_170, (((ct + 1) + 1) + 1)) dX1_apart_187 (rfl) (by omega) (⟨by unfold apZ; (repeat' split) <;> omega, Or.inr ⟨by omega, by omega, apS_X (by omega) (by omega) (by omega) (by omega) (by omega) esZ_94 k1 k2 k3 k4 l1 l2 l3 l4 esZ_134 m1 m2 m3 m4 esZ_163 n1 n2 n3 n4⟩⟩)
                  · refine g_bipush hC dX1_apart_82 (by decide) ?_
                    exact hret _ _ (-5) (sZ, eE, eB, eL, ct) dX1_apart_84 (rfl) (by omega) (⟨by unfold apZ; (repeat' split) <;> omega, Or.inl ⟨by omega, rfl, rfl, rfl, rfl, rfl⟩⟩)
                · refine g_bipush hC dX1_apart_68 (by decide) ?_
                  exact hret _ _ (-4) (sZ, eE, eB, eL, ct) dX1_apart_70 (rfl) (by omega) (⟨by unfold apZ; (repeat' split) <;> omega, Or.inl ⟨by omega, rfl, rfl, rfl, rfl, rfl⟩⟩)
            · refine g_bipush hC dX1_apart_55 (by decide) ?_
              exact hret _ _ (-3) (sZ, eE, eB, eL, ct) dX1_apart_57 (rfl) (by omega) (⟨by unfold apZ; (repeat' split) <;> omega, Or.inl ⟨by omega, rfl, rfl, rfl, rfl, rfl⟩⟩)
        · refine g_bipush hC dX1_apart_42 (by decide) ?_
          exact hret _ _ (-2) (sZ, eE, eB, eL, ct) dX1_apart_44 (rfl) (by omega) (⟨by unfold apZ; (repeat' split) <;> omega, Or.inl ⟨by omega, rfl, rfl, rfl, rfl, rfl⟩⟩)
      · refine g_iconst hC dX1_apart_33 ?_
        exact hret _ _ (-1) (sZ, eE, eB, eL, ct) dX1_apart_34 (rfl) (by omega) (⟨by unfold apZ; (repeat' split) <;> omega, Or.inl ⟨by omega, rfl, rfl, rfl, rfl, rfl⟩⟩)
theorem gi_X_remove : gI yX1_remove RX1 cX1_remove 4 (some .int) 1 := ⟨q120, q121, q24, q122, by decide, by decide +kernel⟩
set_option maxHeartbeats 4000000 in
theorem met_X_remove (l : Launch) (D : va_G) (o : gO) (eE eB eL sZ dE dB dL sT mX tN : Int → Int) (n ct ds ac sk sb be : Int) (pos : Int) (hp : -2147483648 ≤ pos ∧ pos < 2147483648) (hct : 0 ≤ ct ∧ ct ≤ 8) : gMetI l yX1_remove cX1_remove 4 .int 1 D [(o.1, .int)] (wX o (eE, eB, eL, sZ, dE, dB, dL, sT, mX, tN, n, ct, ds, ac, sk, sb, be)) [Value.ref o.2.1, vI pos] (fun (z : Int) (u : (Int → Int) × (Int → Int) × (Int → Int) × (Int → Int) × Int) => match u with | (sZ', eE', eB', eL', ct') => (z = -1 ∧ ¬ (0 ≤ pos ∧ pos < ct) ∧ sZ' = sZ ∧ eE' = eE ∧ eB' = eB ∧ eL' = eL ∧ ct' = ct) ∨ (z = ct - 1 ∧ (0 ≤ pos ∧ pos < ct) ∧ sZ' = shf sZ 1 pos (ct - 1) ∧ eE' = shf eE 3 (3 * pos) (3 * (ct - 1)) ∧ eB' = shf eB 3 (3 * pos) (3 * (ct - 1)) ∧ eL' = shf eL 3 (3 * pos) (3 * (ct - 1)) ∧ ct' = ct - 1)) (fun (u : (Int → Int) × (Int → Int) × (Int → Int) × (Int → Int) × Int) => match u with | (sZ', eE', eB', eL', ct') => (wX o (eE', eB', eL', sZ', dE, dB, dL, sT, mX, tN, n, ct', ds, ac, sk, sb, be))) := by
  refine g_metI (by decide) (Nat.le_of_ble_eq_true rfl) ?_
  intro k hC hret
  have hC : gC k cX1_remove RX1 [(o.1, .int)] 1 4 := hC
  show gW k (wX o (eE, eB, eL, sZ, dE, dB, dL, sT, mX, tN, n, ct, ds, ac, sk, sb, be)) 0 [(0, Value.ref (o.2.1)), (1, vI pos)] []
  refine g_aload_n hC dX1_remove_0 rfl 0 rfl ?_
  refine g_iload_n hC dX1_remove_1 rfl 1 rfl ?_
  refine x_callI hC gi_X_isConstraint q123 (met_X_isConstraint _ _ o _ _ _ _ _ _ _ _ _ _ _ _ _ _ _ _ _ pos (by omega) (by omega)) (by decide) rfl rfl (Nat.le_of_ble_eq_true rfl) dX1_remove_2 (fun z2 _ rz2 h2 => ?_)
  have b2 : (z2 = 1 ∧ (0 ≤ pos ∧ pos < ct)) ∨ (z2 = 0 ∧ ¬ (0 ≤ pos ∧ pos < ct)) := h2
  refine g_if_ne hC 10 dX1_remove_5 (by decide) (by omega) (fun c5 => ?_) (fun c5 => ?_)
  · refine g_iload_n hC dX1_remove_10 rfl 1 rfl ?_
    refine g_iconst hC dX1_remove_11 ?_
    refine g_iadd hC dX1_remove_12 ?_
    refine g_istore_n hC [(2, vI (pos + 1)), (0, Value.ref (o.2.1)), (1, vI pos)] dX1_remove_13 rfl (by decide) rfl ?_
    have loop14 : ∀ (N : Nat) (c : Int) (sZx : Int → Int) (eEx : Int → Int) (eBx : Int → Int) (eLx : Int → Int) (hm14 : 0 ≤ ct - c ∧ ct - c < (N : Int)) (hc : pos + 1 ≤ c ∧ c ≤ ct) (i0 : sZx = shf sZ 1 pos (c - 1)) (i1 : eEx = shf eE 3 (3 * pos) (3 * (c - 1))) (i2 : eBx = shf eB 3 (3 * pos) (3 * (c - 1))) (i3 : eLx = shf eL 3 (3 * pos) (3 * (c - 1))), gW k (wX o (eEx, eBx, eLx, sZx, dE, dB, dL, sT, mX, tN, n, ct, ds, ac, sk, sb, be)) 14 [(0, Value.ref (o.2.1)), (1, vI pos), (2, vI c)] [] := by
      intro N
      induction N with
      | zero =>
        intro c sZx eEx eBx eLx hm14
        exfalso
        omega
      | succ N ih14 =>
        intro c sZx eEx eBx eLx hm14 hc i0 i1 i2 i3
        refine g_iload_n hC dX1_remove_14 rfl 2 rfl ?_
        refine g_aload_n hC dX1_remove_15 rfl 0 rfl ?_
        refine x_get_count hC dX1_remove_16 ?_
        refine g_icmp_ge hC 121 dX1_remove_19 (by decide) (by omega) (by omega) (fun c19 => ?_) (fun c19 => ?_)
        · refine g_aload_n hC dX1_remove_121 rfl 0 rfl ?_
          refine g_dup hC rfl dX1_remove_122 ?_
          refine x_get_count hC dX1_remove_123 ?_
          refine g_iconst hC dX1_remove_126 ?_
          refine g_isub hC dX1_remove_127 ?_
          refine x_put_count hC dX1_remove_128 ?_
          refine g_aload_n hC dX1_remove_131 rfl 0 rfl ?_
          refine x_get_count hC dX1_remove_132 ?_
          exact hret _ _ (ct - 1) (sZx, eEx, eBx, eLx, (ct - 1)) dX1_remove_135 (rfl) (by omega) (by rw [show c = ct by omega] at i0 i1 i2 i3; exact Or.inr ⟨rfl, by omega, i0, i1, i2, i3, rfl⟩)
        · refine g_aload_n hC dX1_remove_22 rfl 0 rfl ?_
          refine x_get_sizes hC dX1_remove_23 ?_
          refine g_iload_n hC dX1_remove_26 rfl 2 rfl ?_
          refine g_iconst hC dX1_remove_27 ?_
          refine g_isub hC dX1_remove_28 ?_
          refine g_aload_n hC dX1_remove_29 rfl 0 rfl ?_
          refine x_get_sizes hC dX1_remove_30 ?_
          refine g_iload_n hC dX1_remove_33 rfl 2 rfl ?_
          refine x_ld_sizes hC (by omega) dX1_remove_34 ?_
          refine x_st_sizes hC (by omega) dX1_remove_35 (fun sZ_35 esZ_35 => ?_)
          refine g_iconst hC dX1_remove_36 ?_
          refine g_istore_n hC [(3, vI 0), (0, Value.ref (o.2.1)), (1, vI pos), (2, vI c)] dX1_remove_37 rfl (by decide) rfl ?_
          have loop38 : ∀ (N : Nat) (a : Int) (eEy : Int → Int) (eBy : Int → Int) (eLy : Int → Int) (hm38 : 0 ≤ 3 - a ∧ 3 - a < (N : Int)) (ha : 0 ≤ a ∧ a ≤ 3) (j1 : eEy = cp eEx c (c - 1) a) (j2 : eBy = cp eBx c (c - 1) a) (j3 : eLy = cp eLx c (c - 1) a), gW k (wX o (eEy, eBy, eLy, sZ_35, dE, dB, dL, sT, mX, tN, n, ct, ds, ac, sk, sb, be)) 38 [(0, Value.ref (o.2.1)), (1, vI pos), (2, vI c), (3, vI a)] [] := by
            intro N
            induction N with
            | zero =>
              intro a eEy eBy eLy hm38
              exfalso
              omega
            | succ N ih38 =>
              intro a eEy eBy eLy hm38 ha j1 j2 j3
              refine g_iload_n hC dX1_remove_38 rfl 3 rfl ?_
              refine g_iconst hC dX1_remove_39 ?_
              refine g_icmp_ge hC 115 dX1_remove_40 (by decide) (by omega) (by omega) (fun c40 => ?_) (fun c40 => ?_)
              · refine g_iinc hC [(2, vI (c + 1)), (0, Value.ref (o.2.1)), (1, vI pos), (3, vI a)] dX1_remove_115 2 rfl (by decide) rfl ?_
                refine g_goto hC 14 dX1_remove_118 (by decide) ?_
                refine g_lv [1, 2, 0] rfl ?_
                exact ih14 (c + 1) sZ_35 eEy eBy eLy ⟨by omega, by omega⟩ (by omega) (sX_1 i0 (by omega) esZ_35) (sX_3 i1 (by omega) (by omega) j1) (sX_3 i2 (by omega) (by omega) j2) (sX_3 i3 (by omega) (by omega) j3)
              · refine g_aload_n hC dX1_remove_43 rfl 0 rfl ?_
                refine x_get_ends hC dX1_remove_44 ?_
                refine g_iconst hC dX1_remove_47 ?_
                refine g_iload_n hC dX1_remove_48 rfl 2 rfl ?_
                refine g_imul hC dX1_remove_49 ?_
                refine g_iconst hC dX1_remove_50 ?_
                refine g_isub hC dX1_remove_51 ?_
                refine g_iload_n hC dX1_remove_52 rfl 3 rfl ?_
                refine g_iadd hC dX1_remove_53 ?_
                refine g_aload_n hC dX1_remove_54 rfl 0 rfl ?_
                refine x_get_ends hC dX1_remove_55 ?_
                refine g_iconst hC dX1_remove_58 ?_
                refine g_iload_n hC dX1_remove_59 rfl 2 rfl ?_
                refine g_imul hC dX1_remove_60 ?_
                refine g_iload_n hC dX1_remove_61 rfl 3 rfl ?_
                refine g_iadd hC dX1_remove_62 ?_
                refine x_ld_ends hC (by omega) dX1_remove_63 ?_
                refine x_st_ends hC (by omega) dX1_remove_64 (fun eE_64 eeE_64 => ?_)
                refine g_aload_n hC dX1_remove_65 rfl 0 rfl ?_
                refine x_get_begins hC dX1_remove_66 ?_
                refine g_iconst hC dX1_remove_69 ?_
                refine g_iload_n hC dX1_remove_70 rfl 2 rfl ?_
                refine g_imul hC dX1_remove_71 ?_
                refine g_iconst hC dX1_remove_72 ?_
                refine g_isub hC dX1_remove_73 ?_
                refine g_iload_n hC dX1_remove_74 rfl 3 rfl ?_
                refine g_iadd hC dX1_remove_75 ?_
                refine g_aload_n hC dX1_remove_76 rfl 0 rfl ?_
                refine x_get_begins hC dX1_remove_77 ?_
                refine g_iconst hC dX1_remove_80 ?_
                refine g_iload_n hC dX1_remove_81 rfl 2 rfl ?_
                refine g_imul hC dX1_remove_82 ?_
                refine g_iload_n hC dX1_remove_83 rfl 3 rfl ?_
                refine g_iadd hC dX1_remove_84 ?_
                refine x_ld_begins hC (by omega) dX1_remove_85 ?_
                refine x_st_begins hC (by omega) dX1_remove_86 (fun eB_86 eeB_86 => ?_)
                refine g_aload_n hC dX1_remove_87 rfl 0 rfl ?_
                refine x_get_limits hC dX1_remove_88 ?_
                refine g_iconst hC dX1_remove_91 ?_
                refine g_iload_n hC dX1_remove_92 rfl 2 rfl ?_
                refine g_imul hC dX1_remove_93 ?_
                refine g_iconst hC dX1_remove_94 ?_
                refine g_isub hC dX1_remove_95 ?_
                refine g_iload_n hC dX1_remove_96 rfl 3 rfl ?_
                refine g_iadd hC dX1_remove_97 ?_
                refine g_aload_n hC dX1_remove_98 rfl 0 rfl ?_
                refine x_get_limits hC dX1_remove_99 ?_
                refine g_iconst hC dX1_remove_102 ?_
                refine g_iload_n hC dX1_remove_103 rfl 2 rfl ?_
                refine g_imul hC dX1_remove_104 ?_
                refine g_iload_n hC dX1_remove_105 rfl 3 rfl ?_
                refine g_iadd hC dX1_remove_106 ?_
                refine x_ld_limits hC (by omega) dX1_remove_107 ?_
                refine x_st_limits hC (by omega) dX1_remove_108 (fun eL_108 eeL_108 => ?_)
                refine g_iinc hC [(3, vI (a + 1)), (0, Value.ref (o.2.1)), (1, vI pos), (2, vI c)] dX1_remove_109 3 rfl (by decide) rfl ?_
                refine g_goto hC 38 dX1_remove_112 (by decide) ?_
                refine g_lv [1, 2, 3, 0] rfl ?_
                exact ih38 (a + 1) eE_64 eB_86 eL_108 ⟨by omega, by omega⟩ (by omega) (cX_s j1 (by omega) eeE_64) (cX_s j2 (by omega) eeB_86) (cX_s j3 (by omega) eeL_108)
          refine g_lv [1, 2, 3, 0] rfl ?_
          exact loop38 ((3 - 0 : Int) + 1).toNat 0 eEx eBx eLx ⟨by omega, by omega⟩ (by omega) (cp_0 _ _ _) (cp_0 _ _ _) (cp_0 _ _ _)
    refine g_lv [1, 2, 0] rfl ?_
    exact loop14 ((ct - (pos + 1) : Int) + 1).toNat (pos + 1) sZ eE eB eL ⟨by omega, by omega⟩ (by omega) (by rw [show pos + 1 - 1 = pos by omega]; exact shf_0 _ _ _) (by rw [show pos + 1 - 1 = pos by omega]; exact shf_0 _ _ _) (by rw [show pos + 1 - 1 = pos by omega]; exact shf_0 _ _ _) (by rw [show pos + 1 - 1 = pos by omega]; exact shf_0 _ _ _)
  · refine g_iconst hC dX1_remove_8 ?_
    exact hret _ _ (-1) (sZ, eE, eB, eL, ct) dX1_remove_9 (rfl) (by omega) (Or.inl ⟨rfl, by omega, rfl, rfl, rfl, rfl, rfl⟩)
end
section
/-! CLASS: a step of the search -/
set_option maxRecDepth 100000
theorem gi_X_goOn : gI yX1_goOn RX1 cX1_goOn 7 (some .boolean) 1 := ⟨q150, qs7, q24, q151, by decide, by decide +kernel⟩
set_option maxHeartbeats 4000000 in
theorem met_X_goOn (l : Launch) (D : va_G) (o : gO) (eE eB eL sZ dE dB dL sT mX tN : Int → Int) (n ct ds ac sk sb be : Int) (d : Int) (hok : okC n ct sZ eE eB eL) (hd : 0 ≤ d ∧ d < ct) (hc : clo mX (25 * d)) (ht : 0 ≤ tN d ∧ tN d ≤ 3) (hsk : -1 ≤ sk ∧ sk ≤ 8) : gMetI l yX1_goOn cX1_goOn 7 .boolean 1 D [(o.1, .int)] (wX o (eE, eB, eL, sZ, dE, dB, dL, sT, mX, tN, n, ct, ds, ac, sk, sb, be)) [Value.ref o.2.1, vI d] (fun (z : Int) (u : (Int → Int) × (Int → Int)) => match u with | (mX', tN') => goP sk sZ eE eB eL mX tN mX' tN' d z) (fun (u : (Int → Int) × (Int → Int)) => match u with | (mX', tN') => (wX o (eE, eB, eL, sZ, dE, dB, dL, sT, mX', tN', n, ct, ds, ac, sk, sb, be))) := by
  refine g_metI (by decide) (Nat.le_of_ble_eq_true rfl) ?_
  intro k hC hret
  have hC : gC k cX1_goOn RX1 [(o.1, .int)] 1 7 := hC
  have hn := hok.1
  have hct := hok.2.1
  have hz := (hok.2.2 d hd.1 hd.2).1
  have habs := okC_abs hok hd.1 hd.2
  show gW k (wX o (eE, eB, eL, sZ, dE, dB, dL, sT, mX, tN, n, ct, ds, ac, sk, sb, be)) 0 [(0, Value.ref (o.2.1)), (1, vI d)] []
  refine g_bipush hC dX1_goOn_0 (by decide) ?_
  refine g_iload_n hC dX1_goOn_2 rfl 1 rfl ?_
  refine g_imul hC dX1_goOn_3 ?_
  refine g_istore_n hC [(2, vI (25 * d)), (0, Value.ref (o.2.1)), (1, vI d)] dX1_goOn_4 rfl (by decide) rfl ?_
  have join23 : ∀ (sz : Int) (hsz : (d = sk ∧ sz = 0) ∨ (d ≠ sk ∧ sz = sZ d)), gW k (wX o (eE, eB, eL, sZ, dE, dB, dL, sT, mX, tN, n, ct, ds, ac, sk, sb, be)) 23 [(2, vI (25 * d)), (0, Value.ref (o.2.1)), (1, vI d)] [vI sz] := by
    intro sz hsz
    refine g_istore_n hC [(3, vI sz), (2, vI (25 * d)), (0, Value.ref (o.2.1)), (1, vI d)] dX1_goOn_23 rfl (by decide) rfl ?_
    have join37 : ∀ (an0 : Int) (han0 : (d = sk ∧ an0 = 1) ∨ (¬ d = sk ∧ an0 = 0)), gW k (wX o (eE, eB, eL, sZ, dE, dB, dL, sT, mX, tN, n, ct, ds, ac, sk, sb, be)) 37 [(3, vI sz), (2, vI (25 * d)), (0, Value.ref (o.2.1)), (1, vI d)] [vI an0] := by
      intro an0 han0
      refine g_istore hC [(4, vI an0), (3, vI sz), (2, vI (25 * d)), (0, Value.ref (o.2.1)), (1, vI d)] dX1_goOn_37 (by decide) rfl ?_
      refine g_iconst hC dX1_goOn_39 ?_
      refine g_iload_n hC dX1_goOn_40 rfl 4 rfl ?_
      refine g_imul hC dX1_goOn_41 ?_
      refine g_istore hC [(5, vI (3 * d)), (4, vI an0), (3, vI sz), (2, vI (25 * d)), (0, Value.ref (o.2.1)), (1, vI d)] dX1_goOn_42 (by decide) rfl ?_
      have loop44 : ∀ (N : Nat) (an : Int) (a : Int) (hm44 : 0 ≤ 3 * d + sz - a ∧ 3 * d + sz - a < (N : Int)) (ha : 3 * d ≤ a ∧ a ≤ 3 * d + sz) (han : isB an (d = sk ∨ ∃ q : Int, 3 * d ≤ q ∧ q < a ∧ mX (25 * d + 5 * eE q + eB q) ≤ eL q)), gW k (wX o (eE, eB, eL, sZ, dE, dB, dL, sT, mX, tN, n, ct, ds, ac, sk, sb, be)) 44 [(0, Value.ref (o.2.1)), (1, vI d), (2, vI (25 * d)), (3, vI sz), (4, vI an), (5, vI a)] [] := by
        intro N
        induction N with
        | zero =>
          intro an a hm44
          exfalso
          omega
        | succ N ih44 =>
          intro an a hm44 ha han
          have g01 := isB_01 han
          refine g_iload hC dX1_goOn_44 5 rfl ?_
          refine g_iconst hC dX1_goOn_46 ?_
          refine g_iload_n hC dX1_goOn_47 rfl 1 rfl ?_
          refine g_imul hC dX1_goOn_48 ?_
          refine g_iload_n hC dX1_goOn_49 rfl 3 rfl ?_
          refine g_iadd hC dX1_goOn_50 ?_
          refine g_icmp_ge hC 106 dX1_goOn_51 (by decide) (by omega) (by omega) (fun c51 => ?_) (fun c51 => ?_)
          · have hany : isB an (anyw sk sZ eE eB eL mX d) := an_end han hsz (by omega)
            refine g_iload hC dX1_goOn_106 4 rfl ?_
            refine g_if_eq hC 142 dX1_goOn_108 (by decide) (by omega) (fun c108 => ?_) (fun c108 => ?_)
            · have hna := isB_f hany c108
              have hdk : d ≠ sk := fun q => hna (Or.inl q)
              have hse : sz = sZ d := by omega
              refine g_iconst hC dX1_goOn_142 ?_
              refine g_istore hC [(5, vI 0), (0, Value.ref (o.2.1)), (1, vI d), (2, vI (25 * d)), (3, vI sz), (4, vI an)] dX1_goOn_143 (by decide) rfl ?_
              have loop145 : ∀ (N : Nat) (kk : Int) (tNx : Int → Int) (hm145 : 0 ≤ 3 - kk ∧ 3 - kk < (N : Int)) (hk : 0 ≤ kk ∧ kk ≤ 3) (htx : tNx d = tN d + kk) (hto : ∀ m : Int, m ≠ d → tNx m = tN m) (hinf : ∀ x : Int, tN d ≤ x → x < tNx d → infe eE eB eL mX d x), gW k (wX o (eE, eB, eL, sZ, dE, dB, dL, sT, mX, tNx, n, ct, ds, ac, sk, sb, be)) 145 [(0, Value.ref (o.2.1)), (1, vI d), (2, vI (25 * d)), (3, vI sz), (5, vI kk)] [] := by
                intro N
                induction N with
                | zero =>
                  intro kk tNx hm145
                  exfalso
                  omega
                | succ N ih145 =>
                  intro kk tNx hm145 hk htx hto hinf
                  refine g_iload hC dX1_goOn_145 4 rfl ?_
                  refine g_iconst hC dX1_goOn_147 ?_
                  refine g_icmp_ge hC 259 dX1_goOn_148 (by decide) (by omega) (by omega) (fun c148 => ?_) (fun c148 => ?_)
                  · refine g_iconst hC dX1_goOn_259 ?_
                    exact hret _ _ 0 (mX, tNx) dX1_goOn_260 (rfl) (by omega) (go_4 hok hd.1 hd.2 hna ht.1 hto hinf (by omega))
                  · refine g_aload_n hC dX1_goOn_151 rfl 0 rfl ?_
                    refine x_get_turn hC dX1_goOn_152 ?_
                    refine g_iload_n hC dX1_goOn_155 rfl 1 rfl ?_
                    refine x_ld_turn hC (by omega) dX1_goOn_156 ?_
                    refine g_iload_n hC dX1_goOn_157 rfl 3 rfl ?_
                    refine g_icmp_ge hC 259 dX1_goOn_158 (by decide) (by omega) (by omega) (fun c158 => ?_) (fun c158 => ?_)
                    · refine g_iconst hC dX1_goOn_259 ?_
                      exact hret _ _ 0 (mX, tNx) dX1_goOn_260 (rfl) (by omega) (go_4 hok hd.1 hd.2 hna ht.1 hto hinf (by omega))
                    · have hq := habs (3 * d + tNx d) (by omega) (by omega)
                      have hr := clo_rg hc (i := eB (3 * d + tNx d)) (j := eE (3 * d + tNx d)) (by omega) (by omega) (by omega) (by omega)
                      refine g_iconst hC dX1_goOn_161 ?_
                      refine g_iload_n hC dX1_goOn_162 rfl 1 rfl ?_
                      refine g_imul hC dX1_goOn_163 ?_
                      refine g_aload_n hC dX1_goOn_164 rfl 0 rfl ?_
                      refine x_get_turn hC dX1_goOn_165 ?_
                      refine g_iload_n hC dX1_goOn_168 rfl 1 rfl ?_
                      refine x_ld_turn hC (by omega) dX1_goOn_169 ?_
                      refine g_iadd hC dX1_goOn_170 ?_
                      refine g_istore hC [(6, vI ((3 * d) + (tNx d))), (0, Value.ref (o.2.1)), (1, vI d), (2, vI (25 * d)), (3, vI sz), (5, vI kk)] dX1_goOn_171 (by decide) rfl ?_
                      refine g_aload_n hC dX1_goOn_173 rfl 1 rfl ?_
                      refine x_get_turn hC dX1_goOn_174 ?_
                      refine g_iload_n hC dX1_goOn_177 rfl 2 rfl ?_
                      refine g_dup2 hC rfl rfl dX1_goOn_178 ?_
                      refine x_ld_turn hC (by omega) dX1_goOn_179 ?_
                      refine g_iconst hC dX1_goOn_180 ?_
                      refine g_iadd hC dX1_goOn_181 ?_
                      refine x_st_turn hC (by omega) dX1_goOn_182 (fun tN_182 etN_182 => ?_)
                      refine g_aload_n hC dX1_goOn_183 rfl 1 rfl ?_
                      refine x_get_matrix hC dX1_goOn_184 ?_
                      refine g_iload_n hC dX1_goOn_187 rfl 3 rfl ?_
                      refine g_iconst hC dX1_goOn_188 ?_
                      refine g_aload_n hC dX1_goOn_189 rfl 1 rfl ?_
                      refine x_get_begins hC dX1_goOn_190 ?_
                      refine g_iload hC dX1_goOn_193 0 rfl ?_
                      refine x_ld_begins hC (by omega) dX1_goOn_195 ?_
                      refine g_imul hC dX1_goOn_196 ?_
                      refine g_iadd hC dX1_goOn_197 ?_
                      refine g_aload_n hC dX1_goOn_198 rfl 1 rfl ?_
                      refine x_get_ends hC dX1_goOn_199 ?_
                      refine g_iload hC dX1_goOn_202 0 rfl ?_
                      refine x_ld_ends hC (by omega) dX1_goOn_204 ?_
                      refine g_iadd hC dX1_goOn_205 ?_
                      refine x_ld_matrix hC (by omega) dX1_goOn_206 ?_
                      refine g_aload_n hC dX1_goOn_207 rfl 1 rfl ?_
                      refine x_get_limits hC dX1_goOn_208 ?_
                      refine g_iload hC dX1_goOn_211 0 rfl ?_
                      refine x_ld_limits hC (by omega) dX1_goOn_213 ?_
                      refine g_iadd hC dX1_goOn_214 ?_
                      refine g_if_lt hC 253 dX1_goOn_215 (by decide) (by omega) (fun c215 => ?_) (fun c215 => ?_)
                      · refine g_iinc hC [(5, vI (kk + 1)), (6, vI ((3 * d) + (tNx d))), (0, Value.ref (o.2.1)), (1, vI d), (2, vI (25 * d)), (3, vI sz)] dX1_goOn_253 5 rfl (by decide) rfl ?_
                        refine g_goto hC 145 dX1_goOn_256 (by decide) ?_
                        refine g_lv [2, 3, 4, 5, 0] rfl ?_
                        exact ih145 (kk + 1) tN_182 ⟨by omega, by omega⟩ (by omega) (by rw [etN_182, iU_s]; omega) (fun m hm => by rw [etN_182, iU_n hm]; exact hto m hm) (inf_s hinf c215 (by rw [etN_182, iU_s]))
                      · refine g_aload_n hC dX1_goOn_218 rfl 1 rfl ?_
                        refine g_iload_n hC dX1_goOn_219 rfl 2 rfl ?_
                        refine x_callV hC gi_X_copyOn q152 (met_X_copyOn _ _ o _ _ _ _ _ _ _ _ _ _ _ _ _ _ _ _ _ d (by omega)) (by decide) rfl rfl (Nat.le_of_ble_eq_true rfl) dX1_goOn_220 (fun u h220 => ?_)
                        obtain ⟨mX_220, rfl⟩ : ∃ z, z = u := ⟨_, rfl⟩
                        show gW k (wX o (eE, eB, eL, sZ, dE, dB, dL, sT, mX_220, tN_182, n, ct, ds, ac, sk, sb, be)) 223 [(6, vI ((3 * d) + (tNx d))), (0, Value.ref (o.2.1)), (1, vI d), (2, vI (25 * d)), (3, vI sz), (5, vI kk)] []
                        refine g_aload_n hC dX1_goOn_223 rfl 1 rfl ?_
                        refine g_iload_n hC dX1_goOn_224 rfl 2 rfl ?_
                        refine g_iconst hC dX1_goOn_225 ?_
                        refine g_iadd hC dX1_goOn_226 ?_
                        refine g_aload_n hC dX1_goOn_227 rfl 1 rfl ?_
                        refine x_get_ends hC dX1_goOn_228 ?_
                        refine g_iload hC dX1_goOn_231 0 rfl ?_
                        refine x_ld_ends hC (by omega) dX1_goOn_233 ?_
                        refine g_aload_n hC dX1_goOn_234 rfl 1 rfl ?_
                        refine x_get_begins hC dX1_goOn_235 ?_
                        refine g_iload hC dX1_goOn_238 0 rfl ?_
                        refine x_ld_begins hC (by omega) dX1_goOn_240 ?_
                        refine g_aload_n hC dX1_goOn_241 rfl 1 rfl ?_
                        refine x_get_limits hC dX1_goOn_242 ?_
                        refine g_iload hC dX1_goOn_245 0 rfl ?_
                        refine x_ld_limits hC (by omega) dX1_goOn_247 ?_
                        refine x_callV hC gi_X_tighten q156 (met_X_tighten _ _ o _ _ _ _ _ _ _ _ _ _ _ _ _ _ _ _ _ (d + 1) (eE ((3 * d) + (tNx d))) (eB ((3 * d) + (tNx d))) (eL ((3 * d) + (tNx d))) (by omega) (by omega) (by omega) (by omega) (clo_eq hc (fun m m0 m1 => by rw [show 25 * (d + 1) - 25 + m = 25 * d + m by omega]; exact h220.2 _ (by omega))) (fun r r0 r1 => by rw [show 25 * (d + 1) + r = 25 * d + 25 + r by omega, h220.1 r r0 r1, show 25 * (d + 1) - 25 + r = 25 * d + r by omega]; exact (h220.2 _ (by omega)).symm)) (by decide) rfl rfl (Nat.le_of_ble_eq_true rfl) dX1_goOn_248 (fun u h248 => ?_)
                        obtain ⟨mX_248, rfl⟩ : ∃ z, z = u := ⟨_, rfl⟩
                        show gW k (wX o (eE, eB, eL, sZ, dE, dB, dL, sT, mX_248, tN_182, n, ct, ds, ac, sk, sb, be)) 251 [(6, vI ((3 * d) + (tNx d))), (0, Value.ref (o.2.1)), (1, vI d), (2, vI (25 * d)), (3, vI sz), (5, vI kk)] []
                        refine g_iconst hC dX1_goOn_251 ?_
                        exact hret _ _ 1 (mX_248, tN_182) dX1_goOn_252 (rfl) (by omega) (go_3 (a := tNx d) hok hd.1 hd.2 hc hna ht.1 (by omega) (fun m hm => by rw [etN_182, iU_n hm]; exact hto m hm) (by rw [etN_182]; exact iU_s) hinf (by omega) h220 h248)
              refine g_lv [1, 2, 3, 4, 0] rfl ?_
              exact loop145 ((3 - 0 : Int) + 1).toNat 0 tN ⟨by omega, by omega⟩ (by omega) (by omega) (fun m _ => rfl) (fun x x0 x1 => absurd x1 (by omega))
            · refine g_aload_n hC dX1_goOn_111 rfl 0 rfl ?_
              refine x_get_turn hC dX1_goOn_112 ?_
              refine g_iload_n hC dX1_goOn_115 rfl 1 rfl ?_
              refine g_dup2 hC rfl rfl dX1_goOn_116 ?_
              refine x_ld_turn hC (by omega) dX1_goOn_117 ?_
              refine g_iconst hC dX1_goOn_118 ?_
              refine g_iadd hC dX1_goOn_119 ?_
              refine x_st_turn hC (by omega) dX1_goOn_120 (fun tN_120 etN_120 => ?_)
              refine g_aload_n hC dX1_goOn_121 rfl 0 rfl ?_
              refine g_iload_n hC dX1_goOn_122 rfl 1 rfl ?_
              refine x_callV hC gi_X_copyOn q152 (met_X_copyOn _ _ o _ _ _ _ _ _ _ _ _ _ _ _ _ _ _ _ _ d (by omega)) (by decide) rfl rfl (Nat.le_of_ble_eq_true rfl) dX1_goOn_123 (fun u h123 => ?_)
              obtain ⟨mX_123, rfl⟩ : ∃ z, z = u := ⟨_, rfl⟩
              show gW k (wX o (eE, eB, eL, sZ, dE, dB, dL, sT, mX_123, tN_120, n, ct, ds, ac, sk, sb, be)) 126 [(0, Value.ref (o.2.1)), (1, vI d), (2, vI (25 * d)), (3, vI sz), (4, vI an), (5, vI a)] []
              have e120 : tN_120 d = tN d + 1 := by rw [etN_120]; exact iU_s
              refine g_aload_n hC dX1_goOn_126 rfl 0 rfl ?_
              refine x_get_turn hC dX1_goOn_127 ?_
              refine g_iload_n hC dX1_goOn_130 rfl 1 rfl ?_
              refine x_ld_turn hC (by omega) dX1_goOn_131 ?_
              refine g_iconst hC dX1_goOn_132 ?_
              refine g_icmp_ne hC 140 dX1_goOn_133 (by decide) (by omega) (by omega) (fun c133 => ?_) (fun c133 => ?_)
              · refine g_iconst hC dX1_goOn_140 ?_
                exact hret _ _ 0 (mX_123, tN_120) dX1_goOn_141 (rfl) (by omega) (go_2 (isB_t hany c108) etN_120 h123.2 c133)
              · refine g_iconst hC dX1_goOn_136 ?_
                refine g_goto hC 141 dX1_goOn_137 (by decide) ?_
                exact hret _ _ 1 (mX_123, tN_120) dX1_goOn_141 (rfl) (by omega) (go_1 hok hd.1 hd.2 hc (isB_t hany c108) etN_120 ht.1 h123 c133)
          · have hq := habs a (by omega) (by omega)
            have hr := clo_rg hc (i := eE a) (j := eB a) (by omega) (by omega) (by omega) (by omega)
            refine g_iload hC dX1_goOn_54 4 rfl ?_
            refine g_if_ne hC 93 dX1_goOn_56 (by decide) (by omega) (fun c56 => ?_) (fun c56 => ?_)
            · refine g_iconst hC dX1_goOn_93 ?_
              refine g_goto hC 98 dX1_goOn_94 (by decide) ?_
              refine g_istore hC [(4, vI 1), (0, Value.ref (o.2.1)), (1, vI d), (2, vI (25 * d)), (3, vI sz), (5, vI a)] dX1_goOn_98 (by decide) rfl ?_
              refine g_iinc hC [(5, vI (a + 1)), (4, vI 1), (0, Value.ref (o.2.1)), (1, vI d), (2, vI (25 * d)), (3, vI sz)] dX1_goOn_100 5 rfl (by decide) rfl ?_
              refine g_goto hC 44 dX1_goOn_103 (by decide) ?_
              refine g_lv [2, 3, 4, 5, 1, 0] rfl ?_
              exact ih44 1 (a + 1) ⟨by omega, by omega⟩ (by omega) (an_t han c56)
            · refine g_aload_n hC dX1_goOn_59 rfl 0 rfl ?_
              refine x_get_matrix hC dX1_goOn_60 ?_
              refine g_iload_n hC dX1_goOn_63 rfl 2 rfl ?_
              refine g_iconst hC dX1_goOn_64 ?_
              refine g_aload_n hC dX1_goOn_65 rfl 0 rfl ?_
              refine x_get_ends hC dX1_goOn_66 ?_
              refine g_iload hC dX1_goOn_69 5 rfl ?_
              refine x_ld_ends hC (by omega) dX1_goOn_71 ?_
              refine g_imul hC dX1_goOn_72 ?_
              refine g_iadd hC dX1_goOn_73 ?_
              refine g_aload_n hC dX1_goOn_74 rfl 0 rfl ?_
              refine x_get_begins hC dX1_goOn_75 ?_
              refine g_iload hC dX1_goOn_78 5 rfl ?_
              refine x_ld_begins hC (by omega) dX1_goOn_80 ?_
              refine g_iadd hC dX1_goOn_81 ?_
              refine x_ld_matrix hC (by omega) dX1_goOn_82 ?_
              refine g_aload_n hC dX1_goOn_83 rfl 0 rfl ?_
              refine x_get_limits hC dX1_goOn_84 ?_
              refine g_iload hC dX1_goOn_87 5 rfl ?_
              refine x_ld_limits hC (by omega) dX1_goOn_89 ?_
              refine g_icmp_gt hC 97 dX1_goOn_90 (by decide) (by omega) (by omega) (fun c90 => ?_) (fun c90 => ?_)
              · refine g_iconst hC dX1_goOn_97 ?_
                refine g_istore hC [(4, vI 0), (0, Value.ref (o.2.1)), (1, vI d), (2, vI (25 * d)), (3, vI sz), (5, vI a)] dX1_goOn_98 (by decide) rfl ?_
                refine g_iinc hC [(5, vI (a + 1)), (4, vI 0), (0, Value.ref (o.2.1)), (1, vI d), (2, vI (25 * d)), (3, vI sz)] dX1_goOn_100 5 rfl (by decide) rfl ?_
                refine g_goto hC 44 dX1_goOn_103 (by decide) ?_
                refine g_lv [2, 3, 4, 5, 1, 0] rfl ?_
                exact ih44 0 (a + 1) ⟨by omega, by omega⟩ (by omega) (an_f han (by omega) (by omega))
              · refine g_iconst hC dX1_goOn_93 ?_
                refine g_goto hC 98 dX1_goOn_94 (by decide) ?_
                refine g_istore hC [(4, vI 1), (0, Value.ref (o.2.1)), (1, vI d), (2, vI (25 * d)), (3, vI sz), (5, vI a)] dX1_goOn_98 (by decide) rfl ?_
                refine g_iinc hC [(5, vI (a + 1)), (4, vI 1), (0, Value.ref (o.2.1)), (1, vI d), (2, vI (25 * d)), (3, vI sz)] dX1_goOn_100 5 rfl (by decide) rfl ?_
                refine g_goto hC 44 dX1_goOn_103 (by decide) ?_
                refine g_lv [2, 3, 4, 5, 1, 0] rfl ?_
                exact ih44 1 (a + 1) ⟨by omega, by omega⟩ (by omega) (an_n ha.1 (by omega))
      refine g_lv [4, 5, 3, 2, 1, 0] rfl ?_
      exact loop44 ((3 * d + sz - (3 * d) : Int) + 1).toNat an0 (3 * d) ⟨by omega, by omega⟩ (by omega) (an_0 han0)
    refine g_iload_n hC dX1_goOn_24 rfl 3 rfl ?_
    refine g_aload_n hC dX1_goOn_25 rfl 2 rfl ?_
    refine x_get_skipped hC dX1_goOn_26 ?_
    refine g_icmp_ne hC 36 dX1_goOn_29 (by decide) (by omega) (by omega) (fun c29 => ?_) (fun c29 => ?_)
    · refine g_iconst hC dX1_goOn_36 ?_
      exact join37 0 (Or.inr ⟨c29, rfl⟩)
    · refine g_iconst hC dX1_goOn_32 ?_
      refine g_goto hC 37 dX1_goOn_33 (by decide) ?_
      exact join37 1 (Or.inl ⟨c29, rfl⟩)
  refine g_iload_n hC dX1_goOn_5 rfl 2 rfl ?_
  refine g_aload_n hC dX1_goOn_6 rfl 1 rfl ?_
  refine x_get_skipped hC dX1_goOn_7 ?_
  refine g_icmp_ne hC 17 dX1_goOn_10 (by decide) (by omega) (by omega) (fun c10 => ?_) (fun c10 => ?_)
  · refine g_aload_n hC dX1_goOn_17 rfl 1 rfl ?_
    refine x_get_sizes hC dX1_goOn_18 ?_
    refine g_iload_n hC dX1_goOn_21 rfl 2 rfl ?_
    refine x_ld_sizes hC (by omega) dX1_goOn_22 ?_
    exact join23 (sZ d) (Or.inr ⟨c10, rfl⟩)
  · refine g_iconst hC dX1_goOn_13 ?_
    refine g_goto hC 23 dX1_goOn_14 (by decide) ?_
    exact join23 0 (Or.inl ⟨c10, rfl⟩)
end
section
/-! CLASS: the search -/
set_option maxRecDepth 100000
theorem gi_X_search : gI yX1_search RX1 cX1_search 7 (some .boolean) 2 := ⟨q145, qs6, q24, q146, by decide, by decide +kernel⟩
set_option maxHeartbeats 4000000 in
theorem met_X_search (l : Launch) (D : va_G) (o : gO) (eE eB eL sZ dE dB dL sT mX tN : Int → Int) (n ct ds ac sk sb be : Int) (i j : Int) (P : (Int → Int) → Prop) (hok : okC n ct sZ eE eB eL) (hS : SI sT sb P) (hsk : -1 ≤ sk ∧ sk ≤ 8) (hij : (i = -1 ∧ j = -1) ∨ ((0 ≤ i ∧ i ≤ n) ∧ (0 ≤ j ∧ j ≤ n))) : gMetI l yX1_search cX1_search 7 .boolean 2 D [(o.1, .int)] (wX o (eE, eB, eL, sZ, dE, dB, dL, sT, mX, tN, n, ct, ds, ac, sk, sb, be)) [Value.ref o.2.1, vI i, vI j] (fun (z : Int) (u : (Int → Int) × (Int → Int) × Int × Int) => match u with | (mX', tN', ac', be') => seP ct sk i j sZ eE eB eL P z be') (fun (u : (Int → Int) × (Int → Int) × Int × Int) => match u with | (mX', tN', ac', be') => (wX o (eE, eB, eL, sZ, dE, dB, dL, sT, mX', tN', n, ct, ds, ac', sk, sb, be'))) := by
  refine g_metI (by decide) (Nat.le_of_ble_eq_true rfl) ?_
  intro k hC hret
  have hC : gC k cX1_search RX1 [(o.1, .int)] 2 7 := hC
  have hn := hok.1
  have hct := hok.2.1
  have h01 := SI_01 hS
  show gW k (wX o (eE, eB, eL, sZ, dE, dB, dL, sT, mX, tN, n, ct, ds, ac, sk, sb, be)) 0 [(0, Value.ref (o.2.1)), (1, vI i), (2, vI j)] []
  refine g_aload_n hC dX1_search_0 rfl 0 rfl ?_
  refine x_get_startBad hC dX1_search_1 ?_
  refine g_if_eq hC 9 dX1_search_4 (by decide) (by omega) (fun c4 => ?_) (fun c4 => ?_)
  · refine g_aload_n hC dX1_search_9 rfl 0 rfl ?_
    refine g_aload_n hC dX1_search_10 rfl 0 rfl ?_
    refine x_get_count hC dX1_search_11 ?_
    refine x_put_active hC dX1_search_14 ?_
    refine g_aload_n hC dX1_search_17 rfl 0 rfl ?_
    refine g_sipush hC dX1_search_18 (by decide) ?_
    refine x_put_best hC dX1_search_21 ?_
    refine g_iconst hC dX1_search_24 ?_
    refine g_istore_n hC [(3, vI 0), (0, Value.ref (o.2.1)), (1, vI i), (2, vI j)] dX1_search_25 rfl (by decide) rfl ?_
    refine g_iconst hC dX1_search_26 ?_
    refine g_istore hC [(4, vI 0), (3, vI 0), (0, Value.ref (o.2.1)), (1, vI i), (2, vI j)] dX1_search_27 (by decide) rfl ?_
    refine g_iconst hC dX1_search_29 ?_
    refine g_istore hC [(5, vI 0), (4, vI 0), (3, vI 0), (0, Value.ref (o.2.1)), (1, vI i), (2, vI j)] dX1_search_30 (by decide) rfl ?_
    have loop32 : ∀ (N : Nat) (m : Int) (mXx : Int → Int) (hm32 : 0 ≤ 25 - m ∧ 25 - m < (N : Int)) (hm : 0 ≤ m ∧ m ≤ 25) (hA : ∀ r : Int, 0 ≤ r → r < m → mXx r = sT r), gW k (wX o (eE, eB, eL, sZ, dE, dB, dL, sT, mXx, tN, n, ct, ds, ct, sk, sb, (-1000))) 32 [(0, Value.ref (o.2.1)), (1, vI i), (2, vI j), (3, vI 0), (4, vI 0), (5, vI m)] [] := by
      intro N
      induction N with
      | zero =>
        intro m mXx hm32
        exfalso
        omega
      | succ N ih32 =>
        intro m mXx hm32 hm hA
        refine g_iload hC dX1_search_32 5 rfl ?_
        refine g_bipush hC dX1_search_34 (by decide) ?_
        refine g_icmp_ge hC 59 dX1_search_36 (by decide) (by omega) (by omega) (fun c36 => ?_) (fun c36 => ?_)
        · refine g_aload_n hC dX1_search_59 rfl 0 rfl ?_
          refine x_get_turn hC dX1_search_60 ?_
          refine g_iconst hC dX1_search_63 ?_
          refine g_iconst hC dX1_search_64 ?_
          refine x_st_turn hC (by omega) dX1_search_65 (fun tN_65 etN_65 => ?_)
          refine g_iconst hC dX1_search_66 ?_
          refine g_istore hC [(5, vI 0), (0, Value.ref (o.2.1)), (1, vI i), (2, vI j), (3, vI 0), (4, vI 0)] dX1_search_67 (by decide) rfl ?_
          have loop69 : ∀ (N : Nat) (an : Int) (d : Int) (s : Int) (mXy : Int → Int) (tNy : Int → Int) (bey : Int) (hm69 : 0 ≤ 40000 - s ∧ 40000 - s < (N : Int)) (hs : 0 ≤ s) (hI : seI ct sk i j sZ eE eB eL P d an bey mXy tNy) (hl : s + seL tNy d ≤ 19681), gW k (wX o (eE, eB, eL, sZ, dE, dB, dL, sT, mXy, tNy, n, ct, ds, ct, sk, sb, bey)) 69 [(0, Value.ref (o.2.1)), (1, vI i), (2, vI j), (3, vI an), (4, vI d), (5, vI s)] [] := by
            intro N
            induction N with
            | zero =>
              intro an d s mXy tNy bey hm69
              exfalso
              omega
            | succ N ih69 =>
              intro an d s mXy tNy bey hm69 hs hI hl
              have g1 := seI_rg hI
              have g2 := seI_nn hI
              refine g_iload hC dX1_search_69 5 rfl ?_
              refine g_ldc (z := 40000) hC q147 (by decide) dX1_search_71 ?_
              refine g_icmp_ge hC 204 dX1_search_73 (by decide) (by omega) (by omega) (fun c73 => ?_) (fun c73 => ?_)
              · refine g_iload_n hC dX1_search_204 rfl 3 rfl ?_
                exact hret _ _ an (mXy, tNy, ct, bey) dX1_search_205 (nar01 (by omega)) (by omega) (by exfalso; omega)
              · refine g_iload hC dX1_search_76 4 rfl ?_
                refine g_if_lt hC 204 dX1_search_78 (by decide) (by omega) (fun c78 => ?_) (fun c78 => ?_)
                · refine g_iload_n hC dX1_search_204 rfl 3 rfl ?_
                  exact hret _ _ an (mXy, tNy, ct, bey) dX1_search_205 (nar01 (by omega)) (by omega) (se_end hI c78)
                · have join105 : ∀ (re : Int) (hre : (i < 0 ∧ re = 0) ∨ (0 ≤ i ∧ re = mXy (25 * d + 5 * i + j))) (hrr : -7 ≤ re ∧ re ≤ 7), gW k (wX o (eE, eB, eL, sZ, dE, dB, dL, sT, mXy, tNy, n, ct, ds, ct, sk, sb, bey)) 105 [(0, Value.ref (o.2.1)), (1, vI i), (2, vI j), (3, vI an), (4, vI d), (5, vI s)] [vI re] := by
                    intro re hre hrr
                    refine g_istore hC [(6, vI re), (0, Value.ref (o.2.1)), (1, vI i), (2, vI j), (3, vI an), (4, vI d), (5, vI s)] dX1_search_105 (by decide) rfl ?_
                    refine g_iload hC dX1_search_107 5 rfl ?_
                    refine g_aload_n hC dX1_search_109 rfl 1 rfl ?_
                    refine x_get_active hC dX1_search_110 ?_
                    refine g_icmp_ne hC 153 dX1_search_113 (by decide) (by omega) (by omega) (fun c113 => ?_) (fun c113 => ?_)
                    · refine g_iload_n hC dX1_search_153 rfl 4 rfl ?_
                      refine g_if_eq hC 172 dX1_search_154 (by decide) (by omega) (fun c154 => ?_) (fun c154 => ?_)
                      · refine g_aload_n hC dX1_search_172 rfl 1 rfl ?_
                        refine g_iload hC dX1_search_173 5 rfl ?_
                        refine x_callI hC gi_X_goOn q148 (met_X_goOn _ _ o _ _ _ _ _ _ _ _ _ _ _ _ _ _ _ _ _ d hok (by omega) (hI.2.1 d (by omega) (by omega)).1 (hI.2.1 d (by omega) (by omega)).2.1 hsk) (by decide) rfl rfl (Nat.le_of_ble_eq_true rfl) dX1_search_175 (fun z175 u rz175 h175 => ?_)
                        obtain ⟨mX_175, tN_175⟩ := u
                        show gW k (wX o (eE, eB, eL, sZ, dE, dB, dL, sT, mX_175, tN_175, n, ct, ds, ct, sk, sb, bey)) 178 [(6, vI re), (0, Value.ref (o.2.1)), (1, vI i), (2, vI j), (3, vI an), (4, vI d), (5, vI s)] [vI z175]
                        have h175 : goP sk sZ eE eB eL mXy tNy mX_175 tN_175 d z175 := h175
                        refine g_if_eq hC 195 dX1_search_178 (by decide) (by have := goP_01 h175; omega) (fun c178 => ?_) (fun c178 => ?_)
                        · rw [c178] at h175
                          refine g_iinc hC [(4, vI (d + (-1))), (6, vI re), (0, Value.ref (o.2.1)), (1, vI i), (2, vI j), (3, vI an), (5, vI s)] dX1_search_195 5 rfl (by decide) rfl ?_
                          refine g_iinc hC [(5, vI (s + 1)), (4, vI (d + (-1))), (6, vI re), (0, Value.ref (o.2.1)), (1, vI i), (2, vI j), (3, vI an)] dX1_search_198 6 rfl (by decide) rfl ?_
                          refine g_goto hC 69 dX1_search_201 (by decide) ?_
                          refine g_lv [3, 4, 5, 6, 1, 0] rfl ?_
                          exact ih69 an (d + (-1)) (s + 1) mX_175 tN_175 bey ⟨by omega, by omega⟩ (by omega) (se_go0 hok hI (by omega) (by omega) h175) (se_dn hI (by omega) h175.2.1 hl)
                        · have e1 : z175 = 1 := by have := goP_01 h175; omega
                          rw [e1] at h175
                          refine g_iinc hC [(4, vI (d + 1)), (6, vI re), (0, Value.ref (o.2.1)), (1, vI i), (2, vI j), (3, vI an), (5, vI s)] dX1_search_181 5 rfl (by decide) rfl ?_
                          refine g_aload_n hC dX1_search_184 rfl 2 rfl ?_
                          refine x_get_turn hC dX1_search_185 ?_
                          refine g_iload hC dX1_search_188 0 rfl ?_
                          refine g_iconst hC dX1_search_190 ?_
                          refine x_st_turn hC (by omega) dX1_search_191 (fun tN_191 etN_191 => ?_)
                          refine g_goto hC 198 dX1_search_192 (by decide) ?_
                          refine g_iinc hC [(5, vI (s + 1)), (4, vI (d + 1)), (6, vI re), (0, Value.ref (o.2.1)), (1, vI i), (2, vI j), (3, vI an)] dX1_search_198 6 rfl (by decide) rfl ?_
                          refine g_goto hC 69 dX1_search_201 (by decide) ?_
                          refine g_lv [3, 4, 5, 6, 1, 0] rfl ?_
                          exact ih69 an (d + 1) (s + 1) mX_175 tN_191 bey ⟨by omega, by omega⟩ (by omega) (se_go1 hok hI (by omega) (by omega) h175 etN_191) (se_up hok hI (by omega) (by omega) h175 etN_191 hl)
                      · refine g_iload hC dX1_search_157 0 rfl ?_
                        refine g_aload_n hC dX1_search_159 rfl 1 rfl ?_
                        refine x_get_best hC dX1_search_160 ?_
                        refine g_icmp_gt hC 172 dX1_search_163 (by decide) (by omega) (by omega) (fun c163 => ?_) (fun c163 => ?_)
                        · refine g_aload_n hC dX1_search_172 rfl 1 rfl ?_
                          refine g_iload hC dX1_search_173 5 rfl ?_
                          refine x_callI hC gi_X_goOn q148 (met_X_goOn _ _ o _ _ _ _ _ _ _ _ _ _ _ _ _ _ _ _ _ d hok (by omega) (hI.2.1 d (by omega) (by omega)).1 (hI.2.1 d (by omega) (by omega)).2.1 hsk) (by decide) rfl rfl (Nat.le_of_ble_eq_true rfl) dX1_search_175 (fun z175 u rz175 h175 => ?_)
                          obtain ⟨mX_175, tN_175⟩ := u
                          show gW k (wX o (eE, eB, eL, sZ, dE, dB, dL, sT, mX_175, tN_175, n, ct, ds, ct, sk, sb, bey)) 178 [(6, vI re), (0, Value.ref (o.2.1)), (1, vI i), (2, vI j), (3, vI an), (4, vI d), (5, vI s)] [vI z175]
                          have h175 : goP sk sZ eE eB eL mXy tNy mX_175 tN_175 d z175 := h175
                          refine g_if_eq hC 195 dX1_search_178 (by decide) (by have := goP_01 h175; omega) (fun c178 => ?_) (fun c178 => ?_)
                          · rw [c178] at h175
                            refine g_iinc hC [(4, vI (d + (-1))), (6, vI re), (0, Value.ref (o.2.1)), (1, vI i), (2, vI j), (3, vI an), (5, vI s)] dX1_search_195 5 rfl (by decide) rfl ?_
                            refine g_iinc hC [(5, vI (s + 1)), (4, vI (d + (-1))), (6, vI re), (0, Value.ref (o.2.1)), (1, vI i), (2, vI j), (3, vI an)] dX1_search_198 6 rfl (by decide) rfl ?_
                            refine g_goto hC 69 dX1_search_201 (by decide) ?_
                            refine g_lv [3, 4, 5, 6, 1, 0] rfl ?_
                            exact ih69 an (d + (-1)) (s + 1) mX_175 tN_175 bey ⟨by omega, by omega⟩ (by omega) (se_go0 hok hI (by omega) (by omega) h175) (se_dn hI (by omega) h175.2.1 hl)
                          · have e1 : z175 = 1 := by have := goP_01 h175; omega
                            rw [e1] at h175
                            refine g_iinc hC [(4, vI (d + 1)), (6, vI re), (0, Value.ref (o.2.1)), (1, vI i), (2, vI j), (3, vI an), (5, vI s)] dX1_search_181 5 rfl (by decide) rfl ?_
                            refine g_aload_n hC dX1_search_184 rfl 2 rfl ?_
                            refine x_get_turn hC dX1_search_185 ?_
                            refine g_iload hC dX1_search_188 0 rfl ?_
                            refine g_iconst hC dX1_search_190 ?_
                            refine x_st_turn hC (by omega) dX1_search_191 (fun tN_191 etN_191 => ?_)
                            refine g_goto hC 198 dX1_search_192 (by decide) ?_
                            refine g_iinc hC [(5, vI (s + 1)), (4, vI (d + 1)), (6, vI re), (0, Value.ref (o.2.1)), (1, vI i), (2, vI j), (3, vI an)] dX1_search_198 6 rfl (by decide) rfl ?_
                            refine g_goto hC 69 dX1_search_201 (by decide) ?_
                            refine g_lv [3, 4, 5, 6, 1, 0] rfl ?_
                            exact ih69 an (d + 1) (s + 1) mX_175 tN_191 bey ⟨by omega, by omega⟩ (by omega) (se_go1 hok hI (by omega) (by omega) h175 etN_191) (se_up hok hI (by omega) (by omega) h175 etN_191 hl)
                        · refine g_iinc hC [(4, vI (d + (-1))), (6, vI re), (0, Value.ref (o.2.1)), (1, vI i), (2, vI j), (3, vI an), (5, vI s)] dX1_search_166 5 rfl (by decide) rfl ?_
                          refine g_goto hC 198 dX1_search_169 (by decide) ?_
                          refine g_iinc hC [(5, vI (s + 1)), (4, vI (d + (-1))), (6, vI re), (0, Value.ref (o.2.1)), (1, vI i), (2, vI j), (3, vI an)] dX1_search_198 6 rfl (by decide) rfl ?_
                          refine g_goto hC 69 dX1_search_201 (by decide) ?_
                          refine g_lv [3, 4, 5, 6, 1, 0] rfl ?_
                          exact ih69 an (d + (-1)) (s + 1) mXy tNy bey ⟨by omega, by omega⟩ (by omega) (se_prune (re := re) hI c154 (by omega) (fun _ => by omega) (fun _ => by omega) (fun _ => by omega) (by omega)) (se_dn hI (by omega) (fun m _ => rfl) hl)
                    · refine g_iconst hC dX1_search_116 ?_
                      refine g_istore_n hC [(3, vI 1), (6, vI re), (0, Value.ref (o.2.1)), (1, vI i), (2, vI j), (4, vI d), (5, vI s)] dX1_search_117 rfl (by decide) rfl ?_
                      refine g_aload_n hC dX1_search_118 rfl 2 rfl ?_
                      refine g_iload hC dX1_search_119 1 rfl ?_
                      refine g_aload_n hC dX1_search_121 rfl 2 rfl ?_
                      refine x_get_best hC dX1_search_122 ?_
                      refine g_icmp_le hC 133 dX1_search_125 (by decide) (by omega) (by omega) (fun c125 => ?_) (fun c125 => ?_)
                      · refine g_aload_n hC dX1_search_133 rfl 2 rfl ?_
                        refine x_get_best hC dX1_search_134 ?_
                        refine x_put_best hC dX1_search_137 ?_
                        refine g_iload_n hC dX1_search_140 rfl 3 rfl ?_
                        refine g_if_ge hC 147 dX1_search_141 (by decide) (by omega) (fun c141 => ?_) (fun c141 => ?_)
                        · refine g_iinc hC [(4, vI (d + (-1))), (3, vI 1), (6, vI re), (0, Value.ref (o.2.1)), (1, vI i), (2, vI j), (5, vI s)] dX1_search_147 5 rfl (by decide) rfl ?_
                          refine g_goto hC 198 dX1_search_150 (by decide) ?_
                          refine g_iinc hC [(5, vI (s + 1)), (4, vI (d + (-1))), (3, vI 1), (6, vI re), (0, Value.ref (o.2.1)), (1, vI i), (2, vI j)] dX1_search_198 6 rfl (by decide) rfl ?_
                          refine g_goto hC 69 dX1_search_201 (by decide) ?_
                          refine g_lv [4, 5, 6, 2, 1, 0] rfl ?_
                          exact ih69 1 (d + (-1)) (s + 1) mXy tNy bey ⟨by omega, by omega⟩ (by omega) (se_leaf (re := re) hI c113 (by omega) (by omega) (by omega) (by omega) (by rw [if_neg (by omega)])) (se_dn hI (by omega) (fun m _ => rfl) hl)
                        · refine g_goto hC 204 dX1_search_144 (by decide) ?_
                          refine g_iload_n hC dX1_search_204 rfl 0 rfl ?_
                          exact hret _ _ 1 (mXy, tNy, ct, bey) dX1_search_205 (nar01 (by omega)) (by omega) (se_hit hI c113 (by omega) (by omega))
                      · refine g_iload hC dX1_search_128 1 rfl ?_
                        refine g_goto hC 137 dX1_search_130 (by decide) ?_
                        refine x_put_best hC dX1_search_137 ?_
                        refine g_iload_n hC dX1_search_140 rfl 3 rfl ?_
                        refine g_if_ge hC 147 dX1_search_141 (by decide) (by omega) (fun c141 => ?_) (fun c141 => ?_)
                        · refine g_iinc hC [(4, vI (d + (-1))), (3, vI 1), (6, vI re), (0, Value.ref (o.2.1)), (1, vI i), (2, vI j), (5, vI s)] dX1_search_147 5 rfl (by decide) rfl ?_
                          refine g_goto hC 198 dX1_search_150 (by decide) ?_
                          refine g_iinc hC [(5, vI (s + 1)), (4, vI (d + (-1))), (3, vI 1), (6, vI re), (0, Value.ref (o.2.1)), (1, vI i), (2, vI j)] dX1_search_198 6 rfl (by decide) rfl ?_
                          refine g_goto hC 69 dX1_search_201 (by decide) ?_
                          refine g_lv [4, 5, 6, 2, 1, 0] rfl ?_
                          exact ih69 1 (d + (-1)) (s + 1) mXy tNy re ⟨by omega, by omega⟩ (by omega) (se_leaf (re := re) hI c113 (by omega) (by omega) (by omega) (by omega) (by rw [if_pos (by omega)])) (se_dn hI (by omega) (fun m _ => rfl) hl)
                        · refine g_goto hC 204 dX1_search_144 (by decide) ?_
                          refine g_iload_n hC dX1_search_204 rfl 0 rfl ?_
                          exact hret _ _ 1 (mXy, tNy, ct, re) dX1_search_205 (nar01 (by omega)) (by omega) (se_hit hI c113 (by omega) (by omega))
                  refine g_iload_n hC dX1_search_81 rfl 1 rfl ?_
                  refine g_if_ge hC 89 dX1_search_82 (by decide) (by omega) (fun c82 => ?_) (fun c82 => ?_)
                  · refine g_aload_n hC dX1_search_89 rfl 0 rfl ?_
                    refine x_get_matrix hC dX1_search_90 ?_
                    refine g_bipush hC dX1_search_93 (by decide) ?_
                    refine g_iload hC dX1_search_95 4 rfl ?_
                    refine g_imul hC dX1_search_97 ?_
                    refine g_iconst hC dX1_search_98 ?_
                    refine g_iload_n hC dX1_search_99 rfl 1 rfl ?_
                    refine g_imul hC dX1_search_100 ?_
                    refine g_iadd hC dX1_search_101 ?_
                    refine g_iload_n hC dX1_search_102 rfl 2 rfl ?_
                    refine g_iadd hC dX1_search_103 ?_
                    refine x_ld_matrix hC (by omega) dX1_search_104 ?_
                    exact join105 (mXy (((25 * d) + (5 * i)) + j)) (Or.inr ⟨c82, rfl⟩) (se_reach hI (by omega) (by omega) (by omega))
                  · refine g_iconst hC dX1_search_85 ?_
                    refine g_goto hC 105 dX1_search_86 (by decide) ?_
                    exact join105 0 (Or.inl ⟨by omega, rfl⟩) (by omega)
          refine g_lv [1, 2, 3, 4, 5, 0] rfl ?_
          exact loop69 ((40000 - 0 : Int) + 1).toNat 0 0 0 mXx tN_65 (-1000) ⟨by omega, by omega⟩ (by omega) (se_0 hct.1 (SI_0 hS c4) (fun r r0 r1 => hA r r0 (by omega)) (by rw [etN_65]; exact iU_s)) (by rw [seL_0 (by rw [etN_65]; exact iU_s)]; omega)
        · refine g_aload_n hC dX1_search_39 rfl 0 rfl ?_
          refine x_get_matrix hC dX1_search_40 ?_
          refine g_iload hC dX1_search_43 5 rfl ?_
          refine g_aload_n hC dX1_search_45 rfl 0 rfl ?_
          refine x_get_start hC dX1_search_46 ?_
          refine g_iload hC dX1_search_49 5 rfl ?_
          refine x_ld_start hC (by omega) dX1_search_51 ?_
          refine x_st_matrix hC (by omega) dX1_search_52 (fun mX_52 emX_52 => ?_)
          refine g_iinc hC [(5, vI (m + 1)), (0, Value.ref (o.2.1)), (1, vI i), (2, vI j), (3, vI 0), (4, vI 0)] dX1_search_53 5 rfl (by decide) rfl ?_
          refine g_goto hC 32 dX1_search_56 (by decide) ?_
          refine g_lv [1, 2, 3, 4, 5, 0] rfl ?_
          exact ih32 (m + 1) mX_52 ⟨by omega, by omega⟩ (by omega) (i_ls (fun r r0 r1 => by rw [emX_52, iU_n (by omega)]; exact hA r r0 r1) (by rw [emX_52]; exact iU_s))
    refine g_lv [3, 4, 5, 2, 1, 0] rfl ?_
    exact loop32 ((25 - 0 : Int) + 1).toNat 0 mX ⟨by omega, by omega⟩ (by omega) (i_l0)
  · refine g_iconst hC dX1_search_7 ?_
    exact hret _ _ 0 (mX, tN, ac, be) dX1_search_8 (rfl) (by omega) (⟨Or.inr ⟨rfl, fun ⟨t, pt, _⟩ => SI_none hS c4 t pt⟩, fun _ q => absurd q (by omega)⟩)
theorem gi_X_canMeet : gI yX1_canMeet RX1 cX1_canMeet 1 (some .boolean) 0 := ⟨q141, qs5, q24, q142, by decide, by decide +kernel⟩
set_option maxHeartbeats 4000000 in
theorem met_X_canMeet (l : Launch) (D : va_G) (o : gO) (eE eB eL sZ dE dB dL sT mX tN : Int → Int) (n ct ds ac sk sb be : Int) (P : (Int → Int) → Prop) (hok : okC n ct sZ eE eB eL) (hS : SI sT sb P) (hsk : -1 ≤ sk ∧ sk ≤ 8) : gMetI l yX1_canMeet cX1_canMeet 1 .boolean 3 D [(o.1, .int)] (wX o (eE, eB, eL, sZ, dE, dB, dL, sT, mX, tN, n, ct, ds, ac, sk, sb, be)) [Value.ref o.2.1] (fun (z : Int) (u : (Int → Int) × (Int → Int) × Int × Int) => match u with | (mX', tN', ac', be') => isB z (∃ t : Int → Int, P t ∧ sol ct sk sZ eE eB eL t)) (fun (u : (Int → Int) × (Int → Int) × Int × Int) => match u with | (mX', tN', ac', be') => (wX o (eE, eB, eL, sZ, dE, dB, dL, sT, mX', tN', n, ct, ds, ac', sk, sb, be'))) := by
  refine g_metI (by decide) (Nat.le_of_ble_eq_true rfl) ?_
  intro k hC hret
  have hC : gC k cX1_canMeet RX1 [(o.1, .int)] 3 1 := hC
  show gW k (wX o (eE, eB, eL, sZ, dE, dB, dL, sT, mX, tN, n, ct, ds, ac, sk, sb, be)) 0 [(0, Value.ref (o.2.1))] []
  refine g_aload_n hC dX1_canMeet_0 rfl 0 rfl ?_
  refine g_iconst hC dX1_canMeet_1 ?_
  refine g_iconst hC dX1_canMeet_2 ?_
  refine x_callI hC gi_X_search q143 (met_X_search _ _ o _ _ _ _ _ _ _ _ _ _ _ _ _ _ _ _ _ (-1) (-1) P hok hS hsk (Or.inl ⟨rfl, rfl⟩)) (by decide) rfl rfl (Nat.le_of_ble_eq_true rfl) dX1_canMeet_3 (fun z3 u rz3 h3 => ?_)
  obtain ⟨mX_3, tN_3, ac_3, be_3⟩ := u
  show gW k (wX o (eE, eB, eL, sZ, dE, dB, dL, sT, mX_3, tN_3, n, ct, ds, ac_3, sk, sb, be_3)) 6 [(0, Value.ref (o.2.1))] [vI z3]
  have h3 : seP ct sk (-1) (-1) sZ eE eB eL P z3 be_3 := h3
  exact hret _ _ z3 (mX_3, tN_3, ac_3, be_3) dX1_canMeet_6 (nar01 (isB_01 h3.1)) (by omega) (h3.1)
theorem gi_X_solvable : gI yX1_solvable RX1 cX1_solvable 1 (some .int) 0 := ⟨q132, q133, q24, q134, by decide, by decide +kernel⟩
set_option maxHeartbeats 4000000 in
theorem met_X_solvable (l : Launch) (D : va_G) (o : gO) (eE eB eL sZ dE dB dL sT mX tN : Int → Int) (n ct ds ac sk sb be : Int) (hok : okC n ct sZ eE eB eL) (hsk : sk = -1) : gMetI l yX1_solvable cX1_solvable 1 .int 4 D [(o.1, .int)] (wX o (eE, eB, eL, sZ, dE, dB, dL, sT, mX, tN, n, ct, ds, ac, sk, sb, be)) [Value.ref o.2.1] (fun (z : Int) (u : (Int → Int) × Int × (Int → Int) × (Int → Int) × Int × Int) => match u with | (sT', sb', mX', tN', ac', be') => isB z (∃ p : Int, dom n ct (-1) sZ eE eB eL p)) (fun (u : (Int → Int) × Int × (Int → Int) × (Int → Int) × Int × Int) => match u with | (sT', sb', mX', tN', ac', be') => (wX o (eE, eB, eL, sZ, dE, dB, dL, sT', mX', tN', n, ct, ds, ac', sk, sb', be'))) := by
  refine g_metI (by decide) (Nat.le_of_ble_eq_true rfl) ?_
  intro k hC hret
  have hC : gC k cX1_solvable RX1 [(o.1, .int)] 4 1 := hC
  show gW k (wX o (eE, eB, eL, sZ, dE, dB, dL, sT, mX, tN, n, ct, ds, ac, sk, sb, be)) 0 [(0, Value.ref (o.2.1))] []
  refine g_aload_n hC dX1_solvable_0 rfl 0 rfl ?_
  refine x_callV hC gi_X_openStart q135 (met_X_openStart _ _ o _ _ _ _ _ _ _ _ _ _ _ _ _ _ _ _ _  hok.1) (by decide) rfl rfl (Nat.le_of_ble_eq_true rfl) dX1_solvable_1 (fun u h1 => ?_)
  obtain ⟨sT_1, sb_1⟩ := u
  show gW k (wX o (eE, eB, eL, sZ, dE, dB, dL, sT_1, mX, tN, n, ct, ds, ac, sk, sb_1, be)) 4 [(0, Value.ref (o.2.1))] []
  refine g_aload_n hC dX1_solvable_4 rfl 0 rfl ?_
  refine x_callI hC gi_X_canMeet q139 (met_X_canMeet _ _ o _ _ _ _ _ _ _ _ _ _ _ _ _ _ _ _ _  (bs n) hok h1.2 (by omega)) (by decide) rfl rfl (Nat.le_of_ble_eq_true rfl) dX1_solvable_5 (fun z5 u rz5 h5 => ?_)
  obtain ⟨mX_5, tN_5, ac_5, be_5⟩ := u
  show gW k (wX o (eE, eB, eL, sZ, dE, dB, dL, sT_1, mX_5, tN_5, n, ct, ds, ac_5, sk, sb_1, be_5)) 8 [(0, Value.ref (o.2.1))] [vI z5]
  have h5 : isB z5 (∃ t : Int → Int, bs n t ∧ sol ct sk sZ eE eB eL t) := h5
  rw [hsk] at h5
  have k5 := sv_is hok h5
  refine g_if_eq hC 15 dX1_solvable_8 (by decide) (by have := isB_01 k5; omega) (fun c8 => ?_) (fun c8 => ?_)
  · refine g_iconst hC dX1_solvable_15 ?_
    exact hret _ _ 0 (sT_1, sb_1, mX_5, tN_5, ac_5, be_5) dX1_solvable_16 (rfl) (by omega) (isB_0 k5 c8)
  · refine g_iconst hC dX1_solvable_11 ?_
    refine g_goto hC 16 dX1_solvable_12 (by decide) ?_
    exact hret _ _ 1 (sT_1, sb_1, mX_5, tN_5, ac_5, be_5) dX1_solvable_16 (rfl) (by omega) (isB_1 k5 c8)
end
section
/-! CLASS: answers -/
set_option maxRecDepth 100000
theorem gi_X_earliest : gI yX1_earliest RX1 cX1_earliest 3 (some .int) 1 := ⟨q161, q162, q24, q163, by decide, by decide +kernel⟩
set_option maxHeartbeats 4000000 in
theorem met_X_earliest (l : Launch) (D : va_G) (o : gO) (eE eB eL sZ dE dB dL sT mX tN : Int → Int) (n ct ds ac sk sb be : Int) (ev : Int) (hok : okC n ct sZ eE eB eL) (hsk : sk = -1) (he : -2147483648 ≤ ev ∧ ev < 2147483648) : gMetI l yX1_earliest cX1_earliest 3 .int 3 D [(o.1, .int)] (wX o (eE, eB, eL, sZ, dE, dB, dL, sT, mX, tN, n, ct, ds, ac, sk, sb, be)) [Value.ref o.2.1, vI ev] (fun (z : Int) (u : (Int → Int) × Int × (Int → Int) × (Int → Int) × Int × Int) => match u with | (sT', sb', mX', tN', ac', be') => (z = -1 ∧ ¬ (0 ≤ ev ∧ ev < n)) ∨ ((0 ≤ ev ∧ ev < n) ∧ ∃ y : Int, mxP (fun p => tim n p n - tim n p ev) (fun p => sol ct (-1) sZ eE eB eL (tim n p)) (p8 n) y ∧ z = if y = -200 then -2 else -y)) (fun (u : (Int → Int) × Int × (Int → Int) × (Int → Int) × Int × Int) => match u with | (sT', sb', mX', tN', ac', be') => (wX o (eE, eB, eL, sZ, dE, dB, dL, sT', mX', tN', n, ct, ds, ac', sk, sb', be'))) := by
  refine g_metI (by decide) (Nat.le_of_ble_eq_true rfl) ?_
  intro k hC hret
  have hC : gC k cX1_earliest RX1 [(o.1, .int)] 3 3 := hC
  have hn := hok.1
  show gW k (wX o (eE, eB, eL, sZ, dE, dB, dL, sT, mX, tN, n, ct, ds, ac, sk, sb, be)) 0 [(0, Value.ref (o.2.1)), (1, vI ev)] []
  refine g_aload_n hC dX1_earliest_0 rfl 0 rfl ?_
  refine g_iload_n hC dX1_earliest_1 rfl 1 rfl ?_
  refine x_callI hC gi_X_isEvent q115 (met_X_isEvent _ _ o _ _ _ _ _ _ _ _ _ _ _ _ _ _ _ _ _ ev (by omega) (by omega)) (by decide) rfl rfl (Nat.le_of_ble_eq_true rfl) dX1_earliest_2 (fun z2 _ rz2 h2 => ?_)
  have b2 : (z2 = 1 ∧ (0 ≤ ev ∧ ev < n)) ∨ (z2 = 0 ∧ ¬ (0 ≤ ev ∧ ev < n)) := h2
  refine g_if_ne hC 10 dX1_earliest_5 (by decide) (by omega) (fun c5 => ?_) (fun c5 => ?_)
  · refine g_aload_n hC dX1_earliest_10 rfl 0 rfl ?_
    refine x_callV hC gi_X_openStart q135 (met_X_openStart _ _ o _ _ _ _ _ _ _ _ _ _ _ _ _ _ _ _ _  hn) (by decide) rfl rfl (Nat.le_of_ble_eq_true rfl) dX1_earliest_11 (fun u h11 => ?_)
    obtain ⟨sT_11, sb_11⟩ := u
    show gW k (wX o (eE, eB, eL, sZ, dE, dB, dL, sT_11, mX, tN, n, ct, ds, ac, sk, sb_11, be)) 14 [(0, Value.ref (o.2.1)), (1, vI ev)] []
    refine g_aload_n hC dX1_earliest_14 rfl 0 rfl ?_
    refine g_aload_n hC dX1_earliest_15 rfl 0 rfl ?_
    refine x_get_n hC dX1_earliest_16 ?_
    refine g_iload_n hC dX1_earliest_19 rfl 1 rfl ?_
    refine x_callI hC gi_X_search q143 (met_X_search _ _ o _ _ _ _ _ _ _ _ _ _ _ _ _ _ _ _ _ n ev (bs n) hok h11.2 (by omega) (Or.inr ⟨by omega, by omega⟩)) (by decide) rfl rfl (Nat.le_of_ble_eq_true rfl) dX1_earliest_20 (fun z20 u rz20 h20 => ?_)
    obtain ⟨mX_20, tN_20, ac_20, be_20⟩ := u
    show gW k (wX o (eE, eB, eL, sZ, dE, dB, dL, sT_11, mX_20, tN_20, n, ct, ds, ac_20, sk, sb_11, be_20)) 23 [(0, Value.ref (o.2.1)), (1, vI ev)] [vI z20]
    have h20 : seP ct sk n ev sZ eE eB eL (bs n) z20 be_20 := h20
    rw [hsk] at h20
    have g20 := seP_rg h20 (by omega)
    refine g_istore_n hC [(2, vI z20), (0, Value.ref (o.2.1)), (1, vI ev)] dX1_earliest_23 rfl (by decide) rfl ?_
    refine g_iload_n hC dX1_earliest_24 rfl 0 rfl ?_
    refine g_if_eq hC 36 dX1_earliest_25 (by decide) (by omega) (fun c25 => ?_) (fun c25 => ?_)
    · refine g_bipush hC dX1_earliest_36 (by decide) ?_
      exact hret _ _ (-2) (sT_11, sb_11, mX_20, tN_20, ac_20, be_20) dX1_earliest_38 (rfl) (by omega) (Or.inr ⟨by omega, -200, sv_mx hok h20 (by omega) (by omega) (Or.inl ⟨c25, rfl⟩), by rw [if_pos rfl]⟩)
    · refine g_aload_n hC dX1_earliest_28 rfl 1 rfl ?_
      refine x_get_best hC dX1_earliest_29 ?_
      refine g_ineg hC dX1_earliest_32 ?_
      refine g_goto hC 38 dX1_earliest_33 (by decide) ?_
      exact hret _ _ (-be_20) (sT_11, sb_11, mX_20, tN_20, ac_20, be_20) dX1_earliest_38 (rfl) (by omega) (Or.inr ⟨by omega, be_20, sv_mx hok h20 (by omega) (by omega) (Or.inr ⟨c25, rfl⟩), by rw [if_neg (by omega)]⟩)
  · refine g_iconst hC dX1_earliest_8 ?_
    exact hret _ _ (-1) (sT, sb, mX, tN, ac, be) dX1_earliest_9 (rfl) (by omega) (Or.inl ⟨rfl, by omega⟩)
theorem gi_X_latest : gI yX1_latest RX1 cX1_latest 3 (some .int) 1 := ⟨q165, q166, q24, q167, by decide, by decide +kernel⟩
set_option maxHeartbeats 4000000 in
theorem met_X_latest (l : Launch) (D : va_G) (o : gO) (eE eB eL sZ dE dB dL sT mX tN : Int → Int) (n ct ds ac sk sb be : Int) (ev : Int) (hok : okC n ct sZ eE eB eL) (hsk : sk = -1) (he : -2147483648 ≤ ev ∧ ev < 2147483648) : gMetI l yX1_latest cX1_latest 3 .int 3 D [(o.1, .int)] (wX o (eE, eB, eL, sZ, dE, dB, dL, sT, mX, tN, n, ct, ds, ac, sk, sb, be)) [Value.ref o.2.1, vI ev] (fun (z : Int) (u : (Int → Int) × Int × (Int → Int) × (Int → Int) × Int × Int) => match u with | (sT', sb', mX', tN', ac', be') => (z = -1 ∧ ¬ (0 ≤ ev ∧ ev < n)) ∨ ((0 ≤ ev ∧ ev < n) ∧ ∃ y : Int, mxP (fun p => tim n p ev - tim n p n) (fun p => sol ct (-1) sZ eE eB eL (tim n p)) (p8 n) y ∧ z = if y = -200 then -2 else y)) (fun (u : (Int → Int) × Int × (Int → Int) × (Int → Int) × Int × Int) => match u with | (sT', sb', mX', tN', ac', be') => (wX o (eE, eB, eL, sZ, dE, dB, dL, sT', mX', tN', n, ct, ds, ac', sk, sb', be'))) := by
  refine g_metI (by decide) (Nat.le_of_ble_eq_true rfl) ?_
  intro k hC hret
  have hC : gC k cX1_latest RX1 [(o.1, .int)] 3 3 := hC
  have hn := hok.1
  show gW k (wX o (eE, eB, eL, sZ, dE, dB, dL, sT, mX, tN, n, ct, ds, ac, sk, sb, be)) 0 [(0, Value.ref (o.2.1)), (1, vI ev)] []
  refine g_aload_n hC dX1_latest_0 rfl 0 rfl ?_
  refine g_iload_n hC dX1_latest_1 rfl 1 rfl ?_
  refine x_callI hC gi_X_isEvent q115 (met_X_isEvent _ _ o _ _ _ _ _ _ _ _ _ _ _ _ _ _ _ _ _ ev (by omega) (by omega)) (by decide) rfl rfl (Nat.le_of_ble_eq_true rfl) dX1_latest_2 (fun z2 _ rz2 h2 => ?_)
  have b2 : (z2 = 1 ∧ (0 ≤ ev ∧ ev < n)) ∨ (z2 = 0 ∧ ¬ (0 ≤ ev ∧ ev < n)) := h2
  refine g_if_ne hC 10 dX1_latest_5 (by decide) (by omega) (fun c5 => ?_) (fun c5 => ?_)
  · refine g_aload_n hC dX1_latest_10 rfl 0 rfl ?_
    refine x_callV hC gi_X_openStart q135 (met_X_openStart _ _ o _ _ _ _ _ _ _ _ _ _ _ _ _ _ _ _ _  hn) (by decide) rfl rfl (Nat.le_of_ble_eq_true rfl) dX1_latest_11 (fun u h11 => ?_)
    obtain ⟨sT_11, sb_11⟩ := u
    show gW k (wX o (eE, eB, eL, sZ, dE, dB, dL, sT_11, mX, tN, n, ct, ds, ac, sk, sb_11, be)) 14 [(0, Value.ref (o.2.1)), (1, vI ev)] []
    refine g_aload_n hC dX1_latest_14 rfl 0 rfl ?_
    refine g_iload_n hC dX1_latest_15 rfl 1 rfl ?_
    refine g_aload_n hC dX1_latest_16 rfl 0 rfl ?_
    refine x_get_n hC dX1_latest_17 ?_
    refine x_callI hC gi_X_search q143 (met_X_search _ _ o _ _ _ _ _ _ _ _ _ _ _ _ _ _ _ _ _ ev n (bs n) hok h11.2 (by omega) (Or.inr ⟨by omega, by omega⟩)) (by decide) rfl rfl (Nat.le_of_ble_eq_true rfl) dX1_latest_20 (fun z20 u rz20 h20 => ?_)
    obtain ⟨mX_20, tN_20, ac_20, be_20⟩ := u
    show gW k (wX o (eE, eB, eL, sZ, dE, dB, dL, sT_11, mX_20, tN_20, n, ct, ds, ac_20, sk, sb_11, be_20)) 23 [(0, Value.ref (o.2.1)), (1, vI ev)] [vI z20]
    have h20 : seP ct sk ev n sZ eE eB eL (bs n) z20 be_20 := h20
    rw [hsk] at h20
    have g20 := seP_rg h20 (by omega)
    refine g_istore_n hC [(2, vI z20), (0, Value.ref (o.2.1)), (1, vI ev)] dX1_latest_23 rfl (by decide) rfl ?_
    refine g_iload_n hC dX1_latest_24 rfl 0 rfl ?_
    refine g_if_eq hC 35 dX1_latest_25 (by decide) (by omega) (fun c25 => ?_) (fun c25 => ?_)
    · refine g_bipush hC dX1_latest_35 (by decide) ?_
      exact hret _ _ (-2) (sT_11, sb_11, mX_20, tN_20, ac_20, be_20) dX1_latest_37 (rfl) (by omega) (Or.inr ⟨by omega, -200, sv_mx hok h20 (by omega) (by omega) (Or.inl ⟨c25, rfl⟩), by rw [if_pos rfl]⟩)
    · refine g_aload_n hC dX1_latest_28 rfl 1 rfl ?_
      refine x_get_best hC dX1_latest_29 ?_
      refine g_goto hC 37 dX1_latest_32 (by decide) ?_
      exact hret _ _ be_20 (sT_11, sb_11, mX_20, tN_20, ac_20, be_20) dX1_latest_37 (rfl) (by omega) (Or.inr ⟨by omega, be_20, sv_mx hok h20 (by omega) (by omega) (Or.inr ⟨c25, rfl⟩), by rw [if_neg (by omega)]⟩)
  · refine g_iconst hC dX1_latest_8 ?_
    exact hret _ _ (-1) (sT, sb, mX, tN, ac, be) dX1_latest_9 (rfl) (by omega) (Or.inl ⟨rfl, by omega⟩)
theorem gi_X_widest : gI yX1_widest RX1 cX1_widest 4 (some .int) 2 := ⟨q169, q170, q24, q171, by decide, by decide +kernel⟩
set_option maxHeartbeats 4000000 in
theorem met_X_widest (l : Launch) (D : va_G) (o : gO) (eE eB eL sZ dE dB dL sT mX tN : Int → Int) (n ct ds ac sk sb be : Int) (i j : Int) (hok : okC n ct sZ eE eB eL) (hsk : sk = -1) (hi : -2147483648 ≤ i ∧ i < 2147483648) (hj : -2147483648 ≤ j ∧ j < 2147483648) : gMetI l yX1_widest cX1_widest 4 .int 3 D [(o.1, .int)] (wX o (eE, eB, eL, sZ, dE, dB, dL, sT, mX, tN, n, ct, ds, ac, sk, sb, be)) [Value.ref o.2.1, vI i, vI j] (fun (z : Int) (u : (Int → Int) × Int × (Int → Int) × (Int → Int) × Int × Int) => match u with | (sT', sb', mX', tN', ac', be') => (z = -100 ∧ (i < 0 ∨ n < i ∨ j < 0 ∨ n < j)) ∨ ((0 ≤ i ∧ i ≤ n ∧ 0 ≤ j ∧ j ≤ n) ∧ mxP (fun p => tim n p i - tim n p j) (fun p => sol ct (-1) sZ eE eB eL (tim n p)) (p8 n) z)) (fun (u : (Int → Int) × Int × (Int → Int) × (Int → Int) × Int × Int) => match u with | (sT', sb', mX', tN', ac', be') => (wX o (eE, eB, eL, sZ, dE, dB, dL, sT', mX', tN', n, ct, ds, ac', sk, sb', be'))) := by
  refine g_metI (by decide) (Nat.le_of_ble_eq_true rfl) ?_
  intro k hC hret
  have hC : gC k cX1_widest RX1 [(o.1, .int)] 3 4 := hC
  have hn := hok.1
  show gW k (wX o (eE, eB, eL, sZ, dE, dB, dL, sT, mX, tN, n, ct, ds, ac, sk, sb, be)) 0 [(0, Value.ref (o.2.1)), (1, vI i), (2, vI j)] []
  refine g_aload_n hC dX1_widest_0 rfl 0 rfl ?_
  refine g_iload_n hC dX1_widest_1 rfl 1 rfl ?_
  refine x_callI hC gi_X_isPoint q95 (met_X_isPoint _ _ o _ _ _ _ _ _ _ _ _ _ _ _ _ _ _ _ _ i (by omega) (by omega)) (by decide) rfl rfl (Nat.le_of_ble_eq_true rfl) dX1_widest_2 (fun z2 _ rz2 h2 => ?_)
  have b2 : (z2 = 1 ∧ (0 ≤ i ∧ i ≤ n)) ∨ (z2 = 0 ∧ ¬ (0 ≤ i ∧ i ≤ n)) := h2
  refine g_if_eq hC 16 dX1_widest_5 (by decide) (by omega) (fun c5 => ?_) (fun c5 => ?_)
  · refine g_bipush hC dX1_widest_16 (by decide) ?_
    exact hret _ _ (-100) (sT, sb, mX, tN, ac, be) dX1_widest_18 (rfl) (by omega) (Or.inl ⟨rfl, by omega⟩)
  · refine g_aload_n hC dX1_widest_8 rfl 0 rfl ?_
    refine g_iload_n hC dX1_widest_9 rfl 2 rfl ?_
    refine x_callI hC gi_X_isPoint q95 (met_X_isPoint _ _ o _ _ _ _ _ _ _ _ _ _ _ _ _ _ _ _ _ j (by omega) (by omega)) (by decide) rfl rfl (Nat.le_of_ble_eq_true rfl) dX1_widest_10 (fun z10 _ rz10 h10 => ?_)
    have b10 : (z10 = 1 ∧ (0 ≤ j ∧ j ≤ n)) ∨ (z10 = 0 ∧ ¬ (0 ≤ j ∧ j ≤ n)) := h10
    refine g_if_ne hC 19 dX1_widest_13 (by decide) (by omega) (fun c13 => ?_) (fun c13 => ?_)
    · refine g_aload_n hC dX1_widest_19 rfl 0 rfl ?_
      refine x_callV hC gi_X_openStart q135 (met_X_openStart _ _ o _ _ _ _ _ _ _ _ _ _ _ _ _ _ _ _ _  hn) (by decide) rfl rfl (Nat.le_of_ble_eq_true rfl) dX1_widest_20 (fun u h20 => ?_)
      obtain ⟨sT_20, sb_20⟩ := u
      show gW k (wX o (eE, eB, eL, sZ, dE, dB, dL, sT_20, mX, tN, n, ct, ds, ac, sk, sb_20, be)) 23 [(0, Value.ref (o.2.1)), (1, vI i), (2, vI j)] []
      refine g_aload_n hC dX1_widest_23 rfl 0 rfl ?_
      refine g_iload_n hC dX1_widest_24 rfl 1 rfl ?_
      refine g_iload_n hC dX1_widest_25 rfl 2 rfl ?_
      refine x_callI hC gi_X_search q143 (met_X_search _ _ o _ _ _ _ _ _ _ _ _ _ _ _ _ _ _ _ _ i j (bs n) hok h20.2 (by omega) (Or.inr ⟨by omega, by omega⟩)) (by decide) rfl rfl (Nat.le_of_ble_eq_true rfl) dX1_widest_26 (fun z26 u rz26 h26 => ?_)
      obtain ⟨mX_26, tN_26, ac_26, be_26⟩ := u
      show gW k (wX o (eE, eB, eL, sZ, dE, dB, dL, sT_20, mX_26, tN_26, n, ct, ds, ac_26, sk, sb_20, be_26)) 29 [(0, Value.ref (o.2.1)), (1, vI i), (2, vI j)] [vI z26]
      have h26 : seP ct sk i j sZ eE eB eL (bs n) z26 be_26 := h26
      rw [hsk] at h26
      have g26 := seP_rg h26 (by omega)
      refine g_istore_n hC [(3, vI z26), (0, Value.ref (o.2.1)), (1, vI i), (2, vI j)] dX1_widest_29 rfl (by decide) rfl ?_
      refine g_iload_n hC dX1_widest_30 rfl 0 rfl ?_
      refine g_if_eq hC 41 dX1_widest_31 (by decide) (by omega) (fun c31 => ?_) (fun c31 => ?_)
      · refine g_sipush hC dX1_widest_41 (by decide) ?_
        exact hret _ _ (-200) (sT_20, sb_20, mX_26, tN_26, ac_26, be_26) dX1_widest_44 (rfl) (by omega) (Or.inr ⟨by omega, sv_mx hok h26 (by omega) (by omega) (Or.inl ⟨c31, rfl⟩)⟩)
      · refine g_aload_n hC dX1_widest_34 rfl 1 rfl ?_
        refine x_get_best hC dX1_widest_35 ?_
        refine g_goto hC 44 dX1_widest_38 (by decide) ?_
        exact hret _ _ be_26 (sT_20, sb_20, mX_26, tN_26, ac_26, be_26) dX1_widest_44 (rfl) (by omega) (Or.inr ⟨by omega, sv_mx hok h26 (by omega) (by omega) (Or.inr ⟨c31, rfl⟩)⟩)
    · refine g_bipush hC dX1_widest_16 (by decide) ?_
      exact hret _ _ (-100) (sT, sb, mX, tN, ac, be) dX1_widest_18 (rfl) (by omega) (Or.inl ⟨rfl, by omega⟩)
theorem gi_X_meets : gI yX1_meets RX1 cX1_meets 5 (some .int) 1 := ⟨q185, q186, q24, q187, by decide, by decide +kernel⟩
set_option maxHeartbeats 4000000 in
theorem met_X_meets (l : Launch) (D : va_G) (o : gO) (eE eB eL sZ dE dB dL sT mX tN : Int → Int) (n ct ds ac sk sb be : Int) (nu : Int) (hok : okC n ct sZ eE eB eL) (ha : -2147483648 ≤ nu ∧ nu < 2147483648) : gMetI l yX1_meets cX1_meets 5 .int 1 D [(o.1, .int)] (wX o (eE, eB, eL, sZ, dE, dB, dL, sT, mX, tN, n, ct, ds, ac, sk, sb, be)) [Value.ref o.2.1, vI nu] (fun (z : Int) (_ : Unit) => (z = -1 ∧ ¬ (0 ≤ nu ∧ nu < p8 n)) ∨ ((0 ≤ nu ∧ nu < p8 n) ∧ isB z (sol ct (-1) sZ eE eB eL (tim n nu)))) (fun (_ : Unit) => (wX o (eE, eB, eL, sZ, dE, dB, dL, sT, mX, tN, n, ct, ds, ac, sk, sb, be))) := by
  refine g_metI (by decide) (Nat.le_of_ble_eq_true rfl) ?_
  intro k hC hret
  have hC : gC k cX1_meets RX1 [(o.1, .int)] 1 5 := hC
  have hn := hok.1
  have hct := hok.2.1
  have hp8 := p8n hok.1
  show gW k (wX o (eE, eB, eL, sZ, dE, dB, dL, sT, mX, tN, n, ct, ds, ac, sk, sb, be)) 0 [(0, Value.ref (o.2.1)), (1, vI nu)] []
  refine g_iload_n hC dX1_meets_0 rfl 1 rfl ?_
  refine g_if_lt hC 16 dX1_meets_1 (by decide) (by omega) (fun c1 => ?_) (fun c1 => ?_)
  · refine g_iconst hC dX1_meets_16 ?_
    exact hret _ _ (-1) () dX1_meets_17 (rfl) (by omega) (Or.inl ⟨rfl, by omega⟩)
  · refine g_iload_n hC dX1_meets_4 rfl 1 rfl ?_
    refine g_iconst hC dX1_meets_5 ?_
    refine g_iconst hC dX1_meets_6 ?_
    refine g_aload_n hC dX1_meets_7 rfl 0 rfl ?_
    refine x_get_n hC dX1_meets_8 ?_
    refine g_imul hC dX1_meets_11 ?_
    refine g_ishl1 hC n (by omega) (by omega) dX1_meets_12 ?_
    refine g_icmp_lt hC 18 dX1_meets_13 (by decide) (by omega) (by omega) (fun c13 => ?_) (fun c13 => ?_)
    · refine g_iconst hC dX1_meets_18 ?_
      refine g_istore_n hC [(2, vI 0), (0, Value.ref (o.2.1)), (1, vI nu)] dX1_meets_19 rfl (by decide) rfl ?_
      have loop20 : ∀ (N : Nat) (c : Int) (hm20 : 0 ≤ ct - c ∧ ct - c < (N : Int)) (hc : 0 ≤ c ∧ c ≤ ct) (hall : ∀ x : Int, 0 ≤ x → x < c → mt sZ eE eB eL x (tim n nu)), gW k (wX o (eE, eB, eL, sZ, dE, dB, dL, sT, mX, tN, n, ct, ds, ac, sk, sb, be)) 20 [(0, Value.ref (o.2.1)), (1, vI nu), (2, vI c)] [] := by
        intro N
        induction N with
        | zero =>
          intro c hm20
          exfalso
          omega
        | succ N ih20 =>
          intro c hm20 hc hall
          refine g_iload_n hC dX1_meets_20 rfl 2 rfl ?_
          refine g_aload_n hC dX1_meets_21 rfl 0 rfl ?_
          refine x_get_count hC dX1_meets_22 ?_
          refine g_icmp_ge hC 113 dX1_meets_25 (by decide) (by omega) (by omega) (fun c25 => ?_) (fun c25 => ?_)
          · refine g_iconst hC dX1_meets_113 ?_
            exact hret _ _ 1 () dX1_meets_114 (rfl) (by omega) (Or.inr ⟨by omega, Or.inl ⟨rfl, fun x x0 x1 _ => hall x x0 (by omega)⟩⟩)
          · have hz := (hok.2.2 c (by omega) (by omega)).1
            have habs := okC_abs hok (d := c) (by omega) (by omega)
            refine g_iconst hC dX1_meets_28 ?_
            refine g_istore_n hC [(3, vI 0), (0, Value.ref (o.2.1)), (1, vI nu), (2, vI c)] dX1_meets_29 rfl (by decide) rfl ?_
            refine g_iconst hC dX1_meets_30 ?_
            refine g_iload_n hC dX1_meets_31 rfl 3 rfl ?_
            refine g_imul hC dX1_meets_32 ?_
            refine g_istore hC [(4, vI (3 * c)), (3, vI 0), (0, Value.ref (o.2.1)), (1, vI nu), (2, vI c)] dX1_meets_33 (by decide) rfl ?_
            have loop35 : ∀ (N : Nat) (me : Int) (a : Int) (hm35 : 0 ≤ 3 * c + sZ c - a ∧ 3 * c + sZ c - a < (N : Int)) (haa : 3 * c ≤ a ∧ a ≤ 3 * c + sZ c) (hme : isB me (∃ q : Int, 3 * c ≤ q ∧ q < a ∧ tim n nu (eE q) - tim n nu (eB q) ≤ eL q)), gW k (wX o (eE, eB, eL, sZ, dE, dB, dL, sT, mX, tN, n, ct, ds, ac, sk, sb, be)) 35 [(0, Value.ref (o.2.1)), (1, vI nu), (2, vI c), (3, vI me), (4, vI a)] [] := by
              intro N
              induction N with
              | zero =>
                intro me a hm35
                exfalso
                omega
              | succ N ih35 =>
                intro me a hm35 haa hme
                have g01 := isB_01 hme
                refine g_iload hC dX1_meets_35 4 rfl ?_
                refine g_iconst hC dX1_meets_37 ?_
                refine g_iload_n hC dX1_meets_38 rfl 2 rfl ?_
                refine g_imul hC dX1_meets_39 ?_
                refine g_aload_n hC dX1_meets_40 rfl 0 rfl ?_
                refine x_get_sizes hC dX1_meets_41 ?_
                refine g_iload_n hC dX1_meets_44 rfl 2 rfl ?_
                refine x_ld_sizes hC (by omega) dX1_meets_45 ?_
                refine g_iadd hC dX1_meets_46 ?_
                refine g_icmp_ge hC 101 dX1_meets_47 (by decide) (by omega) (by omega) (fun c47 => ?_) (fun c47 => ?_)
                · have ea : a = 3 * c + sZ c := by omega
                  rw [ea] at hme
                  have hmt := isB_cg hme mt_abs
                  refine g_iload_n hC dX1_meets_101 rfl 3 rfl ?_
                  refine g_if_ne hC 107 dX1_meets_102 (by decide) (by omega) (fun c102 => ?_) (fun c102 => ?_)
                  · refine g_iinc hC [(2, vI (c + 1)), (0, Value.ref (o.2.1)), (1, vI nu), (3, vI me), (4, vI a)] dX1_meets_107 2 rfl (by decide) rfl ?_
                    refine g_goto hC 20 dX1_meets_110 (by decide) ?_
                    refine g_lv [1, 2, 0] rfl ?_
                    exact ih20 (c + 1) ⟨by omega, by omega⟩ (by omega) (i_ls hall (isB_t hmt c102))
                  · refine g_iconst hC dX1_meets_105 ?_
                    exact hret _ _ 0 () dX1_meets_106 (rfl) (by omega) (Or.inr ⟨by omega, Or.inr ⟨rfl, fun hs => isB_f hmt (by omega) (hs c (by omega) (by omega) (by omega))⟩⟩)
                · refine g_iload_n hC dX1_meets_50 rfl 3 rfl ?_
                  refine g_if_ne hC 89 dX1_meets_51 (by decide) (by omega) (fun c51 => ?_) (fun c51 => ?_)
                  · refine g_iconst hC dX1_meets_89 ?_
                    refine g_goto hC 94 dX1_meets_90 (by decide) ?_
                    refine g_istore_n hC [(3, vI 1), (0, Value.ref (o.2.1)), (1, vI nu), (2, vI c), (4, vI a)] dX1_meets_94 rfl (by decide) rfl ?_
                    refine g_iinc hC [(4, vI (a + 1)), (3, vI 1), (0, Value.ref (o.2.1)), (1, vI nu), (2, vI c)] dX1_meets_95 4 rfl (by decide) rfl ?_
                    refine g_goto hC 35 dX1_meets_98 (by decide) ?_
                    refine g_lv [2, 3, 4, 1, 0] rfl ?_
                    exact ih35 1 (a + 1) ⟨by omega, by omega⟩ (by omega) (ex_t hme c51)
                  · have hq := habs a (by omega) (by omega)
                    refine g_aload_n hC dX1_meets_54 rfl 0 rfl ?_
                    refine g_iload_n hC dX1_meets_55 rfl 1 rfl ?_
                    refine g_aload_n hC dX1_meets_56 rfl 0 rfl ?_
                    refine x_get_ends hC dX1_meets_57 ?_
                    refine g_iload hC dX1_meets_60 4 rfl ?_
                    refine x_ld_ends hC (by omega) dX1_meets_62 ?_
                    refine x_callI hC gi_X_timeIn q188 (met_X_timeIn _ _ o _ _ _ _ _ _ _ _ _ _ _ _ _ _ _ _ _ nu (eE a) hn (by omega) (by omega)) (by decide) rfl rfl (Nat.le_of_ble_eq_true rfl) dX1_meets_63 (fun z63 _ rz63 h63 => ?_)
                    refine g_aload_n hC dX1_meets_66 rfl 0 rfl ?_
                    refine g_iload_n hC dX1_meets_67 rfl 1 rfl ?_
                    refine g_aload_n hC dX1_meets_68 rfl 0 rfl ?_
                    refine x_get_begins hC dX1_meets_69 ?_
                    refine g_iload hC dX1_meets_72 4 rfl ?_
                    refine x_ld_begins hC (by omega) dX1_meets_74 ?_
                    refine x_callI hC gi_X_timeIn q188 (met_X_timeIn _ _ o _ _ _ _ _ _ _ _ _ _ _ _ _ _ _ _ _ nu (eB a) hn (by omega) (by omega)) (by decide) rfl rfl (Nat.le_of_ble_eq_true rfl) dX1_meets_75 (fun z75 _ rz75 h75 => ?_)
                    have t1 := tim_rg n nu (eE a)
                    have t2 := tim_rg n nu (eB a)
                    refine g_isub hC dX1_meets_78 ?_
                    refine g_aload_n hC dX1_meets_79 rfl 0 rfl ?_
                    refine x_get_limits hC dX1_meets_80 ?_
                    refine g_iload hC dX1_meets_83 4 rfl ?_
                    refine x_ld_limits hC (by omega) dX1_meets_85 ?_
                    refine g_icmp_gt hC 93 dX1_meets_86 (by decide) (by omega) (by omega) (fun c86 => ?_) (fun c86 => ?_)
                    · refine g_iconst hC dX1_meets_93 ?_
                      refine g_istore_n hC [(3, vI 0), (0, Value.ref (o.2.1)), (1, vI nu), (2, vI c), (4, vI a)] dX1_meets_94 rfl (by decide) rfl ?_
                      refine g_iinc hC [(4, vI (a + 1)), (3, vI 0), (0, Value.ref (o.2.1)), (1, vI nu), (2, vI c)] dX1_meets_95 4 rfl (by decide) rfl ?_
                      refine g_goto hC 35 dX1_meets_98 (by decide) ?_
                      refine g_lv [2, 3, 4, 1, 0] rfl ?_
                      exact ih35 0 (a + 1) ⟨by omega, by omega⟩ (by omega) (ex_f hme (by omega) (by omega))
                    · refine g_iconst hC dX1_meets_89 ?_
                      refine g_goto hC 94 dX1_meets_90 (by decide) ?_
                      refine g_istore_n hC [(3, vI 1), (0, Value.ref (o.2.1)), (1, vI nu), (2, vI c), (4, vI a)] dX1_meets_94 rfl (by decide) rfl ?_
                      refine g_iinc hC [(4, vI (a + 1)), (3, vI 1), (0, Value.ref (o.2.1)), (1, vI nu), (2, vI c)] dX1_meets_95 4 rfl (by decide) rfl ?_
                      refine g_goto hC 35 dX1_meets_98 (by decide) ?_
                      refine g_lv [2, 3, 4, 1, 0] rfl ?_
                      exact ih35 1 (a + 1) ⟨by omega, by omega⟩ (by omega) (ex_n haa.1 (by omega))
            refine g_lv [2, 3, 4, 1, 0] rfl ?_
            exact loop35 ((3 * c + sZ c - (3 * c) : Int) + 1).toNat 0 (3 * c) ⟨by omega, by omega⟩ (by omega) (ex_0)
      refine g_lv [1, 2, 0] rfl ?_
      exact loop20 ((ct - 0 : Int) + 1).toNat 0 ⟨by omega, by omega⟩ (by omega) (i_l0)
    · refine g_iconst hC dX1_meets_16 ?_
      exact hret _ _ (-1) () dX1_meets_17 (rfl) (by omega) (Or.inl ⟨rfl, by omega⟩)
end
section
/-! CLASS: answers, 2 -/
set_option maxRecDepth 100000
theorem gi_X_shortest : gI yX1_shortest RX1 cX1_shortest 3 (some .int) 0 := ⟨q193, q194, q24, q195, by decide, by decide +kernel⟩
set_option maxHeartbeats 4000000 in
theorem met_X_shortest (l : Launch) (D : va_G) (o : gO) (eE eB eL sZ dE dB dL sT mX tN : Int → Int) (n ct ds ac sk sb be : Int) (hok : okC n ct sZ eE eB eL) (hsk : sk = -1) : gMetI l yX1_shortest cX1_shortest 3 .int 4 D [(o.1, .int)] (wX o (eE, eB, eL, sZ, dE, dB, dL, sT, mX, tN, n, ct, ds, ac, sk, sb, be)) [Value.ref o.2.1] (fun (z : Int) (u : (Int → Int) × Int × (Int → Int) × (Int → Int) × Int × Int) => match u with | (sT', sb', mX', tN', ac', be') => shP n (fun p => sol ct (-1) sZ eE eB eL (tim n p)) (p8 n) z) (fun (u : (Int → Int) × Int × (Int → Int) × (Int → Int) × Int × Int) => match u with | (sT', sb', mX', tN', ac', be') => (wX o (eE, eB, eL, sZ, dE, dB, dL, sT', mX', tN', n, ct, ds, ac', sk, sb', be'))) := by
  refine g_metI (by decide) (Nat.le_of_ble_eq_true rfl) ?_
  intro k hC hret
  have hC : gC k cX1_shortest RX1 [(o.1, .int)] 4 3 := hC
  have hn := hok.1
  show gW k (wX o (eE, eB, eL, sZ, dE, dB, dL, sT, mX, tN, n, ct, ds, ac, sk, sb, be)) 0 [(0, Value.ref (o.2.1))] []
  refine g_iconst hC dX1_shortest_0 ?_
  refine g_istore_n hC [(1, vI 0), (0, Value.ref (o.2.1))] dX1_shortest_1 rfl (by decide) rfl ?_
  have loop2 : ∀ (N : Nat) (la : Int) (sTx : Int → Int) (sbx : Int) (mXx : Int → Int) (tNx : Int → Int) (acx : Int) (bex : Int) (hm2 : 0 ≤ 8 - la ∧ 8 - la < (N : Int)) (hla : 0 ≤ la ∧ la ≤ 8) (hno : ∀ v : Int, 0 ≤ v → v < la → ¬ ∃ p : Int, dom n ct (-1) sZ eE eB eL p ∧ ∀ x : Int, 0 ≤ x → x < n → tim n p x ≤ v), gW k (wX o (eE, eB, eL, sZ, dE, dB, dL, sTx, mXx, tNx, n, ct, ds, acx, sk, sbx, bex)) 2 [(0, Value.ref (o.2.1)), (1, vI la)] [] := by
    intro N
    induction N with
    | zero =>
      intro la sTx sbx mXx tNx acx bex hm2
      exfalso
      omega
    | succ N ih2 =>
      intro la sTx sbx mXx tNx acx bex hm2 hla hno
      refine g_iload_n hC dX1_shortest_2 rfl 1 rfl ?_
      refine g_bipush hC dX1_shortest_3 (by decide) ?_
      refine g_icmp_gt hC 53 dX1_shortest_5 (by decide) (by omega) (by omega) (fun c5 => ?_) (fun c5 => ?_)
      · refine g_iconst hC dX1_shortest_53 ?_
        exact hret _ _ (-1) (sTx, sbx, mXx, tNx, acx, bex) dX1_shortest_54 (rfl) (by omega) (sh_none (fun v v0 v1 => hno v v0 (by omega)))
      · refine g_aload_n hC dX1_shortest_8 rfl 0 rfl ?_
        refine x_callV hC gi_X_openStart q135 (met_X_openStart _ _ o _ _ _ _ _ _ _ _ _ _ _ _ _ _ _ _ _  hn) (by decide) rfl rfl (Nat.le_of_ble_eq_true rfl) dX1_shortest_9 (fun u h9 => ?_)
        obtain ⟨sT_9, sb_9⟩ := u
        show gW k (wX o (eE, eB, eL, sZ, dE, dB, dL, sT_9, mXx, tNx, n, ct, ds, acx, sk, sb_9, bex)) 12 [(0, Value.ref (o.2.1)), (1, vI la)] []
        refine g_iconst hC dX1_shortest_12 ?_
        refine g_istore_n hC [(2, vI 0), (0, Value.ref (o.2.1)), (1, vI la)] dX1_shortest_13 rfl (by decide) rfl ?_
        have loop14 : ∀ (N : Nat) (ev : Int) (sTy : Int → Int) (sby : Int) (hm14 : 0 ≤ n - ev ∧ n - ev < (N : Int)) (he : 0 ≤ ev ∧ ev ≤ n) (hS : SI sTy sby (fun t => bs n t ∧ ∀ x : Int, 0 ≤ x → x < ev → t x - t n ≤ la)), gW k (wX o (eE, eB, eL, sZ, dE, dB, dL, sTy, mXx, tNx, n, ct, ds, acx, sk, sby, bex)) 14 [(0, Value.ref (o.2.1)), (1, vI la), (2, vI ev)] [] := by
          intro N
          induction N with
          | zero =>
            intro ev sTy sby hm14
            exfalso
            omega
          | succ N ih14 =>
            intro ev sTy sby hm14 he hS
            refine g_iload_n hC dX1_shortest_14 rfl 2 rfl ?_
            refine g_aload_n hC dX1_shortest_15 rfl 0 rfl ?_
            refine x_get_n hC dX1_shortest_16 ?_
            refine g_icmp_ge hC 38 dX1_shortest_19 (by decide) (by omega) (by omega) (fun c19 => ?_) (fun c19 => ?_)
            · have ee : ev = n := by omega
              rw [ee] at hS
              refine g_aload_n hC dX1_shortest_38 rfl 0 rfl ?_
              refine x_callI hC gi_X_canMeet q139 (met_X_canMeet _ _ o _ _ _ _ _ _ _ _ _ _ _ _ _ _ _ _ _  (fun t => bs n t ∧ ∀ x : Int, 0 ≤ x → x < n → t x - t n ≤ la) hok hS (by omega)) (by decide) rfl rfl (Nat.le_of_ble_eq_true rfl) dX1_shortest_39 (fun z39 u rz39 h39 => ?_)
              obtain ⟨mX_39, tN_39, ac_39, be_39⟩ := u
              show gW k (wX o (eE, eB, eL, sZ, dE, dB, dL, sTy, mX_39, tN_39, n, ct, ds, ac_39, sk, sby, be_39)) 42 [(0, Value.ref (o.2.1)), (1, vI la), (2, vI ev)] [vI z39]
              have h39 : isB z39 (∃ t : Int → Int, (bs n t ∧ ∀ x : Int, 0 ≤ x → x < n → t x - t n ≤ la) ∧ sol ct sk sZ eE eB eL t) := h39
              rw [hsk] at h39
              have k39 := sh_is hok h39
              refine g_if_eq hC 47 dX1_shortest_42 (by decide) (by have := isB_01 k39; omega) (fun c42 => ?_) (fun c42 => ?_)
              · refine g_iinc hC [(1, vI (la + 1)), (0, Value.ref (o.2.1)), (2, vI ev)] dX1_shortest_47 1 rfl (by decide) rfl ?_
                refine g_goto hC 2 dX1_shortest_50 (by decide) ?_
                refine g_lv [1, 0] rfl ?_
                exact ih2 (la + 1) sTy sby mX_39 tN_39 ac_39 be_39 ⟨by omega, by omega⟩ (by omega) (i_ls hno (isB_f k39 c42))
              · refine g_iload_n hC dX1_shortest_45 rfl 1 rfl ?_
                exact hret _ _ la (sTy, sby, mX_39, tN_39, ac_39, be_39) dX1_shortest_46 (rfl) (by omega) (sh_hit (by omega) hno (isB_t k39 c42))
            · refine g_aload_n hC dX1_shortest_22 rfl 0 rfl ?_
              refine g_iload_n hC dX1_shortest_23 rfl 2 rfl ?_
              refine g_aload_n hC dX1_shortest_24 rfl 0 rfl ?_
              refine x_get_n hC dX1_shortest_25 ?_
              refine g_iload_n hC dX1_shortest_28 rfl 1 rfl ?_
              refine x_callV hC gi_X_tightenStart q180 (met_X_tightenStart _ _ o _ _ _ _ _ _ _ _ _ _ _ _ _ _ _ _ _ ev n la (fun t => bs n t ∧ ∀ x : Int, 0 ≤ x → x < ev → t x - t n ≤ la) (by omega) (by omega) (by omega) hS) (by decide) rfl rfl (Nat.le_of_ble_eq_true rfl) dX1_shortest_29 (fun u h29 => ?_)
              obtain ⟨sT_29, sb_29⟩ := u
              show gW k (wX o (eE, eB, eL, sZ, dE, dB, dL, sT_29, mXx, tNx, n, ct, ds, acx, sk, sb_29, bex)) 32 [(0, Value.ref (o.2.1)), (1, vI la), (2, vI ev)] []
              refine g_iinc hC [(2, vI (ev + 1)), (0, Value.ref (o.2.1)), (1, vI la)] dX1_shortest_32 2 rfl (by decide) rfl ?_
              refine g_goto hC 14 dX1_shortest_35 (by decide) ?_
              refine g_lv [1, 2, 0] rfl ?_
              exact ih14 (ev + 1) sT_29 sb_29 ⟨by omega, by omega⟩ (by omega) (SI_ls (Q := fun x t => t x - t n ≤ la) h29 (by omega))
        refine g_lv [1, 2, 0] rfl ?_
        exact loop14 ((n - 0 : Int) + 1).toNat 0 sT_9 sb_9 ⟨by omega, by omega⟩ (by omega) (SI_l0 h9.2)
  refine g_lv [1, 0] rfl ?_
  exact loop2 ((8 - 0 : Int) + 1).toNat 0 sT sb mX tN ac be ⟨by omega, by omega⟩ (by omega) (i_l0)
theorem gi_X_entailed : gI yX1_entailed RX1 cX1_entailed 2 (some .int) 0 := ⟨q197, q198, q24, q199, by decide, by decide +kernel⟩
set_option maxHeartbeats 4000000 in
theorem met_X_entailed (l : Launch) (D : va_G) (o : gO) (eE eB eL sZ dE dB dL sT mX tN : Int → Int) (n ct ds ac sk sb be : Int) (hok : okC n ct sZ eE eB eL) (hsk : sk = -1) (hds : 0 ≤ ds ∧ ds ≤ 3) (hdr : ∀ a : Int, 0 ≤ a → a < ds → (0 ≤ dE a ∧ dE a ≤ n) ∧ (0 ≤ dB a ∧ dB a ≤ n) ∧ dE a ≠ dB a ∧ (-10 ≤ dL a ∧ dL a ≤ 10)) : gMetI l yX1_entailed cX1_entailed 2 .int 4 D [(o.1, .int)] (wX o (eE, eB, eL, sZ, dE, dB, dL, sT, mX, tN, n, ct, ds, ac, sk, sb, be)) [Value.ref o.2.1] (fun (z : Int) (u : (Int → Int) × Int × (Int → Int) × (Int → Int) × Int × Int) => match u with | (sT', sb', mX', tN', ac', be') => (z = -1 ∧ ds = 0) ∨ (ds ≠ 0 ∧ isB z (∀ p : Int, dom n ct (-1) sZ eE eB eL p → ∃ x : Int, 0 ≤ x ∧ x < ds ∧ tim n p (dE x) - tim n p (dB x) ≤ dL x))) (fun (u : (Int → Int) × Int × (Int → Int) × (Int → Int) × Int × Int) => match u with | (sT', sb', mX', tN', ac', be') => (wX o (eE, eB, eL, sZ, dE, dB, dL, sT', mX', tN', n, ct, ds, ac', sk, sb', be'))) := by
  refine g_metI (by decide) (Nat.le_of_ble_eq_true rfl) ?_
  intro k hC hret
  have hC : gC k cX1_entailed RX1 [(o.1, .int)] 4 2 := hC
  have hn := hok.1
  show gW k (wX o (eE, eB, eL, sZ, dE, dB, dL, sT, mX, tN, n, ct, ds, ac, sk, sb, be)) 0 [(0, Value.ref (o.2.1))] []
  refine g_aload_n hC dX1_entailed_0 rfl 0 rfl ?_
  refine x_get_draftSize hC dX1_entailed_1 ?_
  refine g_if_ne hC 9 dX1_entailed_4 (by decide) (by omega) (fun c4 => ?_) (fun c4 => ?_)
  · refine g_aload_n hC dX1_entailed_9 rfl 0 rfl ?_
    refine x_callV hC gi_X_openStart q135 (met_X_openStart _ _ o _ _ _ _ _ _ _ _ _ _ _ _ _ _ _ _ _  hn) (by decide) rfl rfl (Nat.le_of_ble_eq_true rfl) dX1_entailed_10 (fun u h10 => ?_)
    obtain ⟨sT_10, sb_10⟩ := u
    show gW k (wX o (eE, eB, eL, sZ, dE, dB, dL, sT_10, mX, tN, n, ct, ds, ac, sk, sb_10, be)) 13 [(0, Value.ref (o.2.1))] []
    refine g_iconst hC dX1_entailed_13 ?_
    refine g_istore_n hC [(1, vI 0), (0, Value.ref (o.2.1))] dX1_entailed_14 rfl (by decide) rfl ?_
    have loop15 : ∀ (N : Nat) (a : Int) (sTy : Int → Int) (sby : Int) (hm15 : 0 ≤ ds - a ∧ ds - a < (N : Int)) (ha : 0 ≤ a ∧ a ≤ ds) (hS : SI sTy sby (fun t => bs n t ∧ ∀ x : Int, 0 ≤ x → x < a → ngQ dE dB dL x t)), gW k (wX o (eE, eB, eL, sZ, dE, dB, dL, sTy, mX, tN, n, ct, ds, ac, sk, sby, be)) 15 [(0, Value.ref (o.2.1)), (1, vI a)] [] := by
      intro N
      induction N with
      | zero =>
        intro a sTy sby hm15
        exfalso
        omega
      | succ N ih15 =>
        intro a sTy sby hm15 ha hS
        refine g_iload_n hC dX1_entailed_15 rfl 1 rfl ?_
        refine g_aload_n hC dX1_entailed_16 rfl 0 rfl ?_
        refine x_get_draftSize hC dX1_entailed_17 ?_
        refine g_icmp_ge hC 54 dX1_entailed_20 (by decide) (by omega) (by omega) (fun c20 => ?_) (fun c20 => ?_)
        · have ea : a = ds := by omega
          rw [ea] at hS
          refine g_aload_n hC dX1_entailed_54 rfl 0 rfl ?_
          refine x_callI hC gi_X_canMeet q139 (met_X_canMeet _ _ o _ _ _ _ _ _ _ _ _ _ _ _ _ _ _ _ _  (fun t => bs n t ∧ ∀ x : Int, 0 ≤ x → x < ds → ngQ dE dB dL x t) hok hS (by omega)) (by decide) rfl rfl (Nat.le_of_ble_eq_true rfl) dX1_entailed_55 (fun z55 u rz55 h55 => ?_)
          obtain ⟨mX_55, tN_55, ac_55, be_55⟩ := u
          show gW k (wX o (eE, eB, eL, sZ, dE, dB, dL, sTy, mX_55, tN_55, n, ct, ds, ac_55, sk, sby, be_55)) 58 [(0, Value.ref (o.2.1)), (1, vI a)] [vI z55]
          have h55 : isB z55 (∃ t : Int → Int, (bs n t ∧ ∀ x : Int, 0 ≤ x → x < ds → ngQ dE dB dL x t) ∧ sol ct sk sZ eE eB eL t) := h55
          rw [hsk] at h55
          have k55 := ng_dom hok (fun x x0 x1 => ⟨(hdr x x0 x1).1, (hdr x x0 x1).2.1⟩) h55
          refine g_if_eq hC 65 dX1_entailed_58 (by decide) (by have := isB_01 k55; omega) (fun c58 => ?_) (fun c58 => ?_)
          · refine g_iconst hC dX1_entailed_65 ?_
            exact hret _ _ 1 (sTy, sby, mX_55, tN_55, ac_55, be_55) dX1_entailed_66 (rfl) (by omega) (Or.inr ⟨c4, ng_1 k55 c58⟩)
          · refine g_iconst hC dX1_entailed_61 ?_
            refine g_goto hC 66 dX1_entailed_62 (by decide) ?_
            exact hret _ _ 0 (sTy, sby, mX_55, tN_55, ac_55, be_55) dX1_entailed_66 (rfl) (by omega) (Or.inr ⟨c4, ng_0 k55 c58⟩)
        · have hq := hdr a (by omega) (by omega)
          refine g_aload_n hC dX1_entailed_23 rfl 0 rfl ?_
          refine g_aload_n hC dX1_entailed_24 rfl 0 rfl ?_
          refine x_get_draftBegin hC dX1_entailed_25 ?_
          refine g_iload_n hC dX1_entailed_28 rfl 1 rfl ?_
          refine x_ld_draftBegin hC (by omega) dX1_entailed_29 ?_
          refine g_aload_n hC dX1_entailed_30 rfl 0 rfl ?_
          refine x_get_draftEnd hC dX1_entailed_31 ?_
          refine g_iload_n hC dX1_entailed_34 rfl 1 rfl ?_
          refine x_ld_draftEnd hC (by omega) dX1_entailed_35 ?_
          refine g_aload_n hC dX1_entailed_36 rfl 0 rfl ?_
          refine x_get_draftLimit hC dX1_entailed_37 ?_
          refine g_iload_n hC dX1_entailed_40 rfl 1 rfl ?_
          refine x_ld_draftLimit hC (by omega) dX1_entailed_41 ?_
          refine g_ineg hC dX1_entailed_42 ?_
          refine g_iconst hC dX1_entailed_43 ?_
          refine g_isub hC dX1_entailed_44 ?_
          refine x_callV hC gi_X_tightenStart q180 (met_X_tightenStart _ _ o _ _ _ _ _ _ _ _ _ _ _ _ _ _ _ _ _ (dB a) (dE a) ((-(dL a)) - 1) (fun t => bs n t ∧ ∀ x : Int, 0 ≤ x → x < a → ngQ dE dB dL x t) (by omega) (by omega) (by omega) hS) (by decide) rfl rfl (Nat.le_of_ble_eq_true rfl) dX1_entailed_45 (fun u h45 => ?_)
          obtain ⟨sT_45, sb_45⟩ := u
          show gW k (wX o (eE, eB, eL, sZ, dE, dB, dL, sT_45, mX, tN, n, ct, ds, ac, sk, sb_45, be)) 48 [(0, Value.ref (o.2.1)), (1, vI a)] []
          refine g_iinc hC [(1, vI (a + 1)), (0, Value.ref (o.2.1))] dX1_entailed_48 1 rfl (by decide) rfl ?_
          refine g_goto hC 15 dX1_entailed_51 (by decide) ?_
          refine g_lv [1, 0] rfl ?_
          exact ih15 (a + 1) sT_45 sb_45 ⟨by omega, by omega⟩ (by omega) (SI_ls (Q := ngQ dE dB dL) h45 (by omega))
    refine g_lv [1, 0] rfl ?_
    exact loop15 ((ds - 0 : Int) + 1).toNat 0 sT_10 sb_10 ⟨by omega, by omega⟩ (by omega) (SI_l0 h10.2)
  · refine g_iconst hC dX1_entailed_7 ?_
    exact hret _ _ (-1) (sT, sb, mX, tN, ac, be) dX1_entailed_8 (rfl) (by omega) (Or.inl ⟨rfl, by omega⟩)
theorem gi_X_redundant : gI yX1_redundant RX1 cX1_redundant 3 (some .int) 1 := ⟨q201, q202, q24, q203, by decide, by decide +kernel⟩
set_option maxHeartbeats 4000000 in
theorem met_X_redundant (l : Launch) (D : va_G) (o : gO) (eE eB eL sZ dE dB dL sT mX tN : Int → Int) (n ct ds ac sk sb be : Int) (pos : Int) (hok : okC n ct sZ eE eB eL) (hsk : sk = -1) (hp : -2147483648 ≤ pos ∧ pos < 2147483648) : gMetI l yX1_redundant cX1_redundant 3 .int 4 D [(o.1, .int)] (wX o (eE, eB, eL, sZ, dE, dB, dL, sT, mX, tN, n, ct, ds, ac, sk, sb, be)) [Value.ref o.2.1, vI pos] (fun (z : Int) (u : (Int → Int) × Int × (Int → Int) × (Int → Int) × Int × Int × Int) => match u with | (sT', sb', mX', tN', ac', be', sk') => sk' = -1 ∧ ((z = -1 ∧ ¬ (0 ≤ pos ∧ pos < ct)) ∨ ((0 ≤ pos ∧ pos < ct) ∧ isB z (∀ p : Int, dom n ct pos sZ eE eB eL p → mt sZ eE eB eL pos (tim n p))))) (fun (u : (Int → Int) × Int × (Int → Int) × (Int → Int) × Int × Int × Int) => match u with | (sT', sb', mX', tN', ac', be', sk') => (wX o (eE, eB, eL, sZ, dE, dB, dL, sT', mX', tN', n, ct, ds, ac', sk', sb', be'))) := by
  refine g_metI (by decide) (Nat.le_of_ble_eq_true rfl) ?_
  intro k hC hret
  have hC : gC k cX1_redundant RX1 [(o.1, .int)] 4 3 := hC
  have hn := hok.1
  have hct := hok.2.1
  show gW k (wX o (eE, eB, eL, sZ, dE, dB, dL, sT, mX, tN, n, ct, ds, ac, sk, sb, be)) 0 [(0, Value.ref (o.2.1)), (1, vI pos)] []
  refine g_aload_n hC dX1_redundant_0 rfl 0 rfl ?_
  refine g_iload_n hC dX1_redundant_1 rfl 1 rfl ?_
  refine x_callI hC gi_X_isConstraint q123 (met_X_isConstraint _ _ o _ _ _ _ _ _ _ _ _ _ _ _ _ _ _ _ _ pos (by omega) (by omega)) (by decide) rfl rfl (Nat.le_of_ble_eq_true rfl) dX1_redundant_2 (fun z2 _ rz2 h2 => ?_)
  have b2 : (z2 = 1 ∧ (0 ≤ pos ∧ pos < ct)) ∨ (z2 = 0 ∧ ¬ (0 ≤ pos ∧ pos < ct)) := h2
  refine g_if_ne hC 10 dX1_redundant_5 (by decide) (by omega) (fun c5 => ?_) (fun c5 => ?_)
  · have hz := (hok.2.2 pos (by omega) (by omega)).1
    have habs := okC_abs hok (d := pos) (by omega) (by omega)
    refine g_aload_n hC dX1_redundant_10 rfl 0 rfl ?_
    refine x_callV hC gi_X_openStart q135 (met_X_openStart _ _ o _ _ _ _ _ _ _ _ _ _ _ _ _ _ _ _ _  hn) (by decide) rfl rfl (Nat.le_of_ble_eq_true rfl) dX1_redundant_11 (fun u h11 => ?_)
    obtain ⟨sT_11, sb_11⟩ := u
    show gW k (wX o (eE, eB, eL, sZ, dE, dB, dL, sT_11, mX, tN, n, ct, ds, ac, sk, sb_11, be)) 14 [(0, Value.ref (o.2.1)), (1, vI pos)] []
    refine g_iconst hC dX1_redundant_14 ?_
    refine g_iload_n hC dX1_redundant_15 rfl 1 rfl ?_
    refine g_imul hC dX1_redundant_16 ?_
    refine g_istore_n hC [(2, vI (3 * pos)), (0, Value.ref (o.2.1)), (1, vI pos)] dX1_redundant_17 rfl (by decide) rfl ?_
    have loop18 : ∀ (N : Nat) (a : Int) (sTy : Int → Int) (sby : Int) (hm18 : 0 ≤ 3 * pos + sZ pos - a ∧ 3 * pos + sZ pos - a < (N : Int)) (ha : 3 * pos ≤ a ∧ a ≤ 3 * pos + sZ pos) (hS : SI sTy sby (fun t => bs n t ∧ ∀ x : Int, 3 * pos ≤ x → x < a → ngQ eE eB eL x t)), gW k (wX o (eE, eB, eL, sZ, dE, dB, dL, sTy, mX, tN, n, ct, ds, ac, sk, sby, be)) 18 [(0, Value.ref (o.2.1)), (1, vI pos), (2, vI a)] [] := by
      intro N
      induction N with
      | zero =>
        intro a sTy sby hm18
        exfalso
        omega
      | succ N ih18 =>
        intro a sTy sby hm18 ha hS
        refine g_iload_n hC dX1_redundant_18 rfl 2 rfl ?_
        refine g_iconst hC dX1_redundant_19 ?_
        refine g_iload_n hC dX1_redundant_20 rfl 1 rfl ?_
        refine g_imul hC dX1_redundant_21 ?_
        refine g_aload_n hC dX1_redundant_22 rfl 0 rfl ?_
        refine x_get_sizes hC dX1_redundant_23 ?_
        refine g_iload_n hC dX1_redundant_26 rfl 1 rfl ?_
        refine x_ld_sizes hC (by omega) dX1_redundant_27 ?_
        refine g_iadd hC dX1_redundant_28 ?_
        refine g_icmp_ge hC 63 dX1_redundant_29 (by decide) (by omega) (by omega) (fun c29 => ?_) (fun c29 => ?_)
        · have ea : a = 3 * pos + sZ pos := by omega
          rw [ea] at hS
          refine g_aload_n hC dX1_redundant_63 rfl 0 rfl ?_
          refine g_iload_n hC dX1_redundant_64 rfl 1 rfl ?_
          refine x_put_skipped hC dX1_redundant_65 ?_
          refine g_aload_n hC dX1_redundant_68 rfl 0 rfl ?_
          refine x_callI hC gi_X_canMeet q139 (met_X_canMeet _ _ o _ _ _ _ _ _ _ _ _ _ _ _ _ _ _ _ _  (fun t => bs n t ∧ ∀ x : Int, 3 * pos ≤ x → x < 3 * pos + sZ pos → ngQ eE eB eL x t) hok hS (by omega)) (by decide) rfl rfl (Nat.le_of_ble_eq_true rfl) dX1_redundant_69 (fun z69 u rz69 h69 => ?_)
          obtain ⟨mX_69, tN_69, ac_69, be_69⟩ := u
          show gW k (wX o (eE, eB, eL, sZ, dE, dB, dL, sTy, mX_69, tN_69, n, ct, ds, ac_69, pos, sby, be_69)) 72 [(0, Value.ref (o.2.1)), (1, vI pos), (2, vI a)] [vI z69]
          have h69 : isB z69 (∃ t : Int → Int, (bs n t ∧ ∀ x : Int, 3 * pos ≤ x → x < 3 * pos + sZ pos → ngQ eE eB eL x t) ∧ sol ct pos sZ eE eB eL t) := h69
          have k69 : isB z69 (∃ p : Int, dom n ct pos sZ eE eB eL p ∧ ¬ mt sZ eE eB eL pos (tim n p)) := isB_cg (ng_dom hok (fun x x0 x1 => ⟨(habs x x0 x1).1, (habs x x0 x1).2.1⟩) h69) (exists_congr (fun p => and_congr Iff.rfl (not_congr mt_abs)))
          refine g_istore_n hC [(2, vI z69), (0, Value.ref (o.2.1)), (1, vI pos)] dX1_redundant_72 rfl (by decide) rfl ?_
          refine g_aload_n hC dX1_redundant_73 rfl 1 rfl ?_
          refine g_iconst hC dX1_redundant_74 ?_
          refine x_put_skipped hC dX1_redundant_75 ?_
          refine g_iload_n hC dX1_redundant_78 rfl 0 rfl ?_
          refine g_if_eq hC 86 dX1_redundant_79 (by decide) (by have := isB_01 k69; omega) (fun c79 => ?_) (fun c79 => ?_)
          · refine g_iconst hC dX1_redundant_86 ?_
            exact hret _ _ 1 (sTy, sby, mX_69, tN_69, ac_69, be_69, (-1)) dX1_redundant_87 (rfl) (by omega) (⟨rfl, Or.inr ⟨by omega, ng_1 k69 c79⟩⟩)
          · refine g_iconst hC dX1_redundant_82 ?_
            refine g_goto hC 87 dX1_redundant_83 (by decide) ?_
            exact hret _ _ 0 (sTy, sby, mX_69, tN_69, ac_69, be_69, (-1)) dX1_redundant_87 (rfl) (by omega) (⟨rfl, Or.inr ⟨by omega, ng_0 k69 c79⟩⟩)
        · have hq := habs a (by omega) (by omega)
          refine g_aload_n hC dX1_redundant_32 rfl 0 rfl ?_
          refine g_aload_n hC dX1_redundant_33 rfl 0 rfl ?_
          refine x_get_begins hC dX1_redundant_34 ?_
          refine g_iload_n hC dX1_redundant_37 rfl 2 rfl ?_
          refine x_ld_begins hC (by omega) dX1_redundant_38 ?_
          refine g_aload_n hC dX1_redundant_39 rfl 0 rfl ?_
          refine x_get_ends hC dX1_redundant_40 ?_
          refine g_iload_n hC dX1_redundant_43 rfl 2 rfl ?_
          refine x_ld_ends hC (by omega) dX1_redundant_44 ?_
          refine g_aload_n hC dX1_redundant_45 rfl 0 rfl ?_
          refine x_get_limits hC dX1_redundant_46 ?_
          refine g_iload_n hC dX1_redundant_49 rfl 2 rfl ?_
          refine x_ld_limits hC (by omega) dX1_redundant_50 ?_
          refine g_ineg hC dX1_redundant_51 ?_
          refine g_iconst hC dX1_redundant_52 ?_
          refine g_isub hC dX1_redundant_53 ?_
          refine x_callV hC gi_X_tightenStart q180 (met_X_tightenStart _ _ o _ _ _ _ _ _ _ _ _ _ _ _ _ _ _ _ _ (eB a) (eE a) ((-(eL a)) - 1) (fun t => bs n t ∧ ∀ x : Int, 3 * pos ≤ x → x < a → ngQ eE eB eL x t) (by omega) (by omega) (by omega) hS) (by decide) rfl rfl (Nat.le_of_ble_eq_true rfl) dX1_redundant_54 (fun u h54 => ?_)
          obtain ⟨sT_54, sb_54⟩ := u
          show gW k (wX o (eE, eB, eL, sZ, dE, dB, dL, sT_54, mX, tN, n, ct, ds, ac, sk, sb_54, be)) 57 [(0, Value.ref (o.2.1)), (1, vI pos), (2, vI a)] []
          refine g_iinc hC [(2, vI (a + 1)), (0, Value.ref (o.2.1)), (1, vI pos)] dX1_redundant_57 2 rfl (by decide) rfl ?_
          refine g_goto hC 18 dX1_redundant_60 (by decide) ?_
          refine g_lv [1, 2, 0] rfl ?_
          exact ih18 (a + 1) sT_54 sb_54 ⟨by omega, by omega⟩ (by omega) (SI_ls (Q := ngQ eE eB eL) h54 (by omega))
    refine g_lv [1, 2, 0] rfl ?_
    exact loop18 ((3 * pos + sZ pos - (3 * pos) : Int) + 1).toNat (3 * pos) sT_11 sb_11 ⟨by omega, by omega⟩ (by omega) (SI_l0 h11.2)
  · refine g_iconst hC dX1_redundant_8 ?_
    exact hret _ _ (-1) (sT, sb, mX, tN, ac, be, sk) dX1_redundant_9 (rfl) (by omega) (⟨hsk, Or.inl ⟨rfl, by omega⟩⟩)
theorem gi_X_excess : gI yX1_excess RX1 cX1_excess 4 (some .int) 0 := ⟨q205, q206, q24, q207, by decide, by decide +kernel⟩
set_option maxHeartbeats 4000000 in
theorem met_X_excess (l : Launch) (D : va_G) (o : gO) (eE eB eL sZ dE dB dL sT mX tN : Int → Int) (n ct ds ac sk sb be : Int) (hok : okC n ct sZ eE eB eL) (hsk : sk = -1) : gMetI l yX1_excess cX1_excess 4 .int 4 D [(o.1, .int)] (wX o (eE, eB, eL, sZ, dE, dB, dL, sT, mX, tN, n, ct, ds, ac, sk, sb, be)) [Value.ref o.2.1] (fun (z : Int) (u : (Int → Int) × Int × (Int → Int) × (Int → Int) × Int × Int) => match u with | (sT', sb', mX', tN', ac', be') => exP n ct sZ eE eB eL z) (fun (u : (Int → Int) × Int × (Int → Int) × (Int → Int) × Int × Int) => match u with | (sT', sb', mX', tN', ac', be') => (wX o (eE, eB, eL, sZ, dE, dB, dL, sT', mX', tN', n, ct, ds, ac', sk, sb', be'))) := by
  refine g_metI (by decide) (Nat.le_of_ble_eq_true rfl) ?_
  intro k hC hret
  have hC : gC k cX1_excess RX1 [(o.1, .int)] 4 4 := hC
  have hn := hok.1
  have hct := hok.2.1
  show gW k (wX o (eE, eB, eL, sZ, dE, dB, dL, sT, mX, tN, n, ct, ds, ac, sk, sb, be)) 0 [(0, Value.ref (o.2.1))] []
  refine g_aload_n hC dX1_excess_0 rfl 0 rfl ?_
  refine x_get_count hC dX1_excess_1 ?_
  refine g_istore_n hC [(1, vI ct), (0, Value.ref (o.2.1))] dX1_excess_4 rfl (by decide) rfl ?_
  refine g_iconst hC dX1_excess_5 ?_
  refine g_istore_n hC [(2, vI 0), (1, vI ct), (0, Value.ref (o.2.1))] dX1_excess_6 rfl (by decide) rfl ?_
  refine g_iconst hC dX1_excess_7 ?_
  refine g_istore_n hC [(3, vI 0), (2, vI 0), (1, vI ct), (0, Value.ref (o.2.1))] dX1_excess_8 rfl (by decide) rfl ?_
  have loop9 : ∀ (N : Nat) (dr : Int) (kk : Int) (sTx : Int → Int) (sbx : Int) (mXx : Int → Int) (tNx : Int → Int) (acx : Int) (bex : Int) (ctx : Int) (hm9 : 0 ≤ 9 - kk ∧ 9 - kk < (N : Int)) (hk : 0 ≤ kk ∧ kk ≤ ct) (hd : dr = kk) (hcx : ctx = ct - kk) (hno : ∀ x : Int, 0 ≤ x → x < kk → ¬ ∃ p : Int, dom n (ct - x) (-1) sZ eE eB eL p), gW k (wX o (eE, eB, eL, sZ, dE, dB, dL, sTx, mXx, tNx, n, ctx, ds, acx, sk, sbx, bex)) 9 [(0, Value.ref (o.2.1)), (1, vI ct), (2, vI dr), (3, vI kk)] [] := by
    intro N
    induction N with
    | zero =>
      intro dr kk sTx sbx mXx tNx acx bex ctx hm9
      exfalso
      omega
    | succ N ih9 =>
      intro dr kk sTx sbx mXx tNx acx bex ctx hm9 hk hd hcx hno
      have hok2 : okC n ctx sZ eE eB eL := okC_le hok (by omega) (by omega)
      refine g_iload_n hC dX1_excess_9 rfl 3 rfl ?_
      refine g_bipush hC dX1_excess_10 (by decide) ?_
      refine g_icmp_gt hC 48 dX1_excess_12 (by decide) (by omega) (by omega) (fun c12 => ?_) (fun c12 => ?_)
      · refine g_aload_n hC dX1_excess_48 rfl 0 rfl ?_
        refine g_iload_n hC dX1_excess_49 rfl 1 rfl ?_
        refine x_put_count hC dX1_excess_50 ?_
        refine g_iload_n hC dX1_excess_53 rfl 2 rfl ?_
        exact hret _ _ dr (sTx, sbx, mXx, tNx, acx, bex) dX1_excess_54 (rfl) (by omega) (by exfalso; omega)
      · refine g_aload_n hC dX1_excess_15 rfl 0 rfl ?_
        refine x_callV hC gi_X_openStart q135 (met_X_openStart _ _ o _ _ _ _ _ _ _ _ _ _ _ _ _ _ _ _ _  hn) (by decide) rfl rfl (Nat.le_of_ble_eq_true rfl) dX1_excess_16 (fun u h16 => ?_)
        obtain ⟨sT_16, sb_16⟩ := u
        show gW k (wX o (eE, eB, eL, sZ, dE, dB, dL, sT_16, mXx, tNx, n, ctx, ds, acx, sk, sb_16, bex)) 19 [(0, Value.ref (o.2.1)), (1, vI ct), (2, vI dr), (3, vI kk)] []
        refine g_aload_n hC dX1_excess_19 rfl 0 rfl ?_
        refine x_callI hC gi_X_canMeet q139 (met_X_canMeet _ _ o _ _ _ _ _ _ _ _ _ _ _ _ _ _ _ _ _  (bs n) hok2 h16.2 (by omega)) (by decide) rfl rfl (Nat.le_of_ble_eq_true rfl) dX1_excess_20 (fun z20 u rz20 h20 => ?_)
        obtain ⟨mX_20, tN_20, ac_20, be_20⟩ := u
        show gW k (wX o (eE, eB, eL, sZ, dE, dB, dL, sT_16, mX_20, tN_20, n, ctx, ds, ac_20, sk, sb_16, be_20)) 23 [(0, Value.ref (o.2.1)), (1, vI ct), (2, vI dr), (3, vI kk)] [vI z20]
        have h20 : isB z20 (∃ t : Int → Int, bs n t ∧ sol ctx sk sZ eE eB eL t) := h20
        rw [hsk] at h20
        have k20 := sv_is hok2 h20
        refine g_if_eq hC 29 dX1_excess_23 (by decide) (by have := isB_01 k20; omega) (fun c23 => ?_) (fun c23 => ?_)
        · have hkl := ex_pos k20 c23 hn (by omega)
          refine g_aload_n hC dX1_excess_29 rfl 0 rfl ?_
          refine g_dup hC rfl dX1_excess_30 ?_
          refine x_get_count hC dX1_excess_31 ?_
          refine g_iconst hC dX1_excess_34 ?_
          refine g_isub hC dX1_excess_35 ?_
          refine x_put_count hC dX1_excess_36 ?_
          refine g_iinc hC [(2, vI (dr + 1)), (0, Value.ref (o.2.1)), (1, vI ct), (3, vI kk)] dX1_excess_39 2 rfl (by decide) rfl ?_
          refine g_iinc hC [(3, vI (kk + 1)), (2, vI (dr + 1)), (0, Value.ref (o.2.1)), (1, vI ct)] dX1_excess_42 3 rfl (by decide) rfl ?_
          refine g_goto hC 9 dX1_excess_45 (by decide) ?_
          refine g_lv [2, 3, 1, 0] rfl ?_
          exact ih9 (dr + 1) (kk + 1) sT_16 sb_16 mX_20 tN_20 ac_20 be_20 (ctx - 1) ⟨by omega, by omega⟩ (by omega) (by omega) (by omega) (i_ls hno (by rw [← hcx]; exact isB_f k20 c23))
        · refine g_goto hC 48 dX1_excess_26 (by decide) ?_
          refine g_aload_n hC dX1_excess_48 rfl 0 rfl ?_
          refine g_iload_n hC dX1_excess_49 rfl 1 rfl ?_
          refine x_put_count hC dX1_excess_50 ?_
          refine g_iload_n hC dX1_excess_53 rfl 2 rfl ?_
          exact hret _ _ dr (sT_16, sb_16, mX_20, tN_20, ac_20, be_20) dX1_excess_54 (rfl) (by omega) (by rw [hd]; exact ⟨by omega, hno, by rw [← hcx]; exact isB_t k20 c23⟩)
  refine g_lv [3, 2, 1, 0] rfl ?_
  exact loop9 ((9 - 0 : Int) + 1).toNat 0 0 sT sb mX tN ac be ct ⟨by omega, by omega⟩ (by omega) (rfl) (by omega) (i_l0)
end
section
/-! CLASS: next -/
set_option maxRecDepth 100000
theorem gi_X_firstFrom : gI yX1_firstFrom RX1 cX1_firstFrom 8 (some .int) 3 := ⟨q178, qs10, q24, q179, by decide, by decide +kernel⟩
set_option maxHeartbeats 4000000 in
theorem met_X_firstFrom (l : Launch) (D : va_G) (o : gO) (eE eB eL sZ dE dB dL sT mX tN : Int → Int) (n ct ds ac sk sb be : Int) (pf ev le : Int) (hok : okC n ct sZ eE eB eL) (hsk : sk = -1) (he : 0 ≤ ev ∧ ev < n) (hpf : 0 ≤ pf ∧ pf < p8 ev) (hle : 0 ≤ le ∧ le ≤ 7) : gMetI l yX1_firstFrom cX1_firstFrom 8 .int 3 D [(o.1, .int)] (wX o (eE, eB, eL, sZ, dE, dB, dL, sT, mX, tN, n, ct, ds, ac, sk, sb, be)) [Value.ref o.2.1, vI pf, vI ev, vI le] (fun (z : Int) (u : (Int → Int) × Int × (Int → Int) × (Int → Int) × Int × Int) => match u with | (sT', sb', mX', tN', ac', be') => leS (ffS n ct sZ eE eB eL pf ev le) z) (fun (u : (Int → Int) × Int × (Int → Int) × (Int → Int) × Int × Int) => match u with | (sT', sb', mX', tN', ac', be') => (wX o (eE, eB, eL, sZ, dE, dB, dL, sT', mX', tN', n, ct, ds, ac', sk, sb', be'))) := by
  refine g_metI (by decide) (Nat.le_of_ble_eq_true rfl) ?_
  intro k hC hret
  have hC : gC k cX1_firstFrom RX1 [(o.1, .int)] 3 8 := hC
  have hn := hok.1
  have hct := hok.2.1
  have hpe := p8q (m := ev) (by omega)
  show gW k (wX o (eE, eB, eL, sZ, dE, dB, dL, sT, mX, tN, n, ct, ds, ac, sk, sb, be)) 0 [(0, Value.ref (o.2.1)), (1, vI pf), (2, vI ev), (3, vI le)] []
  refine g_aload_n hC dX1_firstFrom_0 rfl 0 rfl ?_
  refine x_callV hC gi_X_openStart q135 (met_X_openStart _ _ o _ _ _ _ _ _ _ _ _ _ _ _ _ _ _ _ _  hn) (by decide) rfl rfl (Nat.le_of_ble_eq_true rfl) dX1_firstFrom_1 (fun u h1 => ?_)
  obtain ⟨sT_1, sb_1⟩ := u
  show gW k (wX o (eE, eB, eL, sZ, dE, dB, dL, sT_1, mX, tN, n, ct, ds, ac, sk, sb_1, be)) 4 [(0, Value.ref (o.2.1)), (1, vI pf), (2, vI ev), (3, vI le)] []
  refine g_iconst hC dX1_firstFrom_4 ?_
  refine g_istore hC [(4, vI 0), (0, Value.ref (o.2.1)), (1, vI pf), (2, vI ev), (3, vI le)] dX1_firstFrom_5 (by decide) rfl ?_
  have loop7 : ∀ (N : Nat) (q : Int) (sTx : Int → Int) (sbx : Int) (hm7 : 0 ≤ ev - q ∧ ev - q < (N : Int)) (hq : 0 ≤ q ∧ q ≤ ev) (hS : SI sTx sbx (fun t => bs n t ∧ ∀ x : Int, 0 ≤ x → x < q → t x - t n ≤ ffD pf ev x ∧ t n - t x ≤ -(ffD pf ev x))), gW k (wX o (eE, eB, eL, sZ, dE, dB, dL, sTx, mX, tN, n, ct, ds, ac, sk, sbx, be)) 7 [(0, Value.ref (o.2.1)), (1, vI pf), (2, vI ev), (3, vI le), (4, vI q)] [] := by
    intro N
    induction N with
    | zero =>
      intro q sTx sbx hm7
      exfalso
      omega
    | succ N ih7 =>
      intro q sTx sbx hm7 hq hS
      refine g_iload hC dX1_firstFrom_7 4 rfl ?_
      refine g_iload_n hC dX1_firstFrom_9 rfl 2 rfl ?_
      refine g_icmp_ge hC 59 dX1_firstFrom_10 (by decide) (by omega) (by omega) (fun c10 => ?_) (fun c10 => ?_)
      · have eq : q = ev := by omega
        rw [eq] at hS
        refine g_aload_n hC dX1_firstFrom_59 rfl 0 rfl ?_
        refine g_aload_n hC dX1_firstFrom_60 rfl 0 rfl ?_
        refine x_get_n hC dX1_firstFrom_61 ?_
        refine g_iload_n hC dX1_firstFrom_64 rfl 2 rfl ?_
        refine g_iload_n hC dX1_firstFrom_65 rfl 3 rfl ?_
        refine g_ineg hC dX1_firstFrom_66 ?_
        refine x_callV hC gi_X_tightenStart q180 (met_X_tightenStart _ _ o _ _ _ _ _ _ _ _ _ _ _ _ _ _ _ _ _ n ev (-le) (fun t => bs n t ∧ ∀ x : Int, 0 ≤ x → x < ev → t x - t n ≤ ffD pf ev x ∧ t n - t x ≤ -(ffD pf ev x)) (by omega) (by omega) (by omega) hS) (by decide) rfl rfl (Nat.le_of_ble_eq_true rfl) dX1_firstFrom_67 (fun u h67 => ?_)
        obtain ⟨sT_67, sb_67⟩ := u
        show gW k (wX o (eE, eB, eL, sZ, dE, dB, dL, sT_67, mX, tN, n, ct, ds, ac, sk, sb_67, be)) 70 [(0, Value.ref (o.2.1)), (1, vI pf), (2, vI ev), (3, vI le), (4, vI q)] []
        refine g_iload_n hC dX1_firstFrom_70 rfl 1 rfl ?_
        refine g_istore hC [(4, vI pf), (0, Value.ref (o.2.1)), (1, vI pf), (2, vI ev), (3, vI le)] dX1_firstFrom_71 (by decide) rfl ?_
        refine g_iload_n hC dX1_firstFrom_73 rfl 3 rfl ?_
        refine g_istore hC [(5, vI ev), (4, vI pf), (0, Value.ref (o.2.1)), (1, vI pf), (2, vI ev), (3, vI le)] dX1_firstFrom_74 (by decide) rfl ?_
        have loop76 : ∀ (N : Nat) (nu : Int) (p : Int) (sTy : Int → Int) (sby : Int) (mXy : Int → Int) (tNy : Int → Int) (acy : Int) (bey : Int) (hm76 : 0 ≤ n - p ∧ n - p < (N : Int)) (hp : ev ≤ p ∧ p ≤ n) (hnu : 0 ≤ nu ∧ nu < p8 p) (hI : ∃ P : (Int → Int) → Prop, SI sTy sby P ∧ ffI n ct sZ eE eB eL pf ev le p nu P), gW k (wX o (eE, eB, eL, sZ, dE, dB, dL, sTy, mXy, tNy, n, ct, ds, acy, sk, sby, bey)) 76 [(0, Value.ref (o.2.1)), (1, vI pf), (2, vI ev), (3, vI le), (4, vI nu), (5, vI p)] [] := by
          intro N
          induction N with
          | zero =>
            intro nu p sTy sby mXy tNy acy bey hm76
            exfalso
            omega
          | succ N ih76 =>
            intro nu p sTy sby mXy tNy acy bey hm76 hp hnu hI
            obtain ⟨P, hS2, hF⟩ := hI
            have hpp := p8q (m := p) (by omega)
            refine g_iload hC dX1_firstFrom_76 5 rfl ?_
            refine g_aload_n hC dX1_firstFrom_78 rfl 0 rfl ?_
            refine x_get_n hC dX1_firstFrom_79 ?_
            refine g_icmp_ge hC 139 dX1_firstFrom_82 (by decide) (by omega) (by omega) (fun c82 => ?_) (fun c82 => ?_)
            · refine g_iload hC dX1_firstFrom_139 4 rfl ?_
              exact hret _ _ nu (sTy, sby, mXy, tNy, acy, bey) dX1_firstFrom_141 (rfl) (by omega) (ff_end hF (by omega) he.2)
            · refine g_aload_n hC dX1_firstFrom_85 rfl 0 rfl ?_
              refine g_aload_n hC dX1_firstFrom_86 rfl 0 rfl ?_
              refine x_get_n hC dX1_firstFrom_87 ?_
              refine g_iload hC dX1_firstFrom_90 5 rfl ?_
              refine x_callI hC gi_X_search q143 (met_X_search _ _ o _ _ _ _ _ _ _ _ _ _ _ _ _ _ _ _ _ n p P hok hS2 (by omega) (Or.inr ⟨by omega, by omega⟩)) (by decide) rfl rfl (Nat.le_of_ble_eq_true rfl) dX1_firstFrom_92 (fun z92 u rz92 h92 => ?_)
              obtain ⟨mX_92, tN_92, ac_92, be_92⟩ := u
              show gW k (wX o (eE, eB, eL, sZ, dE, dB, dL, sTy, mX_92, tN_92, n, ct, ds, ac_92, sk, sby, be_92)) 95 [(0, Value.ref (o.2.1)), (1, vI pf), (2, vI ev), (3, vI le), (4, vI nu), (5, vI p)] [vI z92]
              have h92 : seP ct sk n p sZ eE eB eL P z92 be_92 := h92
              rw [hsk] at h92
              have g92 := seP_rg h92 (by omega)
              refine g_istore hC [(6, vI z92), (0, Value.ref (o.2.1)), (1, vI pf), (2, vI ev), (3, vI le), (4, vI nu), (5, vI p)] dX1_firstFrom_95 (by decide) rfl ?_
              refine g_iload hC dX1_firstFrom_97 0 rfl ?_
              refine g_if_ne hC 104 dX1_firstFrom_99 (by decide) (by omega) (fun c99 => ?_) (fun c99 => ?_)
              · have r92 := ff_rg hok hF (by omega) h92 c99
                refine g_aload_n hC dX1_firstFrom_104 rfl 1 rfl ?_
                refine x_get_best hC dX1_firstFrom_105 ?_
                refine g_ineg hC dX1_firstFrom_108 ?_
                refine g_istore hC [(7, vI (-be_92)), (6, vI z92), (0, Value.ref (o.2.1)), (1, vI pf), (2, vI ev), (3, vI le), (4, vI nu), (5, vI p)] dX1_firstFrom_109 (by decide) rfl ?_
                refine g_aload_n hC dX1_firstFrom_111 rfl 2 rfl ?_
                refine g_iload hC dX1_firstFrom_112 7 rfl ?_
                refine g_aload_n hC dX1_firstFrom_114 rfl 2 rfl ?_
                refine x_get_n hC dX1_firstFrom_115 ?_
                refine g_iload hC dX1_firstFrom_118 0 rfl ?_
                refine x_callV hC gi_X_tightenStart q180 (met_X_tightenStart _ _ o _ _ _ _ _ _ _ _ _ _ _ _ _ _ _ _ _ p n (-be_92) P (by omega) (by omega) (by omega) hS2) (by decide) rfl rfl (Nat.le_of_ble_eq_true rfl) dX1_firstFrom_120 (fun u h120 => ?_)
                obtain ⟨sT_120, sb_120⟩ := u
                show gW k (wX o (eE, eB, eL, sZ, dE, dB, dL, sT_120, mX_92, tN_92, n, ct, ds, ac_92, sk, sb_120, be_92)) 123 [(7, vI (-be_92)), (6, vI z92), (0, Value.ref (o.2.1)), (1, vI pf), (2, vI ev), (3, vI le), (4, vI nu), (5, vI p)] []
                refine g_bipush hC dX1_firstFrom_123 (by decide) ?_
                refine g_iload hC dX1_firstFrom_125 6 rfl ?_
                refine g_imul hC dX1_firstFrom_127 ?_
                refine g_iload hC dX1_firstFrom_128 0 rfl ?_
                refine g_iadd hC dX1_firstFrom_130 ?_
                refine g_istore hC [(4, vI ((8 * nu) + (-be_92))), (7, vI (-be_92)), (6, vI z92), (0, Value.ref (o.2.1)), (1, vI pf), (2, vI ev), (3, vI le), (5, vI p)] dX1_firstFrom_131 (by decide) rfl ?_
                refine g_iinc hC [(5, vI (p + 1)), (4, vI ((8 * nu) + (-be_92))), (7, vI (-be_92)), (6, vI z92), (0, Value.ref (o.2.1)), (1, vI pf), (2, vI ev), (3, vI le)] dX1_firstFrom_133 7 rfl (by decide) rfl ?_
                refine g_goto hC 76 dX1_firstFrom_136 (by decide) ?_
                refine g_lv [4, 5, 6, 7, 1, 0] rfl ?_
                exact ih76 ((8 * nu) + (-be_92)) (p + 1) sT_120 sb_120 mX_92 tN_92 ac_92 be_92 ⟨by omega, by omega⟩ (by omega) (by have := p8_s (m := p) (by omega); omega) (⟨_, h120, ff_step hok hF (by omega) h92 c99⟩)
              · refine g_iconst hC dX1_firstFrom_102 ?_
                exact hret _ _ (-1) (sTy, sby, mX_92, tN_92, ac_92, be_92) dX1_firstFrom_103 (rfl) (by omega) (ff_none hF h92 c99)
        refine g_lv [2, 3, 4, 5, 1, 0] rfl ?_
        exact loop76 ((n - ev : Int) + 1).toNat pf ev sT_67 sb_67 mX tN ac be ⟨by omega, by omega⟩ (by omega) (hpf) (⟨_, h67, ff_0 hok he hpf⟩)
      · refine g_iload_n hC dX1_firstFrom_13 rfl 1 rfl ?_
        refine g_iconst hC dX1_firstFrom_14 ?_
        refine g_iload_n hC dX1_firstFrom_15 rfl 2 rfl ?_
        refine g_iconst hC dX1_firstFrom_16 ?_
        refine g_isub hC dX1_firstFrom_17 ?_
        refine g_iload hC dX1_firstFrom_18 4 rfl ?_
        refine g_isub hC dX1_firstFrom_20 ?_
        refine g_imul hC dX1_firstFrom_21 ?_
        refine g_ishr hC ((ev - 1) - q) (by omega) (by omega) (by omega) dX1_firstFrom_22 ?_
        refine g_bipush hC dX1_firstFrom_23 (by decide) ?_
        refine g_iand7 hC dX1_firstFrom_25 ?_
        refine g_top (show (((pf / p8 ((ev - 1) - q)) % 8) : Int) = ffD pf ev q from rfl) ?_
        refine g_istore hC [(5, vI (ffD pf ev q)), (0, Value.ref (o.2.1)), (1, vI pf), (2, vI ev), (3, vI le), (4, vI q)] dX1_firstFrom_26 (by decide) rfl ?_
        have r5 := ffD_rg pf ev q
        refine g_aload_n hC dX1_firstFrom_28 rfl 1 rfl ?_
        refine g_iload hC dX1_firstFrom_29 5 rfl ?_
        refine g_aload_n hC dX1_firstFrom_31 rfl 1 rfl ?_
        refine x_get_n hC dX1_firstFrom_32 ?_
        refine g_iload hC dX1_firstFrom_35 0 rfl ?_
        refine x_callV hC gi_X_tightenStart q180 (met_X_tightenStart _ _ o _ _ _ _ _ _ _ _ _ _ _ _ _ _ _ _ _ q n (ffD pf ev q) (fun t => bs n t ∧ ∀ x : Int, 0 ≤ x → x < q → t x - t n ≤ ffD pf ev x ∧ t n - t x ≤ -(ffD pf ev x)) (by omega) (by omega) (by omega) hS) (by decide) rfl rfl (Nat.le_of_ble_eq_true rfl) dX1_firstFrom_37 (fun u h37 => ?_)
        obtain ⟨sT_37, sb_37⟩ := u
        show gW k (wX o (eE, eB, eL, sZ, dE, dB, dL, sT_37, mX, tN, n, ct, ds, ac, sk, sb_37, be)) 40 [(5, vI (ffD pf ev q)), (0, Value.ref (o.2.1)), (1, vI pf), (2, vI ev), (3, vI le), (4, vI q)] []
        refine g_aload_n hC dX1_firstFrom_40 rfl 1 rfl ?_
        refine g_aload_n hC dX1_firstFrom_41 rfl 1 rfl ?_
        refine x_get_n hC dX1_firstFrom_42 ?_
        refine g_iload hC dX1_firstFrom_45 5 rfl ?_
        refine g_iload hC dX1_firstFrom_47 0 rfl ?_
        refine g_ineg hC dX1_firstFrom_49 ?_
        refine x_callV hC gi_X_tightenStart q180 (met_X_tightenStart _ _ o _ _ _ _ _ _ _ _ _ _ _ _ _ _ _ _ _ n q (-(ffD pf ev q)) (fun t => ((fun t => bs n t ∧ ∀ x : Int, 0 ≤ x → x < q → t x - t n ≤ ffD pf ev x ∧ t n - t x ≤ -(ffD pf ev x)) t) ∧ t q - t n ≤ ffD pf ev q) (by omega) (by omega) (by omega) h37) (by decide) rfl rfl (Nat.le_of_ble_eq_true rfl) dX1_firstFrom_50 (fun u h50 => ?_)
        obtain ⟨sT_50, sb_50⟩ := u
        show gW k (wX o (eE, eB, eL, sZ, dE, dB, dL, sT_50, mX, tN, n, ct, ds, ac, sk, sb_50, be)) 53 [(5, vI (ffD pf ev q)), (0, Value.ref (o.2.1)), (1, vI pf), (2, vI ev), (3, vI le), (4, vI q)] []
        refine g_iinc hC [(4, vI (q + 1)), (5, vI (ffD pf ev q)), (0, Value.ref (o.2.1)), (1, vI pf), (2, vI ev), (3, vI le)] dX1_firstFrom_53 5 rfl (by decide) rfl ?_
        refine g_goto hC 7 dX1_firstFrom_56 (by decide) ?_
        refine g_lv [2, 3, 4, 5, 0] rfl ?_
        exact ih7 (q + 1) sT_50 sb_50 ⟨by omega, by omega⟩ (by omega) (SI_ls2 (Q := fun x t => t x - t n ≤ ffD pf ev x) (R := fun x t => t n - t x ≤ -(ffD pf ev x)) h50 (by omega))
  refine g_lv [1, 2, 3, 4, 0] rfl ?_
  exact loop7 ((ev - 0 : Int) + 1).toNat 0 sT_1 sb_1 ⟨by omega, by omega⟩ (by omega) (SI_l0 h1.2)
theorem gi_X_next : gI yX1_next RX1 cX1_next 8 (some .int) 1 := ⟨q173, q174, q24, q175, by decide, by decide +kernel⟩
set_option maxHeartbeats 4000000 in
theorem met_X_next (l : Launch) (D : va_G) (o : gO) (eE eB eL sZ dE dB dL sT mX tN : Int → Int) (n ct ds ac sk sb be : Int) (aft : Int) (hok : okC n ct sZ eE eB eL) (hsk : sk = -1) (ha : -2147483648 ≤ aft ∧ aft < 2147483648) : gMetI l yX1_next cX1_next 8 .int 4 D [(o.1, .int)] (wX o (eE, eB, eL, sZ, dE, dB, dL, sT, mX, tN, n, ct, ds, ac, sk, sb, be)) [Value.ref o.2.1, vI aft] (fun (z : Int) (u : (Int → Int) × Int × (Int → Int) × (Int → Int) × Int × Int) => match u with | (sT', sb', mX', tN', ac', be') => leS (fun p => aft < p ∧ dom n ct (-1) sZ eE eB eL p) z) (fun (u : (Int → Int) × Int × (Int → Int) × (Int → Int) × Int × Int) => match u with | (sT', sb', mX', tN', ac', be') => (wX o (eE, eB, eL, sZ, dE, dB, dL, sT', mX', tN', n, ct, ds, ac', sk, sb', be'))) := by
  refine g_metI (by decide) (Nat.le_of_ble_eq_true rfl) ?_
  intro k hC hret
  have hC : gC k cX1_next RX1 [(o.1, .int)] 4 8 := hC
  have hn := hok.1
  have hct := hok.2.1
  have hp8 := p8n hok.1
  show gW k (wX o (eE, eB, eL, sZ, dE, dB, dL, sT, mX, tN, n, ct, ds, ac, sk, sb, be)) 0 [(0, Value.ref (o.2.1)), (1, vI aft)] []
  refine g_iconst hC dX1_next_0 ?_
  refine g_iconst hC dX1_next_1 ?_
  refine g_aload_n hC dX1_next_2 rfl 0 rfl ?_
  refine x_get_n hC dX1_next_3 ?_
  refine g_imul hC dX1_next_6 ?_
  refine g_ishl1 hC n (by omega) (by omega) dX1_next_7 ?_
  refine g_iconst hC dX1_next_8 ?_
  refine g_isub hC dX1_next_9 ?_
  refine g_istore_n hC [(2, vI ((p8 n) - 1)), (0, Value.ref (o.2.1)), (1, vI aft)] dX1_next_10 rfl (by decide) rfl ?_
  refine g_iload_n hC dX1_next_11 rfl 2 rfl ?_
  refine g_iload_n hC dX1_next_12 rfl 0 rfl ?_
  refine g_icmp_lt hC 18 dX1_next_13 (by decide) (by omega) (by omega) (fun c13 => ?_) (fun c13 => ?_)
  · refine g_iload_n hC dX1_next_18 rfl 2 rfl ?_
    refine g_if_ge hC 30 dX1_next_19 (by decide) (by omega) (fun c19 => ?_) (fun c19 => ?_)
    · refine g_aload_n hC dX1_next_30 rfl 1 rfl ?_
      refine x_get_n hC dX1_next_31 ?_
      refine g_iconst hC dX1_next_34 ?_
      refine g_isub hC dX1_next_35 ?_
      refine g_istore_n hC [(3, vI (n - 1)), (2, vI ((p8 n) - 1)), (0, Value.ref (o.2.1)), (1, vI aft)] dX1_next_36 rfl (by decide) rfl ?_
      have loop37 : ∀ (N : Nat) (ev : Int) (sTx : Int → Int) (sbx : Int) (mXx : Int → Int) (tNx : Int → Int) (acx : Int) (bex : Int) (hm37 : 0 ≤ ev + 1 ∧ ev + 1 < (N : Int)) (he : -1 ≤ ev ∧ ev < n) (hI : nxI n ct aft sZ eE eB eL ev), gW k (wX o (eE, eB, eL, sZ, dE, dB, dL, sTx, mXx, tNx, n, ct, ds, acx, sk, sbx, bex)) 37 [(0, Value.ref (o.2.1)), (1, vI aft), (2, vI ((p8 n) - 1)), (3, vI ev)] [] := by
        intro N
        induction N with
        | zero =>
          intro ev sTx sbx mXx tNx acx bex hm37
          exfalso
          omega
        | succ N ih37 =>
          intro ev sTx sbx mXx tNx acx bex hm37 he hI
          refine g_iload_n hC dX1_next_37 rfl 3 rfl ?_
          refine g_if_lt hC 104 dX1_next_38 (by decide) (by omega) (fun c38 => ?_) (fun c38 => ?_)
          · refine g_iconst hC dX1_next_104 ?_
            exact hret _ _ (-1) (sTx, sbx, mXx, tNx, acx, bex) dX1_next_105 (rfl) (by omega) (nx_end hI (by omega) (by omega))
          · refine g_iconst hC dX1_next_41 ?_
            refine g_aload_n hC dX1_next_42 rfl 0 rfl ?_
            refine x_get_n hC dX1_next_43 ?_
            refine g_iconst hC dX1_next_46 ?_
            refine g_isub hC dX1_next_47 ?_
            refine g_iload_n hC dX1_next_48 rfl 3 rfl ?_
            refine g_isub hC dX1_next_49 ?_
            refine g_imul hC dX1_next_50 ?_
            refine g_istore hC [(4, vI (3 * ((n - 1) - ev))), (0, Value.ref (o.2.1)), (1, vI aft), (2, vI ((p8 n) - 1)), (3, vI ev)] dX1_next_51 (by decide) rfl ?_
            refine g_iload_n hC dX1_next_53 rfl 2 rfl ?_
            refine g_iload hC dX1_next_54 0 rfl ?_
            refine g_ishr hC ((n - 1) - ev) (by omega) (by omega) (by omega) dX1_next_56 ?_
            refine g_bipush hC dX1_next_57 (by decide) ?_
            refine g_iand7 hC dX1_next_59 ?_
            refine g_istore hC [(5, vI ((aft / p8 ((n - 1) - ev)) % 8)), (4, vI (3 * ((n - 1) - ev))), (0, Value.ref (o.2.1)), (1, vI aft), (2, vI ((p8 n) - 1)), (3, vI ev)] dX1_next_60 (by decide) rfl ?_
            refine g_iload hC dX1_next_62 0 rfl ?_
            refine g_bipush hC dX1_next_64 (by decide) ?_
            refine g_icmp_ge hC 98 dX1_next_66 (by decide) (by omega) (by omega) (fun c66 => ?_) (fun c66 => ?_)
            · refine g_iinc hC [(3, vI (ev + (-1))), (5, vI ((aft / p8 ((n - 1) - ev)) % 8)), (4, vI (3 * ((n - 1) - ev))), (0, Value.ref (o.2.1)), (1, vI aft), (2, vI ((p8 n) - 1))] dX1_next_98 5 rfl (by decide) rfl ?_
              refine g_goto hC 37 dX1_next_101 (by decide) ?_
              refine g_lv [3, 4, 5, 0] rfl ?_
              exact ih37 (ev + (-1)) sTx sbx mXx tNx acx bex ⟨by omega, by omega⟩ (by omega) (nx_step hI (by omega) (fun q => absurd q (by omega)))
            · refine g_iload_n hC dX1_next_69 rfl 3 rfl ?_
              refine g_iload hC dX1_next_70 1 rfl ?_
              refine g_iconst hC dX1_next_72 ?_
              refine g_iadd hC dX1_next_73 ?_
              refine g_ishr hC (n - ev) (by omega) (by omega) (by omega) dX1_next_74 ?_
              refine g_istore hC [(6, vI (aft / p8 (n - ev))), (5, vI ((aft / p8 ((n - 1) - ev)) % 8)), (4, vI (3 * ((n - 1) - ev))), (0, Value.ref (o.2.1)), (1, vI aft), (2, vI ((p8 n) - 1)), (3, vI ev)] dX1_next_75 (by decide) rfl ?_
              refine g_aload_n hC dX1_next_77 rfl 3 rfl ?_
              refine g_iload hC dX1_next_78 0 rfl ?_
              refine g_iload_n hC dX1_next_80 rfl 6 rfl ?_
              refine g_iload hC dX1_next_81 1 rfl ?_
              refine g_iconst hC dX1_next_83 ?_
              refine g_iadd hC dX1_next_84 ?_
              refine x_callI hC gi_X_firstFrom q176 (met_X_firstFrom _ _ o _ _ _ _ _ _ _ _ _ _ _ _ _ _ _ _ _ (aft / p8 (n - ev)) ev (((aft / p8 ((n - 1) - ev)) % 8) + 1) hok hsk (by omega) (nx_pf (by omega) (by omega)) (by omega)) (by decide) rfl rfl (Nat.le_of_ble_eq_true rfl) dX1_next_85 (fun z85 u rz85 h85 => ?_)
              obtain ⟨sT_85, sb_85, mX_85, tN_85, ac_85, be_85⟩ := u
              show gW k (wX o (eE, eB, eL, sZ, dE, dB, dL, sT_85, mX_85, tN_85, n, ct, ds, ac_85, sk, sb_85, be_85)) 88 [(6, vI (aft / p8 (n - ev))), (5, vI ((aft / p8 ((n - 1) - ev)) % 8)), (4, vI (3 * ((n - 1) - ev))), (0, Value.ref (o.2.1)), (1, vI aft), (2, vI ((p8 n) - 1)), (3, vI ev)] [vI z85]
              refine g_istore hC [(7, vI z85), (6, vI (aft / p8 (n - ev))), (5, vI ((aft / p8 ((n - 1) - ev)) % 8)), (4, vI (3 * ((n - 1) - ev))), (0, Value.ref (o.2.1)), (1, vI aft), (2, vI ((p8 n) - 1)), (3, vI ev)] dX1_next_88 (by decide) rfl ?_
              refine g_iload hC dX1_next_90 0 rfl ?_
              refine g_if_lt hC 98 dX1_next_92 (by decide) (by omega) (fun c92 => ?_) (fun c92 => ?_)
              · refine g_iinc hC [(3, vI (ev + (-1))), (7, vI z85), (6, vI (aft / p8 (n - ev))), (5, vI ((aft / p8 ((n - 1) - ev)) % 8)), (4, vI (3 * ((n - 1) - ev))), (0, Value.ref (o.2.1)), (1, vI aft), (2, vI ((p8 n) - 1))] dX1_next_98 7 rfl (by decide) rfl ?_
                refine g_goto hC 37 dX1_next_101 (by decide) ?_
                refine g_lv [5, 6, 7, 0] rfl ?_
                exact ih37 (ev + (-1)) sT_85 sb_85 mX_85 tN_85 ac_85 be_85 ⟨by omega, by omega⟩ (by omega) (nx_step hI (by omega) (fun _ => ff_neg h85 c92))
              · refine g_iload hC dX1_next_95 0 rfl ?_
                exact hret _ _ z85 (sT_85, sb_85, mX_85, tN_85, ac_85, be_85) dX1_next_97 (rfl) (by omega) (nx_hit hI (by omega) c92 h85)
      refine g_lv [2, 3, 1, 0] rfl ?_
      exact loop37 (((n - 1) + 1 : Int) + 1).toNat (n - 1) sT sb mX tN ac be ⟨by omega, by omega⟩ (by omega) (nx_0)
    · refine g_aload_n hC dX1_next_22 rfl 1 rfl ?_
      refine g_iconst hC dX1_next_23 ?_
      refine g_iconst hC dX1_next_24 ?_
      refine g_iconst hC dX1_next_25 ?_
      refine x_callI hC gi_X_firstFrom q176 (met_X_firstFrom _ _ o _ _ _ _ _ _ _ _ _ _ _ _ _ _ _ _ _ 0 0 0 hok hsk (by omega) ⟨by omega, by rw [p8_0]; omega⟩ (by omega)) (by decide) rfl rfl (Nat.le_of_ble_eq_true rfl) dX1_next_26 (fun z26 u rz26 h26 => ?_)
      obtain ⟨sT_26, sb_26, mX_26, tN_26, ac_26, be_26⟩ := u
      show gW k (wX o (eE, eB, eL, sZ, dE, dB, dL, sT_26, mX_26, tN_26, n, ct, ds, ac_26, sk, sb_26, be_26)) 29 [(2, vI ((p8 n) - 1)), (0, Value.ref (o.2.1)), (1, vI aft)] [vI z26]
      exact hret _ _ z26 (sT_26, sb_26, mX_26, tN_26, ac_26, be_26) dX1_next_29 (rfl) (by omega) (nx_all (by omega) h26)
  · refine g_iconst hC dX1_next_16 ?_
    exact hret _ _ (-1) (sT, sb, mX, tN, ac, be) dX1_next_17 (rfl) (by omega) (nx_top (by omega))
end
section
/-! CONSTRUCTORS and the law's cell: rows, contracts -/
set_option maxRecDepth 100000
/-- the run with other numbers of cells and slots made -/
def gCS (k : gK) (c n : Nat) : gK := match k with
  | (p, l, e, R, s, m, args, below, meth, cd, cells, slots, Q, D, A, nL) => (p, l, e, R, s, m, args, below, meth, cd, c, n, Q, D, A, nL)
/-- it is a constructor's run -/
def gNm (k : gK) : Prop := match k with
  | (p, l, e, R, s, m, args, below, meth, cd, cells, slots, Q, D, A, nL) => meth.name = "<init>"
/-- there is room for c cells of n slots -/
def gRm (k : gK) (c n : Nat) : Prop := match k with
  | (p, l, e, R, s, m, args, below, meth, cd, cells, slots, Q, D, A, nL) => c ≤ R.cells ∧ n ≤ R.slots
theorem iI_0 : iI 0 = 0 := by decide
theorem vI_0 : Value.int 0 = vI 0 := by
  unfold vI
  rw [iI_0]
theorem iA_0 (N : Nat) (cA : ClassId) : vp_cell cA (N, .inl (iA (fun _ => 0))) = arrV cA N (fun _ => defaultValue .int) := by
  rw [vp_cell_i]
  have h : (fun j : Nat => Value.int (iA (fun _ => 0) j)) = fun _ => defaultValue .int := by
    funext j
    show Value.int (iI 0) = _
    rw [iI_0]
    rfl
  rw [h]
section
variable {k : gK} {cc : ByteArray} {own : String} {n L : Nat} {w : va_W} {pc : Nat} {lv : List (Nat × Value)} {st : List Value}
theorem gC_CS {tys : List (ClassId × FieldType)} {c0 n0 c1 n1 cM nM : Nat} (hC : gC (gCS k c0 n0) cc own tys n L) (hr : gRm k cM nM) (h1 : c1 ≤ cM) (h2 : n1 ≤ nM) : gC (gCS k c1 n1) cc own tys n L := by
  obtain ⟨p, l, e, R, s, m, args, below, meth, c, cells, slots, Q, D, A, nL⟩ := k
  obtain ⟨a1, a2, a3, a4, a5, a6, a7, ⟨a8, a9, a10, a11⟩, a12⟩ := hC
  exact ⟨a1, a2, a3, a4, a5, a6, a7, ⟨a8, a9, Nat.le_trans h1 hr.1, Nat.le_trans h2 hr.2⟩, a12⟩
theorem gNm_CS {c n : Nat} (h : gNm k) : gNm (gCS k c n) := by
  obtain ⟨p, l, e, R, s, m, args, below, meth, c, cells, slots, Q, D, A, nL⟩ := k
  exact h
theorem g_newa0 {c0 n0 cM nM N : Nat} (c1 n1 : Nat) (hC : gC (gCS k c0 n0) cc own [] n L) (hr : gRm k cM nM) {z : Int} (hz : z = (N : Int)) (hN : N ≤ 1000) (e1 : c0 + 1 = c1) (e2 : n0 + N = n1) (h1 : c1 ≤ cM) (h2 : n1 ≤ nM) (hd : decode cc pc = .ok (.newarray .int, 2)) (kk : ∀ (q : Nat) (cA : ClassId), gC (gCS k c1 n1) cc own [(cA, .int)] n L → gW (gCS k c1 n1) (w ++ [(q, .inl (cA, N, .inl (iA (fun _ => 0))))]) (pc + 2) lv (.ref q :: st)) : gW (gCS k c0 n0) w pc lv (vI z :: st) := by
  subst hz
  subst e1
  subst e2
  have hC2 := gC_CS hC hr h1 h2
  obtain ⟨p, l, e, R, s, m, args, below, meth, c, cells, slots, Q, D, A, nL⟩ := k
  obtain ⟨a1, a2, a3, a4, a5, a6, a7, a8, a12⟩ := hC
  obtain ⟨b1, b2, b3, b4, b5, b6, b7, b8, b12⟩ := hC2
  intro ls H locs hl hP hD hS
  have hn0 : ¬ iI (N : Int) < 0 := by
    rw [← iI_0, iI_lt ⟨by omega, by omega⟩ (by decide)]
    omega
  have hcl : (iI (N : Int)).toNatClampNeg = N := by
    rw [iI_clamp (by omega) (by omega)]
    omega
  refine va_newa (atype := .int) (ty := .int) (N' := N) (a0 := (N, .inl (iA (fun _ => 0)))) a1 a2 (a5 _ q86) rfl a6 hP hD hS a7 (iA_0 N) hn0 hcl (Nat.le_trans (Nat.mul_le_mul_right _ hN) (by decide)) (Nat.le_trans h1 hr.1) (Nat.le_trans h2 hr.2) hd (fun q cA H1 hK1 hP1 hD1 hS1 => ?_)
  exact kk q cA ⟨b1, b2, b3, b4, b5, hK1, b7, b8, b12⟩ ls H1 locs hl hP1 hD1 hS1
theorem g_newa1 {c0 n0 cM nM N : Nat} {cB : ClassId} (c1 n1 : Nat) (hC : gC (gCS k c0 n0) cc own [(cB, .int)] n L) (hr : gRm k cM nM) {z : Int} (hz : z = (N : Int)) (hN : N ≤ 1000) (e1 : c0 + 1 = c1) (e2 : n0 + N = n1) (h1 : c1 ≤ cM) (h2 : n1 ≤ nM) (hd : decode cc pc = .ok (.newarray .int, 2)) (kk : ∀ (q : Nat), gC (gCS k c1 n1) cc own [(cB, .int)] n L → gW (gCS k c1 n1) (w ++ [(q, .inl (cB, N, .inl (iA (fun _ => 0))))]) (pc + 2) lv (.ref q :: st)) : gW (gCS k c0 n0) w pc lv (vI z :: st) := by
  subst hz
  subst e1
  subst e2
  have hC2 := gC_CS hC hr h1 h2
  obtain ⟨p, l, e, R, s, m, args, below, meth, c, cells, slots, Q, D, A, nL⟩ := k
  obtain ⟨a1, a2, a3, a4, a5, a6, a7, a8, a12⟩ := id hC
  intro ls H locs hl hP hD hS
  have hn0 : ¬ iI (N : Int) < 0 := by
    rw [← iI_0, iI_lt ⟨by omega, by omega⟩ (by decide)]
    omega
  have hcl : (iI (N : Int)).toNatClampNeg = N := by
    rw [iI_clamp (by omega) (by omega)]
    omega
  refine va_newa (atype := .int) (ty := .int) (N' := N) (a0 := (N, .inl (iA (fun _ => 0)))) a1 a2 (a5 _ q86) rfl a6 hP hD hS a7 (iA_0 N) hn0 hcl (Nat.le_trans (Nat.mul_le_mul_right _ hN) (by decide)) (Nat.le_trans h1 hr.1) (Nat.le_trans h2 hr.2) hd (fun q cA H1 hK1 hP1 hD1 hS1 => ?_)
  have r0 : s.vm.findClass ("[" ++ FieldType.int.toString) = some cB := (hK1.2 0 (cB, .int) rfl).2
  have r1 : s.vm.findClass ("[" ++ FieldType.int.toString) = some cA := (hK1.2 1 (cA, .int) rfl).2
  have r2 : cB = cA := Option.some.inj (r0.symm.trans r1)
  subst r2
  exact kk q hC2 ls H1 locs hl hP1 hD1 hS1
theorem g_putF {tys : List (ClassId × FieldType)} (hC : gC k cc own tys n L) (hnm0 : gNm k) {C : String} {T : u_T} {N ci index a : Nat} (hin : ∀ w ∈ u_ws C T N, w ∈ lw_all) (ty0 : Nat → FieldType) (hty : ∀ k, k < N → parseFieldDescriptor (T k).2.2.1 = some (ty0 k)) (hnm : ∀ a, a < N → ∀ b, b < N → a ≠ b → (T a).2.1 ≠ (T b).2.1) (q0 : Nat) {fs : List Value} (he : w[q0]? = some (a, .inr (ci, fs))) (hc : clX[ci]? = some (C, T, N)) (j : Nat) (hj : j < N) (hlink : Cond.fieldLink own index (T j).1 (T j).2.1 (T j).2.2.1 ∈ lw_all) (hfin : (T j).2.2.2 = true) (hdecl : (T j).1 = own) {ty : FieldType} {v : Value} (hd0 : parseFieldDescriptor (T j).2.2.1 = some ty) (hn : narrow ty v = v) (hfit : fits ty v = true) (hl0 : j < fs.length) (hd : decode cc pc = .ok (.putfield index, 3)) (kk : gW k (w.set q0 (a, .inr (ci, fs.set j v))) (pc + 3) lv st) : gW k w pc lv (v :: .ref a :: st) := by
  obtain ⟨p, l, e, R, s, m, args, below, meth, c, cells, slots, Q, D, A, nL⟩ := k
  intro ls H locs hl hP hD hS
  exact va_putF hC.1 hC.2.1 hC.2.2.2.2.1 hin ty0 hty hnm hC.2.2.2.1 hC.2.2.2.2.2.1 hP hD hS q0 he hc j hj (hC.2.2.2.2.1 _ hlink) (fun _ h => h) hfin hnm0 hdecl hd0 hn hfit hl0 hd (fun H1 locs1 hP1 hD1 hS1 => kk ls H1 locs1 hl hP1 hD1 hS1)
theorem g_oinit {tys : List (ClassId × FieldType)} (hC : gC k cc own tys n L) (hn1 : 1 ≤ n) {idx a : Nat} (hq : Cond.methodLink own idx Lib.objectInit ∈ lw_all) (hd : decode cc pc = .ok (.invokespecial idx, 3)) (kk : gW k w (pc + 3) lv []) : gW k w pc lv [.ref a] := by
  obtain ⟨p, l, e, R, s, m, args, below, meth, c, cells, slots, Q, D, A, nL⟩ := k
  obtain ⟨a1, a2, a3, a4, a5, a6, a7, ⟨a8, a9, a10, a11⟩, a12⟩ := hC
  intro ls H locs hl hP hD hS
  have h8 := lv_room (m := m) (pc := pc) (ls := ls) (rest := [.ref a]) (st := []) (Nat.le_of_ble_eq_true rfl)
  refine W.objInit a1 a2 a4 (a5 _ hq) (a5 _ q32) (a5 _ q33) rfl (by rw [a3]; exact hl.1) rfl hd (Nat.le_trans hn1 a8) (Nat.le_trans (Nat.add_le_add_right h8 12) (Nat.le_trans (by omega) a9)) ?_
  exact W.eq (g2 := F0 m (pc + 3) ls []) rfl (kk ls H locs hl hP hD hS)
theorem g_new {tys : List (ClassId × FieldType)} {c0 n0 cM nM N : Nat} (c1 n1 : Nat) (hC : gC (gCS k c0 n0) cc own tys n L) (hr : gRm k cM nM) {C : String} {T : u_T} {ci index : Nat} (hin : ∀ w ∈ u_ws C T N, w ∈ lw_all) (ty0 : Nat → FieldType) (hty : ∀ k, k < N → parseFieldDescriptor (T k).2.2.1 = some (ty0 k)) (hcl : Cond.classLink own index C ∈ lw_all) (hinst : Cond.instantiable C N ∈ lw_all) (hini : Cond.initialized C ∈ lw_all) (hc : clX[ci]? = some (C, T, N)) {fs : List Value} (hfs : ∀ j, j < N → defaultValue (ty0 j) = vp_V fs j) (e1 : c0 + 1 = c1) (e2 : n0 + N = n1) (h1 : c1 ≤ cM) (h2 : n1 ≤ nM) (hd : decode cc pc = .ok (.new index, 3)) (kk : ∀ q : Nat, gW (gCS k c1 n1) (w ++ [(q, .inr (ci, fs))]) (pc + 3) lv (.ref q :: st)) : gW (gCS k c0 n0) w pc lv st := by
  subst e1
  subst e2
  obtain ⟨p, l, e, R, s, m, args, below, meth, c, cells, slots, Q, D, A, nL⟩ := k
  obtain ⟨a1, a2, a3, a4, a5, a6, a7, a8, a12⟩ := hC
  intro ls H locs hl hP hD hS
  exact va_new a1 a2 a5 hin ty0 hty a4 (a5 _ hcl) (a5 _ hinst) (a5 _ hini) a6 hP hD hS a7 hc hfs (Nat.le_trans h1 hr.1) (Nat.le_trans h2 hr.2) hd (fun q H1 hP1 hD1 hS1 => kk q ls H1 locs hl hP1 hD1 hS1)
end
/-- the room of a constructor -/
def rmC (c n : Nat) : Room := { frames := 1, cells := c, slots := n, locals := 30 }
def gQc (D : va_G) {S : Type} (w : va_W) (sz : Nat) (ty : S → List (ClassId × FieldType)) (g : S → va_W) : Array Value → State → Outcome → State → Prop := va_Qv (fun _ : S => True) (fun u t => va_P D clX (g u) t.heap ∧ va_K D clX (ty u) t ∧ va_D (va_A w sz) (g u)) (va_A w sz)
/-- CONTRACT of a constructor that makes c cells of n slots -/
def gMetC (l : Launch) (y : MethodName) (cc : ByteArray) (L c n : Nat) (D : va_G) {S : Type} (w : va_W) (av : List Value) (ty : S → List (ClassId × FieldType)) (g : S → va_W) : Prop := ∀ sz : Nat, Met l y (ws_ y cc L none) (rmC c n) (gPre D [] w av sz) (gQc D w sz ty g) c n (va_A w sz)
theorem g_metC {l : Launch} {y : MethodName} {cc : ByteArray} {L cM nM : Nat} {D : va_G} {S : Type} {w : va_W} {av : List Value} {ty : S → List (ClassId × FieldType)} {g : S → va_W} (hy : plainName y.cls = true) (hi : y.name = "<init>") (hlen : (lg_sl av).length ≤ L)
    (body : ∀ k : gK, gC (gCS k 0 0) cc y.cls [] 1 L → gNm k → gRm k cM nM → (∀ (pc : Nat) (lv : List (Nat × Value)) (u : S), decode cc pc = .ok (.return_, 1) → gC (gCS k cM nM) cc y.cls (ty u) 1 L → gW (gCS k cM nM) (g u) pc lv []) → gW (gCS k 0 0) w 0 (lv_args 0 av) []) : gMetC l y cc L cM nM D w av ty g := by
  intro sz
  refine Met.ofW (cc := cc) (maxL := L) (ret := none) hy rfl ?_
  intro p e s m args below meth c s₁ B hml hv
  obtain ⟨rfl, hsz, hP, hK, hD0⟩ := hv
  have hts := atoms_spec (ws := ws_ y cc L none) B.pre
  have hts : ∀ w ∈ lw_all, w.before _ s = true := fun w h => hts w (List.mem_cons_of_mem _ h)
  have hown : s.vm.findClass y.cls = some m.cls := findClass_of_methodNamed B.named
  have hin : meth.name = y.name := (name_of_methodNamed B.named B.method).1
  have hlocks := B.notSynchronized
  subst hsz
  have hD := hD0.self (sz := s.heap.size)
  have hl := lv_entry av (n := L) hlen
  rw [lg_entry_eq]
  refine body (p, l, e, (headSpec (ws_ y cc L none) (rmC cM nM)).room, s, m, av.toArray, below, meth, c, 0, 0, MQ below (gQc D w s.heap.size ty g) av.toArray s cM nM (va_A w s.heap.size), D, va_A w s.heap.size, L) ⟨B.exec, B.bytes, hml, hown, hts, hK, fun q h => Or.inr h, ⟨Nat.le_refl 1, Nat.le_refl 30, Nat.zero_le _, Nat.zero_le _⟩, rfl⟩ (hin.trans hi) ⟨Nat.le_refl _, Nat.le_refl _⟩ ?_ _ s.heap [] hl hP hD va_S.rf
  intro pc lv u hd hCu ls H locs hl hP hD hS
  exact W.vret B.exec B.bytes B.returns (fun t ht hW => ⟨⟨u, rfl, trivial, by rw [ht]; exact hP, va_K.moved hW.alike hCu.2.2.2.2.2.1, hD⟩, hS.F ht⟩) hS.2.2 hd
/-- a constructor's call -/
theorem g_ctor {k : gK} {cc : ByteArray} {own : String} {tys : List (ClassId × FieldType)} {n L : Nat} {w : va_W} {pc : Nat} {lv : List (Nat × Value)} {S : Type} {ty : S → List (ClassId × FieldType)} {g : S → va_W} {y : MethodName} {cb : ByteArray} {Lb na idx a mc ms c0 n0 cM nM : Nat} {As rest st0 : List Value} {wc wr : va_W} (c1 n1 : Nat) (isC isR : List Nat)
    (hC : gC (gCS k c0 n0) cc own tys n L) (hr : gRm k cM nM) (hM : gMetC (gL k) y cb Lb mc ms (gD k) wc (.ref a :: As) ty g) (hn : 2 ≤ n) (hLb : Lb ≤ 11) (hna : As.length = na)
    (hI1 : Cond.methodLink own idx y ∈ lw_all) (hI2 : Cond.instanceMethod y ∈ lw_all) (hI3 : Cond.initialized y.cls ∈ lw_all) (hI4 : Cond.code y cb Lb none ∈ lw_all) (hy : y.name = "<init>") (hI6 : y.cls ≠ "java/lang/invoke/MethodHandle" ∧ y.cls ≠ "java/lang/invoke/VarHandle" ∧ (parseMethodDescriptor y.desc).map (fun d => d.parameters.length) = some na)
    (hsp : gSp w wc wr isC isR) (hst : st0 = As.reverse ++ .ref a :: rest) (hrest : (rest.map fun v => v.category).sum ≤ 8) (e1 : c0 + mc = c1) (e2 : n0 + ms = n1) (h1 : c1 ≤ cM) (h2 : n1 ≤ nM) (hd : decode cc pc = .ok (.invokespecial idx, 3))
    (kk : ∀ (u : S), gC (gCS k c1 n1) cc own (tys ++ ty u) n L → gW (gCS k c1 n1) (wr ++ g u) (pc + 3) lv rest) : gW (gCS k c0 n0) w pc lv st0 := by
  subst hst
  subst e1
  subst e2
  have hC2 := gC_CS hC hr h1 h2
  obtain ⟨p, l, e, R, s, m, args, below, meth, c, cells, slots, Q, D, A, nL⟩ := k
  obtain ⟨hx, hb, hml, hown, hts, hK, hA, hrm, hLL⟩ := hC
  obtain ⟨b1, b2, b3, b4, b5, b6, b7, b8, b12⟩ := hC2
  intro ls H locs hl hP hD hS
  obtain ⟨s1, s2, s3, s4, s5, s6⟩ := hsp
  have hPc := hP.sub isC s2
  have hDc := hD.sub isC s3 s1
  have hKc := hK.sub (tys' := []) [] rfl
  have hFc := va_free (wc := wc) hD hS hA isC s1
  have hM1 : Met l y (ws_ y cb Lb none) (rmC mc ms) (gPre D [] wc (.ref a :: As) H.size) (gQc D wc H.size ty g) mc ms (va_A wc H.size) := hM H.size
  have hroom : (rmC mc ms).frames + 1 ≤ R.frames ∧ 8 + (Lb + 11) + (rmC mc ms).locals ≤ R.locals := by
    obtain ⟨r1, r2, -, -⟩ := hrm
    simp only [rmC]
    omega
  refine va_callv (va_runI (As := As) (rest := rest) ⟨hx, hb, hml, hown, hts⟩ hM1 (cwI na hts (lw_meth hI4) rfl rfl rfl (hts _ hI3) (hts _ hI1) (hts _ hI2) hy hI6 hroom) ⟨fun a U g mk q => by obtain ⟨q0, q1, qP, qK, qD⟩ := q; exact ⟨q0, q1, qP, va_K.moved (u := U) (U := U.calling g mk a) (Vm.Alike.refl U.vm) qK, qD⟩, fun U hU hW => ⟨rfl, by rw [hU], by rw [hU]; exact hPc, va_K.moved hW.alike hKc, hDc.weaken (fun _ _ _ _ => trivial)⟩⟩ rfl hna hl.1 rfl (lv_room hrest) hd ⟨Nat.le_trans h1 hr.1, Nat.le_trans h2 hr.2⟩) hS (fun q _ h => hFc q h) hFc (fun u t H1 locs1 ht hvm hw hB hz1 hk1 hS1 => ?_)
  obtain ⟨hP1, hK1, hD1⟩ := hB
  rw [ht] at hP1
  have hK1 := va_K.moved hvm.symm hK1
  obtain ⟨hP2, hD2⟩ := va_join (wr := wr) (w1 := g u) hP hD isC isR s1 s4 s5 s6 hk1 hFc hP1 hD1
  exact kk u ⟨b1, b2, b3, b4, b5, hK.app hK1, b7, b8, b12⟩ ls H1 locs1 hl hP2 hD2 hS1
/-- the number of events -/
def nC (ev : Int) : Int := if ev < 2 then 2 else if 4 < ev then 4 else ev
theorem nC_rg (ev : Int) : 2 ≤ nC ev ∧ nC ev ≤ 4 := by
  unfold nC
  (repeat' split) <;> omega
abbrev z0 : Int → Int := fun _ => 0
def fsX : List Value := [Value.null, Value.null, Value.null, Value.null, Value.null, Value.null, Value.null, Value.null, Value.null, Value.null, vI 0, vI 0, vI 0, vI 0, vI 0, vI 0, vI 0]
set_option maxHeartbeats 4000000 in
/-- the constructor: 10 arrays, 348 places -/
theorem met_X_init (l : Launch) (D : va_G) (a : Nat) (ev : Int) (hev : -2147483648 ≤ ev ∧ ev < 2147483648) : gMetC l yX1_init cX1_init 2 10 348 D [(a, .inr (0, fsX))] [.ref a, vI ev] (fun (u : ClassId × (Nat → Nat)) => [(u.1, .int)]) (fun (u : ClassId × (Nat → Nat)) => wX (u.1, a, u.2) (z0, z0, z0, z0, z0, z0, z0, z0, z0, z0, nC ev, 0, 0, 0, -1, 0, 0)) := by
  refine g_metC (by decide) rfl (Nat.le_of_ble_eq_true rfl) ?_
  intro k hC hnm hr hret
  have hC : gC (gCS k 0 0) cX1_init RX1 [] 1 2 := hC
  show gW (gCS k 0 0) [(a, .inr (0, [Value.null, Value.null, Value.null, Value.null, Value.null, Value.null, Value.null, Value.null, Value.null, Value.null, vI 0, vI 0, vI 0, vI 0, vI 0, vI 0, vI 0]))] 0 [(0, Value.ref a), (1, vI ev)] []
  refine g_aload_n hC dX1_init_0 rfl 0 rfl ?_
  refine g_oinit hC (Nat.le_refl 1) q31 dX1_init_1 ?_
  refine g_aload_n hC dX1_init_4 rfl 0 rfl ?_
  refine g_bipush hC dX1_init_5 (by decide) ?_
  refine g_newa0 (N := 24) 1 24 hC hr rfl (by decide) rfl rfl (by decide) (by decide) dX1_init_7 (fun q0 cA hC => ?_)
  show gW (gCS k 1 24) [(a, .inr (0, [Value.null, Value.null, Value.null, Value.null, Value.null, Value.null, Value.null, Value.null, Value.null, Value.null, vI 0, vI 0, vI 0, vI 0, vI 0, vI 0, vI 0])), (q0, .inl (cA, 24, .inl (iA z0)))] 9 [(0, Value.ref a), (1, vI ev)] [Value.ref q0, Value.ref a]
  refine g_putF hC (gNm_CS hnm) in_X1 tyX1 tyX1_ok nmX1 0 (ci := 0) (fs := [Value.null, Value.null, Value.null, Value.null, Value.null, Value.null, Value.null, Value.null, Value.null, Value.null, vI 0, vI 0, vI 0, vI 0, vI 0, vI 0, vI 0]) rfl rfl 0 (by decide) q34 rfl rfl (ty := .array .int) rfl rfl rfl (Nat.le_of_ble_eq_true rfl) dX1_init_9 ?_
  show gW (gCS k 1 24) [(a, .inr (0, [Value.ref q0, Value.null, Value.null, Value.null, Value.null, Value.null, Value.null, Value.null, Value.null, Value.null, vI 0, vI 0, vI 0, vI 0, vI 0, vI 0, vI 0])), (q0, .inl (cA, 24, .inl (iA z0)))] 12 [(0, Value.ref a), (1, vI ev)] []
  refine g_aload_n hC dX1_init_12 rfl 0 rfl ?_
  refine g_bipush hC dX1_init_13 (by decide) ?_
  refine g_newa1 (N := 24) 2 48 hC hr rfl (by decide) rfl rfl (by decide) (by decide) dX1_init_15 (fun q1 hC => ?_)
  show gW (gCS k 2 48) [(a, .inr (0, [Value.ref q0, Value.null, Value.null, Value.null, Value.null, Value.null, Value.null, Value.null, Value.null, Value.null, vI 0, vI 0, vI 0, vI 0, vI 0, vI 0, vI 0])), (q0, .inl (cA, 24, .inl (iA z0))), (q1, .inl (cA, 24, .inl (iA z0)))] 17 [(0, Value.ref a), (1, vI ev)] [Value.ref q1, Value.ref a]
  refine g_putF hC (gNm_CS hnm) in_X1 tyX1 tyX1_ok nmX1 0 (ci := 0) (fs := [Value.ref q0, Value.null, Value.null, Value.null, Value.null, Value.null, Value.null, Value.null, Value.null, Value.null, vI 0, vI 0, vI 0, vI 0, vI 0, vI 0, vI 0]) rfl rfl 1 (by decide) q35 rfl rfl (ty := .array .int) rfl rfl rfl (Nat.le_of_ble_eq_true rfl) dX1_init_17 ?_
  show gW (gCS k 2 48) [(a, .inr (0, [Value.ref q0, Value.ref q1, Value.null, Value.null, Value.null, Value.null, Value.null, Value.null, Value.null, Value.null, vI 0, vI 0, vI 0, vI 0, vI 0, vI 0, vI 0])), (q0, .inl (cA, 24, .inl (iA z0))), (q1, .inl (cA, 24, .inl (iA z0)))] 20 [(0, Value.ref a), (1, vI ev)] []
  refine g_aload_n hC dX1_init_20 rfl 0 rfl ?_
  refine g_bipush hC dX1_init_21 (by decide) ?_
  refine g_newa1 (N := 24) 3 72 hC hr rfl (by decide) rfl rfl (by decide) (by decide) dX1_init_23 (fun q2 hC => ?_)
  show gW (gCS k 3 72) [(a, .inr (0, [Value.ref q0, Value.ref q1, Value.null, Value.null, Value.null, Value.null, Value.null, Value.null, Value.null, Value.null, vI 0, vI 0, vI 0, vI 0, vI 0, vI 0, vI 0])), (q0, .inl (cA, 24, .inl (iA z0))), (q1, .inl (cA, 24, .inl (iA z0))), (q2, .inl (cA, 24, .inl (iA z0)))] 25 [(0, Value.ref a), (1, vI ev)] [Value.ref q2, Value.ref a]
  refine g_putF hC (gNm_CS hnm) in_X1 tyX1 tyX1_ok nmX1 0 (ci := 0) (fs := [Value.ref q0, Value.ref q1, Value.null, Value.null, Value.null, Value.null, Value.null, Value.null, Value.null, Value.null, vI 0, vI 0, vI 0, vI 0, vI 0, vI 0, vI 0]) rfl rfl 2 (by decide) q36 rfl rfl (ty := .array .int) rfl rfl rfl (Nat.le_of_ble_eq_true rfl) dX1_init_25 ?_
  show gW (gCS k 3 72) [(a, .inr (0, [Value.ref q0, Value.ref q1, Value.ref q2, Value.null, Value.null, Value.null, Value.null, Value.null, Value.null, Value.null, vI 0, vI 0, vI 0, vI 0, vI 0, vI 0, vI 0])), (q0, .inl (cA, 24, .inl (iA z0))), (q1, .inl (cA, 24, .inl (iA z0))), (q2, .inl (cA, 24, .inl (iA z0)))] 28 [(0, Value.ref a), (1, vI ev)] []
  refine g_aload_n hC dX1_init_28 rfl 0 rfl ?_
  refine g_bipush hC dX1_init_29 (by decide) ?_
  refine g_newa1 (N := 8) 4 80 hC hr rfl (by decide) rfl rfl (by decide) (by decide) dX1_init_31 (fun q3 hC => ?_)
  show gW (gCS k 4 80) [(a, .inr (0, [Value.ref q0, Value.ref q1, Value.ref q2, Value.null, Value.null, Value.null, Value.null, Value.null, Value.null, Value.null, vI 0, vI 0, vI 0, vI 0, vI 0, vI 0, vI 0])), (q0, .inl (cA, 24, .inl (iA z0))), (q1, .inl (cA, 24, .inl (iA z0))), (q2, .inl (cA, 24, .inl (iA z0))), (q3, .inl (cA, 8, .inl (iA z0)))] 33 [(0, Value.ref a), (1, vI ev)] [Value.ref q3, Value.ref a]
  refine g_putF hC (gNm_CS hnm) in_X1 tyX1 tyX1_ok nmX1 0 (ci := 0) (fs := [Value.ref q0, Value.ref q1, Value.ref q2, Value.null, Value.null, Value.null, Value.null, Value.null, Value.null, Value.null, vI 0, vI 0, vI 0, vI 0, vI 0, vI 0, vI 0]) rfl rfl 3 (by decide) q37 rfl rfl (ty := .array .int) rfl rfl rfl (Nat.le_of_ble_eq_true rfl) dX1_init_33 ?_
  show gW (gCS k 4 80) [(a, .inr (0, [Value.ref q0, Value.ref q1, Value.ref q2, Value.ref q3, Value.null, Value.null, Value.null, Value.null, Value.null, Value.null, vI 0, vI 0, vI 0, vI 0, vI 0, vI 0, vI 0])), (q0, .inl (cA, 24, .inl (iA z0))), (q1, .inl (cA, 24, .inl (iA z0))), (q2, .inl (cA, 24, .inl (iA z0))), (q3, .inl (cA, 8, .inl (iA z0)))] 36 [(0, Value.ref a), (1, vI ev)] []
  refine g_aload_n hC dX1_init_36 rfl 0 rfl ?_
  refine g_iconst hC dX1_init_37 ?_
  refine g_newa1 (N := 3) 5 83 hC hr rfl (by decide) rfl rfl (by decide) (by decide) dX1_init_38 (fun q4 hC => ?_)
  show gW (gCS k 5 83) [(a, .inr (0, [Value.ref q0, Value.ref q1, Value.ref q2, Value.ref q3, Value.null, Value.null, Value.null, Value.null, Value.null, Value.null, vI 0, vI 0, vI 0, vI 0, vI 0, vI 0, vI 0])), (q0, .inl (cA, 24, .inl (iA z0))), (q1, .inl (cA, 24, .inl (iA z0))), (q2, .inl (cA, 24, .inl (iA z0))), (q3, .inl (cA, 8, .inl (iA z0))), (q4, .inl (cA, 3, .inl (iA z0)))] 40 [(0, Value.ref a), (1, vI ev)] [Value.ref q4, Value.ref a]
  refine g_putF hC (gNm_CS hnm) in_X1 tyX1 tyX1_ok nmX1 0 (ci := 0) (fs := [Value.ref q0, Value.ref q1, Value.ref q2, Value.ref q3, Value.null, Value.null, Value.null, Value.null, Value.null, Value.null, vI 0, vI 0, vI 0, vI 0, vI 0, vI 0, vI 0]) rfl rfl 4 (by decide) q38 rfl rfl (ty := .array .int) rfl rfl rfl (Nat.le_of_ble_eq_true rfl) dX1_init_40 ?_
  show gW (gCS k 5 83) [(a, .inr (0, [Value.ref q0, Value.ref q1, Value.ref q2, Value.ref q3, Value.ref q4, Value.null, Value.null, Value.null, Value.null, Value.null, vI 0, vI 0, vI 0, vI 0, vI 0, vI 0, vI 0])), (q0, .inl (cA, 24, .inl (iA z0))), (q1, .inl (cA, 24, .inl (iA z0))), (q2, .inl (cA, 24, .inl (iA z0))), (q3, .inl (cA, 8, .inl (iA z0))), (q4, .inl (cA, 3, .inl (iA z0)))] 43 [(0, Value.ref a), (1, vI ev)] []
  refine g_aload_n hC dX1_init_43 rfl 0 rfl ?_
  refine g_iconst hC dX1_init_44 ?_
  refine g_newa1 (N := 3) 6 86 hC hr rfl (by decide) rfl rfl (by decide) (by decide) dX1_init_45 (fun q5 hC => ?_)
  show gW (gCS k 6 86) [(a, .inr (0, [Value.ref q0, Value.ref q1, Value.ref q2, Value.ref q3, Value.ref q4, Value.null, Value.null, Value.null, Value.null, Value.null, vI 0, vI 0, vI 0, vI 0, vI 0, vI 0, vI 0])), (q0, .inl (cA, 24, .inl (iA z0))), (q1, .inl (cA, 24, .inl (iA z0))), (q2, .inl (cA, 24, .inl (iA z0))), (q3, .inl (cA, 8, .inl (iA z0))), (q4, .inl (cA, 3, .inl (iA z0))), (q5, .inl (cA, 3, .inl (iA z0)))] 47 [(0, Value.ref a), (1, vI ev)] [Value.ref q5, Value.ref a]
  refine g_putF hC (gNm_CS hnm) in_X1 tyX1 tyX1_ok nmX1 0 (ci := 0) (fs := [Value.ref q0, Value.ref q1, Value.ref q2, Value.ref q3, Value.ref q4, Value.null, Value.null, Value.null, Value.null, Value.null, vI 0, vI 0, vI 0, vI 0, vI 0, vI 0, vI 0]) rfl rfl 5 (by decide) q39 rfl rfl (ty := .array .int) rfl rfl rfl (Nat.le_of_ble_eq_true rfl) dX1_init_47 ?_
  show gW (gCS k 6 86) [(a, .inr (0, [Value.ref q0, Value.ref q1, Value.ref q2, Value.ref q3, Value.ref q4, Value.ref q5, Value.null, Value.null, Value.null, Value.null, vI 0, vI 0, vI 0, vI 0, vI 0, vI 0, vI 0])), (q0, .inl (cA, 24, .inl (iA z0))), (q1, .inl (cA, 24, .inl (iA z0))), (q2, .inl (cA, 24, .inl (iA z0))), (q3, .inl (cA, 8, .inl (iA z0))), (q4, .inl (cA, 3, .inl (iA z0))), (q5, .inl (cA, 3, .inl (iA z0)))] 50 [(0, Value.ref a), (1, vI ev)] []
  refine g_aload_n hC dX1_init_50 rfl 0 rfl ?_
  refine g_iconst hC dX1_init_51 ?_
  refine g_newa1 (N := 3) 7 89 hC hr rfl (by decide) rfl rfl (by decide) (by decide) dX1_init_52 (fun q6 hC => ?_)
  show gW (gCS k 7 89) [(a, .inr (0, [Value.ref q0, Value.ref q1, Value.ref q2, Value.ref q3, Value.ref q4, Value.ref q5, Value.null, Value.null, Value.null, Value.null, vI 0, vI 0, vI 0, vI 0, vI 0, vI 0, vI 0])), (q0, .inl (cA, 24, .inl (iA z0))), (q1, .inl (cA, 24, .inl (iA z0))), (q2, .inl (cA, 24, .inl (iA z0))), (q3, .inl (cA, 8, .inl (iA z0))), (q4, .inl (cA, 3, .inl (iA z0))), (q5, .inl (cA, 3, .inl (iA z0))), (q6, .inl (cA, 3, .inl (iA z0)))] 54 [(0, Value.ref a), (1, vI ev)] [Value.ref q6, Value.ref a]
  refine g_putF hC (gNm_CS hnm) in_X1 tyX1 tyX1_ok nmX1 0 (ci := 0) (fs := [Value.ref q0, Value.ref q1, Value.ref q2, Value.ref q3, Value.ref q4, Value.ref q5, Value.null, Value.null, Value.null, Value.null, vI 0, vI 0, vI 0, vI 0, vI 0, vI 0, vI 0]) rfl rfl 6 (by decide) q40 rfl rfl (ty := .array .int) rfl rfl rfl (Nat.le_of_ble_eq_true rfl) dX1_init_54 ?_
  show gW (gCS k 7 89) [(a, .inr (0, [Value.ref q0, Value.ref q1, Value.ref q2, Value.ref q3, Value.ref q4, Value.ref q5, Value.ref q6, Value.null, Value.null, Value.null, vI 0, vI 0, vI 0, vI 0, vI 0, vI 0, vI 0])), (q0, .inl (cA, 24, .inl (iA z0))), (q1, .inl (cA, 24, .inl (iA z0))), (q2, .inl (cA, 24, .inl (iA z0))), (q3, .inl (cA, 8, .inl (iA z0))), (q4, .inl (cA, 3, .inl (iA z0))), (q5, .inl (cA, 3, .inl (iA z0))), (q6, .inl (cA, 3, .inl (iA z0)))] 57 [(0, Value.ref a), (1, vI ev)] []
  refine g_aload_n hC dX1_init_57 rfl 0 rfl ?_
  refine g_bipush hC dX1_init_58 (by decide) ?_
  refine g_newa1 (N := 25) 8 114 hC hr rfl (by decide) rfl rfl (by decide) (by decide) dX1_init_60 (fun q7 hC => ?_)
  show gW (gCS k 8 114) [(a, .inr (0, [Value.ref q0, Value.ref q1, Value.ref q2, Value.ref q3, Value.ref q4, Value.ref q5, Value.ref q6, Value.null, Value.null, Value.null, vI 0, vI 0, vI 0, vI 0, vI 0, vI 0, vI 0])), (q0, .inl (cA, 24, .inl (iA z0))), (q1, .inl (cA, 24, .inl (iA z0))), (q2, .inl (cA, 24, .inl (iA z0))), (q3, .inl (cA, 8, .inl (iA z0))), (q4, .inl (cA, 3, .inl (iA z0))), (q5, .inl (cA, 3, .inl (iA z0))), (q6, .inl (cA, 3, .inl (iA z0))), (q7, .inl (cA, 25, .inl (iA z0)))] 62 [(0, Value.ref a), (1, vI ev)] [Value.ref q7, Value.ref a]
  refine g_putF hC (gNm_CS hnm) in_X1 tyX1 tyX1_ok nmX1 0 (ci := 0) (fs := [Value.ref q0, Value.ref q1, Value.ref q2, Value.ref q3, Value.ref q4, Value.ref q5, Value.ref q6, Value.null, Value.null, Value.null, vI 0, vI 0, vI 0, vI 0, vI 0, vI 0, vI 0]) rfl rfl 7 (by decide) q41 rfl rfl (ty := .array .int) rfl rfl rfl (Nat.le_of_ble_eq_true rfl) dX1_init_62 ?_
  show gW (gCS k 8 114) [(a, .inr (0, [Value.ref q0, Value.ref q1, Value.ref q2, Value.ref q3, Value.ref q4, Value.ref q5, Value.ref q6, Value.ref q7, Value.null, Value.null, vI 0, vI 0, vI 0, vI 0, vI 0, vI 0, vI 0])), (q0, .inl (cA, 24, .inl (iA z0))), (q1, .inl (cA, 24, .inl (iA z0))), (q2, .inl (cA, 24, .inl (iA z0))), (q3, .inl (cA, 8, .inl (iA z0))), (q4, .inl (cA, 3, .inl (iA z0))), (q5, .inl (cA, 3, .inl (iA z0))), (q6, .inl (cA, 3, .inl (iA z0))), (q7, .inl (cA, 25, .inl (iA z0)))] 65 [(0, Value.ref a), (1, vI ev)] []
  refine g_aload_n hC dX1_init_65 rfl 0 rfl ?_
  refine g_sipush hC dX1_init_66 (by decide) ?_
  refine g_newa1 (N := 225) 9 339 hC hr rfl (by decide) rfl rfl (by decide) (by decide) dX1_init_69 (fun q8 hC => ?_)
  show gW (gCS k 9 339) [(a, .inr (0, [Value.ref q0, Value.ref q1, Value.ref q2, Value.ref q3, Value.ref q4, Value.ref q5, Value.ref q6, Value.ref q7, Value.null, Value.null, vI 0, vI 0, vI 0, vI 0, vI 0, vI 0, vI 0])), (q0, .inl (cA, 24, .inl (iA z0))), (q1, .inl (cA, 24, .inl (iA z0))), (q2, .inl (cA, 24, .inl (iA z0))), (q3, .inl (cA, 8, .inl (iA z0))), (q4, .inl (cA, 3, .inl (iA z0))), (q5, .inl (cA, 3, .inl (iA z0))), (q6, .inl (cA, 3, .inl (iA z0))), (q7, .inl (cA, 25, .inl (iA z0))), (q8, .inl (cA, 225, .inl (iA z0)))] 71 [(0, Value.ref a), (1, vI ev)] [Value.ref q8, Value.ref a]
  refine g_putF hC (gNm_CS hnm) in_X1 tyX1 tyX1_ok nmX1 0 (ci := 0) (fs := [Value.ref q0, Value.ref q1, Value.ref q2, Value.ref q3, Value.ref q4, Value.ref q5, Value.ref q6, Value.ref q7, Value.null, Value.null, vI 0, vI 0, vI 0, vI 0, vI 0, vI 0, vI 0]) rfl rfl 8 (by decide) q42 rfl rfl (ty := .array .int) rfl rfl rfl (Nat.le_of_ble_eq_true rfl) dX1_init_71 ?_
  show gW (gCS k 9 339) [(a, .inr (0, [Value.ref q0, Value.ref q1, Value.ref q2, Value.ref q3, Value.ref q4, Value.ref q5, Value.ref q6, Value.ref q7, Value.ref q8, Value.null, vI 0, vI 0, vI 0, vI 0, vI 0, vI 0, vI 0])), (q0, .inl (cA, 24, .inl (iA z0))), (q1, .inl (cA, 24, .inl (iA z0))), (q2, .inl (cA, 24, .inl (iA z0))), (q3, .inl (cA, 8, .inl (iA z0))), (q4, .inl (cA, 3, .inl (iA z0))), (q5, .inl (cA, 3, .inl (iA z0))), (q6, .inl (cA, 3, .inl (iA z0))), (q7, .inl (cA, 25, .inl (iA z0))), (q8, .inl (cA, 225, .inl (iA z0)))] 74 [(0, Value.ref a), (1, vI ev)] []
  refine g_aload_n hC dX1_init_74 rfl 0 rfl ?_
  refine g_bipush hC dX1_init_75 (by decide) ?_
  refine g_newa1 (N := 9) 10 348 hC hr rfl (by decide) rfl rfl (by decide) (by decide) dX1_init_77 (fun q9 hC => ?_)
  show gW (gCS k 10 348) [(a, .inr (0, [Value.ref q0, Value.ref q1, Value.ref q2, Value.ref q3, Value.ref q4, Value.ref q5, Value.ref q6, Value.ref q7, Value.ref q8, Value.null, vI 0, vI 0, vI 0, vI 0, vI 0, vI 0, vI 0])), (q0, .inl (cA, 24, .inl (iA z0))), (q1, .inl (cA, 24, .inl (iA z0))), (q2, .inl (cA, 24, .inl (iA z0))), (q3, .inl (cA, 8, .inl (iA z0))), (q4, .inl (cA, 3, .inl (iA z0))), (q5, .inl (cA, 3, .inl (iA z0))), (q6, .inl (cA, 3, .inl (iA z0))), (q7, .inl (cA, 25, .inl (iA z0))), (q8, .inl (cA, 225, .inl (iA z0))), (q9, .inl (cA, 9, .inl (iA z0)))] 79 [(0, Value.ref a), (1, vI ev)] [Value.ref q9, Value.ref a]
  refine g_putF hC (gNm_CS hnm) in_X1 tyX1 tyX1_ok nmX1 0 (ci := 0) (fs := [Value.ref q0, Value.ref q1, Value.ref q2, Value.ref q3, Value.ref q4, Value.ref q5, Value.ref q6, Value.ref q7, Value.ref q8, Value.null, vI 0, vI 0, vI 0, vI 0, vI 0, vI 0, vI 0]) rfl rfl 9 (by decide) q43 rfl rfl (ty := .array .int) rfl rfl rfl (Nat.le_of_ble_eq_true rfl) dX1_init_79 ?_
  show gW (gCS k 10 348) [(a, .inr (0, [Value.ref q0, Value.ref q1, Value.ref q2, Value.ref q3, Value.ref q4, Value.ref q5, Value.ref q6, Value.ref q7, Value.ref q8, Value.ref q9, vI 0, vI 0, vI 0, vI 0, vI 0, vI 0, vI 0])), (q0, .inl (cA, 24, .inl (iA z0))), (q1, .inl (cA, 24, .inl (iA z0))), (q2, .inl (cA, 24, .inl (iA z0))), (q3, .inl (cA, 8, .inl (iA z0))), (q4, .inl (cA, 3, .inl (iA z0))), (q5, .inl (cA, 3, .inl (iA z0))), (q6, .inl (cA, 3, .inl (iA z0))), (q7, .inl (cA, 25, .inl (iA z0))), (q8, .inl (cA, 225, .inl (iA z0))), (q9, .inl (cA, 9, .inl (iA z0)))] 82 [(0, Value.ref a), (1, vI ev)] []
  refine g_aload_n hC dX1_init_82 rfl 0 rfl ?_
  refine g_iload_n hC dX1_init_83 rfl 1 rfl ?_
  refine g_iconst hC dX1_init_84 ?_
  refine g_icmp_ge hC 92 dX1_init_85 (by decide) (by omega) (by omega) (fun c85 => ?_) (fun c85 => ?_)
  · refine g_iload_n hC dX1_init_92 rfl 1 rfl ?_
    refine g_put hC in_X1 tyX1 tyX1_ok nmX1 0 (ci := 0) (fs := [Value.ref q0, Value.ref q1, Value.ref q2, Value.ref q3, Value.ref q4, Value.ref q5, Value.ref q6, Value.ref q7, Value.ref q8, Value.ref q9, vI 0, vI 0, vI 0, vI 0, vI 0, vI 0, vI 0]) rfl rfl 10 (by decide) q44 rfl (ty := .int) rfl rfl rfl (Nat.le_of_ble_eq_true rfl) dX1_init_93 ?_
    show gW (gCS k 10 348) [(a, .inr (0, [Value.ref q0, Value.ref q1, Value.ref q2, Value.ref q3, Value.ref q4, Value.ref q5, Value.ref q6, Value.ref q7, Value.ref q8, Value.ref q9, vI ev, vI 0, vI 0, vI 0, vI 0, vI 0, vI 0])), (q0, .inl (cA, 24, .inl (iA z0))), (q1, .inl (cA, 24, .inl (iA z0))), (q2, .inl (cA, 24, .inl (iA z0))), (q3, .inl (cA, 8, .inl (iA z0))), (q4, .inl (cA, 3, .inl (iA z0))), (q5, .inl (cA, 3, .inl (iA z0))), (q6, .inl (cA, 3, .inl (iA z0))), (q7, .inl (cA, 25, .inl (iA z0))), (q8, .inl (cA, 225, .inl (iA z0))), (q9, .inl (cA, 9, .inl (iA z0)))] 96 [(0, Value.ref a), (1, vI ev)] []
    refine g_aload_n hC dX1_init_96 rfl 0 rfl ?_
    refine g_get hC in_X1 0 (ci := 0) (fs := [Value.ref q0, Value.ref q1, Value.ref q2, Value.ref q3, Value.ref q4, Value.ref q5, Value.ref q6, Value.ref q7, Value.ref q8, Value.ref q9, vI ev, vI 0, vI 0, vI 0, vI 0, vI 0, vI 0]) rfl rfl 10 (by decide) q44 rfl dX1_init_97 ?_
    refine g_iconst hC dX1_init_100 ?_
    refine g_icmp_le hC 109 dX1_init_101 (by decide) (by omega) (by omega) (fun c101 => ?_) (fun c101 => ?_)
    · refine g_aload_n hC dX1_init_109 rfl 0 rfl ?_
      refine g_iconst hC dX1_init_110 ?_
      refine g_put hC in_X1 tyX1 tyX1_ok nmX1 0 (ci := 0) (fs := [Value.ref q0, Value.ref q1, Value.ref q2, Value.ref q3, Value.ref q4, Value.ref q5, Value.ref q6, Value.ref q7, Value.ref q8, Value.ref q9, vI ev, vI 0, vI 0, vI 0, vI 0, vI 0, vI 0]) rfl rfl 14 (by decide) q48 rfl (ty := .int) rfl rfl rfl (Nat.le_of_ble_eq_true rfl) dX1_init_111 ?_
      show gW (gCS k 10 348) [(a, .inr (0, [Value.ref q0, Value.ref q1, Value.ref q2, Value.ref q3, Value.ref q4, Value.ref q5, Value.ref q6, Value.ref q7, Value.ref q8, Value.ref q9, vI ev, vI 0, vI 0, vI 0, vI (-1), vI 0, vI 0])), (q0, .inl (cA, 24, .inl (iA z0))), (q1, .inl (cA, 24, .inl (iA z0))), (q2, .inl (cA, 24, .inl (iA z0))), (q3, .inl (cA, 8, .inl (iA z0))), (q4, .inl (cA, 3, .inl (iA z0))), (q5, .inl (cA, 3, .inl (iA z0))), (q6, .inl (cA, 3, .inl (iA z0))), (q7, .inl (cA, 25, .inl (iA z0))), (q8, .inl (cA, 225, .inl (iA z0))), (q9, .inl (cA, 9, .inl (iA z0)))] 114 [(0, Value.ref a), (1, vI ev)] []
      have hn : nC ev = ev := by
        unfold nC
        (repeat' split) <;> omega
      have h : gW (gCS k 10 348) (wX (cA, a, (fun i => match i with | 0 => q0 | 1 => q1 | 2 => q2 | 3 => q3 | 4 => q4 | 5 => q5 | 6 => q6 | 7 => q7 | 8 => q8 | _ => q9)) (z0, z0, z0, z0, z0, z0, z0, z0, z0, z0, nC ev, 0, 0, 0, -1, 0, 0)) 114 [(0, Value.ref a), (1, vI ev)] [] := hret 114 [(0, Value.ref a), (1, vI ev)] (cA, (fun i => match i with | 0 => q0 | 1 => q1 | 2 => q2 | 3 => q3 | 4 => q4 | 5 => q5 | 6 => q6 | 7 => q7 | 8 => q8 | _ => q9)) dX1_init_114 hC
      rw [hn] at h
      exact h
    · refine g_aload_n hC dX1_init_104 rfl 0 rfl ?_
      refine g_iconst hC dX1_init_105 ?_
      refine g_put hC in_X1 tyX1 tyX1_ok nmX1 0 (ci := 0) (fs := [Value.ref q0, Value.ref q1, Value.ref q2, Value.ref q3, Value.ref q4, Value.ref q5, Value.ref q6, Value.ref q7, Value.ref q8, Value.ref q9, vI ev, vI 0, vI 0, vI 0, vI 0, vI 0, vI 0]) rfl rfl 10 (by decide) q44 rfl (ty := .int) rfl rfl rfl (Nat.le_of_ble_eq_true rfl) dX1_init_106 ?_
      show gW (gCS k 10 348) [(a, .inr (0, [Value.ref q0, Value.ref q1, Value.ref q2, Value.ref q3, Value.ref q4, Value.ref q5, Value.ref q6, Value.ref q7, Value.ref q8, Value.ref q9, vI 4, vI 0, vI 0, vI 0, vI 0, vI 0, vI 0])), (q0, .inl (cA, 24, .inl (iA z0))), (q1, .inl (cA, 24, .inl (iA z0))), (q2, .inl (cA, 24, .inl (iA z0))), (q3, .inl (cA, 8, .inl (iA z0))), (q4, .inl (cA, 3, .inl (iA z0))), (q5, .inl (cA, 3, .inl (iA z0))), (q6, .inl (cA, 3, .inl (iA z0))), (q7, .inl (cA, 25, .inl (iA z0))), (q8, .inl (cA, 225, .inl (iA z0))), (q9, .inl (cA, 9, .inl (iA z0)))] 109 [(0, Value.ref a), (1, vI ev)] []
      refine g_aload_n hC dX1_init_109 rfl 0 rfl ?_
      refine g_iconst hC dX1_init_110 ?_
      refine g_put hC in_X1 tyX1 tyX1_ok nmX1 0 (ci := 0) (fs := [Value.ref q0, Value.ref q1, Value.ref q2, Value.ref q3, Value.ref q4, Value.ref q5, Value.ref q6, Value.ref q7, Value.ref q8, Value.ref q9, vI 4, vI 0, vI 0, vI 0, vI 0, vI 0, vI 0]) rfl rfl 14 (by decide) q48 rfl (ty := .int) rfl rfl rfl (Nat.le_of_ble_eq_true rfl) dX1_init_111 ?_
      show gW (gCS k 10 348) [(a, .inr (0, [Value.ref q0, Value.ref q1, Value.ref q2, Value.ref q3, Value.ref q4, Value.ref q5, Value.ref q6, Value.ref q7, Value.ref q8, Value.ref q9, vI 4, vI 0, vI 0, vI 0, vI (-1), vI 0, vI 0])), (q0, .inl (cA, 24, .inl (iA z0))), (q1, .inl (cA, 24, .inl (iA z0))), (q2, .inl (cA, 24, .inl (iA z0))), (q3, .inl (cA, 8, .inl (iA z0))), (q4, .inl (cA, 3, .inl (iA z0))), (q5, .inl (cA, 3, .inl (iA z0))), (q6, .inl (cA, 3, .inl (iA z0))), (q7, .inl (cA, 25, .inl (iA z0))), (q8, .inl (cA, 225, .inl (iA z0))), (q9, .inl (cA, 9, .inl (iA z0)))] 114 [(0, Value.ref a), (1, vI ev)] []
      have hn : nC ev = 4 := by
        unfold nC
        (repeat' split) <;> omega
      have h : gW (gCS k 10 348) (wX (cA, a, (fun i => match i with | 0 => q0 | 1 => q1 | 2 => q2 | 3 => q3 | 4 => q4 | 5 => q5 | 6 => q6 | 7 => q7 | 8 => q8 | _ => q9)) (z0, z0, z0, z0, z0, z0, z0, z0, z0, z0, nC ev, 0, 0, 0, -1, 0, 0)) 114 [(0, Value.ref a), (1, vI ev)] [] := hret 114 [(0, Value.ref a), (1, vI ev)] (cA, (fun i => match i with | 0 => q0 | 1 => q1 | 2 => q2 | 3 => q3 | 4 => q4 | 5 => q5 | 6 => q6 | 7 => q7 | 8 => q8 | _ => q9)) dX1_init_114 hC
      rw [hn] at h
      exact h
  · refine g_iconst hC dX1_init_88 ?_
    refine g_goto hC 93 dX1_init_89 (by decide) ?_
    refine g_put hC in_X1 tyX1 tyX1_ok nmX1 0 (ci := 0) (fs := [Value.ref q0, Value.ref q1, Value.ref q2, Value.ref q3, Value.ref q4, Value.ref q5, Value.ref q6, Value.ref q7, Value.ref q8, Value.ref q9, vI 0, vI 0, vI 0, vI 0, vI 0, vI 0, vI 0]) rfl rfl 10 (by decide) q44 rfl (ty := .int) rfl rfl rfl (Nat.le_of_ble_eq_true rfl) dX1_init_93 ?_
    show gW (gCS k 10 348) [(a, .inr (0, [Value.ref q0, Value.ref q1, Value.ref q2, Value.ref q3, Value.ref q4, Value.ref q5, Value.ref q6, Value.ref q7, Value.ref q8, Value.ref q9, vI 2, vI 0, vI 0, vI 0, vI 0, vI 0, vI 0])), (q0, .inl (cA, 24, .inl (iA z0))), (q1, .inl (cA, 24, .inl (iA z0))), (q2, .inl (cA, 24, .inl (iA z0))), (q3, .inl (cA, 8, .inl (iA z0))), (q4, .inl (cA, 3, .inl (iA z0))), (q5, .inl (cA, 3, .inl (iA z0))), (q6, .inl (cA, 3, .inl (iA z0))), (q7, .inl (cA, 25, .inl (iA z0))), (q8, .inl (cA, 225, .inl (iA z0))), (q9, .inl (cA, 9, .inl (iA z0)))] 96 [(0, Value.ref a), (1, vI ev)] []
    refine g_aload_n hC dX1_init_96 rfl 0 rfl ?_
    refine g_get hC in_X1 0 (ci := 0) (fs := [Value.ref q0, Value.ref q1, Value.ref q2, Value.ref q3, Value.ref q4, Value.ref q5, Value.ref q6, Value.ref q7, Value.ref q8, Value.ref q9, vI 2, vI 0, vI 0, vI 0, vI 0, vI 0, vI 0]) rfl rfl 10 (by decide) q44 rfl dX1_init_97 ?_
    refine g_iconst hC dX1_init_100 ?_
    refine g_icmp_le hC 109 dX1_init_101 (by decide) (by omega) (by omega) (fun c101 => ?_) (fun c101 => ?_)
    · refine g_aload_n hC dX1_init_109 rfl 0 rfl ?_
      refine g_iconst hC dX1_init_110 ?_
      refine g_put hC in_X1 tyX1 tyX1_ok nmX1 0 (ci := 0) (fs := [Value.ref q0, Value.ref q1, Value.ref q2, Value.ref q3, Value.ref q4, Value.ref q5, Value.ref q6, Value.ref q7, Value.ref q8, Value.ref q9, vI 2, vI 0, vI 0, vI 0, vI 0, vI 0, vI 0]) rfl rfl 14 (by decide) q48 rfl (ty := .int) rfl rfl rfl (Nat.le_of_ble_eq_true rfl) dX1_init_111 ?_
      show gW (gCS k 10 348) [(a, .inr (0, [Value.ref q0, Value.ref q1, Value.ref q2, Value.ref q3, Value.ref q4, Value.ref q5, Value.ref q6, Value.ref q7, Value.ref q8, Value.ref q9, vI 2, vI 0, vI 0, vI 0, vI (-1), vI 0, vI 0])), (q0, .inl (cA, 24, .inl (iA z0))), (q1, .inl (cA, 24, .inl (iA z0))), (q2, .inl (cA, 24, .inl (iA z0))), (q3, .inl (cA, 8, .inl (iA z0))), (q4, .inl (cA, 3, .inl (iA z0))), (q5, .inl (cA, 3, .inl (iA z0))), (q6, .inl (cA, 3, .inl (iA z0))), (q7, .inl (cA, 25, .inl (iA z0))), (q8, .inl (cA, 225, .inl (iA z0))), (q9, .inl (cA, 9, .inl (iA z0)))] 114 [(0, Value.ref a), (1, vI ev)] []
      have hn : nC ev = 2 := by
        unfold nC
        (repeat' split) <;> omega
      have h : gW (gCS k 10 348) (wX (cA, a, (fun i => match i with | 0 => q0 | 1 => q1 | 2 => q2 | 3 => q3 | 4 => q4 | 5 => q5 | 6 => q6 | 7 => q7 | 8 => q8 | _ => q9)) (z0, z0, z0, z0, z0, z0, z0, z0, z0, z0, nC ev, 0, 0, 0, -1, 0, 0)) 114 [(0, Value.ref a), (1, vI ev)] [] := hret 114 [(0, Value.ref a), (1, vI ev)] (cA, (fun i => match i with | 0 => q0 | 1 => q1 | 2 => q2 | 3 => q3 | 4 => q4 | 5 => q5 | 6 => q6 | 7 => q7 | 8 => q8 | _ => q9)) dX1_init_114 hC
      rw [hn] at h
      exact h
    · refine g_aload_n hC dX1_init_104 rfl 0 rfl ?_
      refine g_iconst hC dX1_init_105 ?_
      refine g_put hC in_X1 tyX1 tyX1_ok nmX1 0 (ci := 0) (fs := [Value.ref q0, Value.ref q1, Value.ref q2, Value.ref q3, Value.ref q4, Value.ref q5, Value.ref q6, Value.ref q7, Value.ref q8, Value.ref q9, vI 2, vI 0, vI 0, vI 0, vI 0, vI 0, vI 0]) rfl rfl 10 (by decide) q44 rfl (ty := .int) rfl rfl rfl (Nat.le_of_ble_eq_true rfl) dX1_init_106 ?_
      show gW (gCS k 10 348) [(a, .inr (0, [Value.ref q0, Value.ref q1, Value.ref q2, Value.ref q3, Value.ref q4, Value.ref q5, Value.ref q6, Value.ref q7, Value.ref q8, Value.ref q9, vI 4, vI 0, vI 0, vI 0, vI 0, vI 0, vI 0])), (q0, .inl (cA, 24, .inl (iA z0))), (q1, .inl (cA, 24, .inl (iA z0))), (q2, .inl (cA, 24, .inl (iA z0))), (q3, .inl (cA, 8, .inl (iA z0))), (q4, .inl (cA, 3, .inl (iA z0))), (q5, .inl (cA, 3, .inl (iA z0))), (q6, .inl (cA, 3, .inl (iA z0))), (q7, .inl (cA, 25, .inl (iA z0))), (q8, .inl (cA, 225, .inl (iA z0))), (q9, .inl (cA, 9, .inl (iA z0)))] 109 [(0, Value.ref a), (1, vI ev)] []
      refine g_aload_n hC dX1_init_109 rfl 0 rfl ?_
      refine g_iconst hC dX1_init_110 ?_
      refine g_put hC in_X1 tyX1 tyX1_ok nmX1 0 (ci := 0) (fs := [Value.ref q0, Value.ref q1, Value.ref q2, Value.ref q3, Value.ref q4, Value.ref q5, Value.ref q6, Value.ref q7, Value.ref q8, Value.ref q9, vI 4, vI 0, vI 0, vI 0, vI 0, vI 0, vI 0]) rfl rfl 14 (by decide) q48 rfl (ty := .int) rfl rfl rfl (Nat.le_of_ble_eq_true rfl) dX1_init_111 ?_
      show gW (gCS k 10 348) [(a, .inr (0, [Value.ref q0, Value.ref q1, Value.ref q2, Value.ref q3, Value.ref q4, Value.ref q5, Value.ref q6, Value.ref q7, Value.ref q8, Value.ref q9, vI 4, vI 0, vI 0, vI 0, vI (-1), vI 0, vI 0])), (q0, .inl (cA, 24, .inl (iA z0))), (q1, .inl (cA, 24, .inl (iA z0))), (q2, .inl (cA, 24, .inl (iA z0))), (q3, .inl (cA, 8, .inl (iA z0))), (q4, .inl (cA, 3, .inl (iA z0))), (q5, .inl (cA, 3, .inl (iA z0))), (q6, .inl (cA, 3, .inl (iA z0))), (q7, .inl (cA, 25, .inl (iA z0))), (q8, .inl (cA, 225, .inl (iA z0))), (q9, .inl (cA, 9, .inl (iA z0)))] 114 [(0, Value.ref a), (1, vI ev)] []
      have hn : nC ev = 4 := by
        unfold nC
        (repeat' split) <;> omega
      have h : gW (gCS k 10 348) (wX (cA, a, (fun i => match i with | 0 => q0 | 1 => q1 | 2 => q2 | 3 => q3 | 4 => q4 | 5 => q5 | 6 => q6 | 7 => q7 | 8 => q8 | _ => q9)) (z0, z0, z0, z0, z0, z0, z0, z0, z0, z0, nC ev, 0, 0, 0, -1, 0, 0)) 114 [(0, Value.ref a), (1, vI ev)] [] := hret 114 [(0, Value.ref a), (1, vI ev)] (cA, (fun i => match i with | 0 => q0 | 1 => q1 | 2 => q2 | 3 => q3 | 4 => q4 | 5 => q5 | 6 => q6 | 7 => q7 | 8 => q8 | _ => q9)) dX1_init_114 hC
      rw [hn] at h
      exact h
def fsM : List Value := [vI 0, vI 0, vI 0, vI 0, Value.null, Value.null, Value.null, Value.null]
set_option maxHeartbeats 4000000 in
/-- the constructor: 4 arrays, 90 places -/
theorem met_M_init (l : Launch) (D : va_G) (a : Nat) (ev : Int) (hev : -2147483648 ≤ ev ∧ ev < 2147483648) : gMetC l yX2_init cX2_init 2 4 90 D [(a, .inr (1, fsM))] [.ref a, vI ev] (fun (u : ClassId × (Nat → Nat)) => [(u.1, .int)]) (fun (u : ClassId × (Nat → Nat)) => wM (u.1, a, u.2) (z0, z0, z0, z0, nC ev, p8 (nC ev), 0, 0)) := by
  refine g_metC (by decide) rfl (Nat.le_of_ble_eq_true rfl) ?_
  intro k hC hnm hr hret
  have hC : gC (gCS k 0 0) cX2_init RX2 [] 1 2 := hC
  show gW (gCS k 0 0) [(a, .inr (1, [vI 0, vI 0, vI 0, vI 0, Value.null, Value.null, Value.null, Value.null]))] 0 [(0, Value.ref a), (1, vI ev)] []
  refine g_aload_n hC dX2_init_0 rfl 0 rfl ?_
  refine g_oinit hC (Nat.le_refl 1) q216 dX2_init_1 ?_
  refine g_aload_n hC dX2_init_4 rfl 0 rfl ?_
  refine g_bipush hC dX2_init_5 (by decide) ?_
  refine g_newa0 (N := 9) 1 9 hC hr rfl (by decide) rfl rfl (by decide) (by decide) dX2_init_7 (fun q0 cA hC => ?_)
  show gW (gCS k 1 9) [(a, .inr (1, [vI 0, vI 0, vI 0, vI 0, Value.null, Value.null, Value.null, Value.null])), (q0, .inl (cA, 9, .inl (iA z0)))] 9 [(0, Value.ref a), (1, vI ev)] [Value.ref q0, Value.ref a]
  refine g_put hC in_X2 tyX2 tyX2_ok nmX2 0 (ci := 1) (fs := [vI 0, vI 0, vI 0, vI 0, Value.null, Value.null, Value.null, Value.null]) rfl rfl 4 (by decide) q221 rfl (ty := .array .int) rfl rfl rfl (Nat.le_of_ble_eq_true rfl) dX2_init_9 ?_
  show gW (gCS k 1 9) [(a, .inr (1, [vI 0, vI 0, vI 0, vI 0, Value.ref q0, Value.null, Value.null, Value.null])), (q0, .inl (cA, 9, .inl (iA z0)))] 12 [(0, Value.ref a), (1, vI ev)] []
  refine g_aload_n hC dX2_init_12 rfl 0 rfl ?_
  refine g_bipush hC dX2_init_13 (by decide) ?_
  refine g_newa1 (N := 27) 2 36 hC hr rfl (by decide) rfl rfl (by decide) (by decide) dX2_init_15 (fun q1 hC => ?_)
  show gW (gCS k 2 36) [(a, .inr (1, [vI 0, vI 0, vI 0, vI 0, Value.ref q0, Value.null, Value.null, Value.null])), (q0, .inl (cA, 9, .inl (iA z0))), (q1, .inl (cA, 27, .inl (iA z0)))] 17 [(0, Value.ref a), (1, vI ev)] [Value.ref q1, Value.ref a]
  refine g_put hC in_X2 tyX2 tyX2_ok nmX2 0 (ci := 1) (fs := [vI 0, vI 0, vI 0, vI 0, Value.ref q0, Value.null, Value.null, Value.null]) rfl rfl 5 (by decide) q222 rfl (ty := .array .int) rfl rfl rfl (Nat.le_of_ble_eq_true rfl) dX2_init_17 ?_
  show gW (gCS k 2 36) [(a, .inr (1, [vI 0, vI 0, vI 0, vI 0, Value.ref q0, Value.ref q1, Value.null, Value.null])), (q0, .inl (cA, 9, .inl (iA z0))), (q1, .inl (cA, 27, .inl (iA z0)))] 20 [(0, Value.ref a), (1, vI ev)] []
  refine g_aload_n hC dX2_init_20 rfl 0 rfl ?_
  refine g_bipush hC dX2_init_21 (by decide) ?_
  refine g_newa1 (N := 27) 3 63 hC hr rfl (by decide) rfl rfl (by decide) (by decide) dX2_init_23 (fun q2 hC => ?_)
  show gW (gCS k 3 63) [(a, .inr (1, [vI 0, vI 0, vI 0, vI 0, Value.ref q0, Value.ref q1, Value.null, Value.null])), (q0, .inl (cA, 9, .inl (iA z0))), (q1, .inl (cA, 27, .inl (iA z0))), (q2, .inl (cA, 27, .inl (iA z0)))] 25 [(0, Value.ref a), (1, vI ev)] [Value.ref q2, Value.ref a]
  refine g_put hC in_X2 tyX2 tyX2_ok nmX2 0 (ci := 1) (fs := [vI 0, vI 0, vI 0, vI 0, Value.ref q0, Value.ref q1, Value.null, Value.null]) rfl rfl 6 (by decide) q223 rfl (ty := .array .int) rfl rfl rfl (Nat.le_of_ble_eq_true rfl) dX2_init_25 ?_
  show gW (gCS k 3 63) [(a, .inr (1, [vI 0, vI 0, vI 0, vI 0, Value.ref q0, Value.ref q1, Value.ref q2, Value.null])), (q0, .inl (cA, 9, .inl (iA z0))), (q1, .inl (cA, 27, .inl (iA z0))), (q2, .inl (cA, 27, .inl (iA z0)))] 28 [(0, Value.ref a), (1, vI ev)] []
  refine g_aload_n hC dX2_init_28 rfl 0 rfl ?_
  refine g_bipush hC dX2_init_29 (by decide) ?_
  refine g_newa1 (N := 27) 4 90 hC hr rfl (by decide) rfl rfl (by decide) (by decide) dX2_init_31 (fun q3 hC => ?_)
  show gW (gCS k 4 90) [(a, .inr (1, [vI 0, vI 0, vI 0, vI 0, Value.ref q0, Value.ref q1, Value.ref q2, Value.null])), (q0, .inl (cA, 9, .inl (iA z0))), (q1, .inl (cA, 27, .inl (iA z0))), (q2, .inl (cA, 27, .inl (iA z0))), (q3, .inl (cA, 27, .inl (iA z0)))] 33 [(0, Value.ref a), (1, vI ev)] [Value.ref q3, Value.ref a]
  refine g_put hC in_X2 tyX2 tyX2_ok nmX2 0 (ci := 1) (fs := [vI 0, vI 0, vI 0, vI 0, Value.ref q0, Value.ref q1, Value.ref q2, Value.null]) rfl rfl 7 (by decide) q224 rfl (ty := .array .int) rfl rfl rfl (Nat.le_of_ble_eq_true rfl) dX2_init_33 ?_
  show gW (gCS k 4 90) [(a, .inr (1, [vI 0, vI 0, vI 0, vI 0, Value.ref q0, Value.ref q1, Value.ref q2, Value.ref q3])), (q0, .inl (cA, 9, .inl (iA z0))), (q1, .inl (cA, 27, .inl (iA z0))), (q2, .inl (cA, 27, .inl (iA z0))), (q3, .inl (cA, 27, .inl (iA z0)))] 36 [(0, Value.ref a), (1, vI ev)] []
  refine g_aload_n hC dX2_init_36 rfl 0 rfl ?_
  refine g_iload_n hC dX2_init_37 rfl 1 rfl ?_
  refine g_iconst hC dX2_init_38 ?_
  refine g_icmp_ge hC 46 dX2_init_39 (by decide) (by omega) (by omega) (fun c39 => ?_) (fun c39 => ?_)
  · refine g_iload_n hC dX2_init_46 rfl 1 rfl ?_
    refine g_iconst hC dX2_init_47 ?_
    refine g_icmp_le hC 55 dX2_init_48 (by decide) (by omega) (by omega) (fun c48 => ?_) (fun c48 => ?_)
    · refine g_iload_n hC dX2_init_55 rfl 1 rfl ?_
      refine g_put hC in_X2 tyX2 tyX2_ok nmX2 0 (ci := 1) (fs := [vI 0, vI 0, vI 0, vI 0, Value.ref q0, Value.ref q1, Value.ref q2, Value.ref q3]) rfl rfl 0 (by decide) q217 rfl (ty := .int) rfl rfl rfl (Nat.le_of_ble_eq_true rfl) dX2_init_56 ?_
      show gW (gCS k 4 90) [(a, .inr (1, [vI ev, vI 0, vI 0, vI 0, Value.ref q0, Value.ref q1, Value.ref q2, Value.ref q3])), (q0, .inl (cA, 9, .inl (iA z0))), (q1, .inl (cA, 27, .inl (iA z0))), (q2, .inl (cA, 27, .inl (iA z0))), (q3, .inl (cA, 27, .inl (iA z0)))] 59 [(0, Value.ref a), (1, vI ev)] []
      refine g_aload_n hC dX2_init_59 rfl 0 rfl ?_
      refine g_iconst hC dX2_init_60 ?_
      refine g_iconst hC dX2_init_61 ?_
      refine g_aload_n hC dX2_init_62 rfl 0 rfl ?_
      refine g_get hC in_X2 0 (ci := 1) (fs := [vI ev, vI 0, vI 0, vI 0, Value.ref q0, Value.ref q1, Value.ref q2, Value.ref q3]) rfl rfl 0 (by decide) q217 rfl dX2_init_63 ?_
      refine g_imul hC dX2_init_66 ?_
      refine g_ishl1 hC ev (by omega) (by omega) dX2_init_67 ?_
      refine g_put hC in_X2 tyX2 tyX2_ok nmX2 0 (ci := 1) (fs := [vI ev, vI 0, vI 0, vI 0, Value.ref q0, Value.ref q1, Value.ref q2, Value.ref q3]) rfl rfl 1 (by decide) q218 rfl (ty := .int) rfl rfl rfl (Nat.le_of_ble_eq_true rfl) dX2_init_68 ?_
      show gW (gCS k 4 90) [(a, .inr (1, [vI ev, vI (p8 ev), vI 0, vI 0, Value.ref q0, Value.ref q1, Value.ref q2, Value.ref q3])), (q0, .inl (cA, 9, .inl (iA z0))), (q1, .inl (cA, 27, .inl (iA z0))), (q2, .inl (cA, 27, .inl (iA z0))), (q3, .inl (cA, 27, .inl (iA z0)))] 71 [(0, Value.ref a), (1, vI ev)] []
      have hn : nC ev = ev := by
        unfold nC
        (repeat' split) <;> omega
      have h : gW (gCS k 4 90) (wM (cA, a, (fun i => match i with | 0 => q0 | 1 => q1 | 2 => q2 | _ => q3)) (z0, z0, z0, z0, nC ev, p8 (nC ev), 0, 0)) 71 [(0, Value.ref a), (1, vI ev)] [] := hret 71 [(0, Value.ref a), (1, vI ev)] (cA, (fun i => match i with | 0 => q0 | 1 => q1 | 2 => q2 | _ => q3)) dX2_init_71 hC
      rw [hn] at h
      exact h
    · refine g_iconst hC dX2_init_51 ?_
      refine g_goto hC 56 dX2_init_52 (by decide) ?_
      refine g_put hC in_X2 tyX2 tyX2_ok nmX2 0 (ci := 1) (fs := [vI 0, vI 0, vI 0, vI 0, Value.ref q0, Value.ref q1, Value.ref q2, Value.ref q3]) rfl rfl 0 (by decide) q217 rfl (ty := .int) rfl rfl rfl (Nat.le_of_ble_eq_true rfl) dX2_init_56 ?_
      show gW (gCS k 4 90) [(a, .inr (1, [vI 4, vI 0, vI 0, vI 0, Value.ref q0, Value.ref q1, Value.ref q2, Value.ref q3])), (q0, .inl (cA, 9, .inl (iA z0))), (q1, .inl (cA, 27, .inl (iA z0))), (q2, .inl (cA, 27, .inl (iA z0))), (q3, .inl (cA, 27, .inl (iA z0)))] 59 [(0, Value.ref a), (1, vI ev)] []
      refine g_aload_n hC dX2_init_59 rfl 0 rfl ?_
      refine g_iconst hC dX2_init_60 ?_
      refine g_iconst hC dX2_init_61 ?_
      refine g_aload_n hC dX2_init_62 rfl 0 rfl ?_
      refine g_get hC in_X2 0 (ci := 1) (fs := [vI 4, vI 0, vI 0, vI 0, Value.ref q0, Value.ref q1, Value.ref q2, Value.ref q3]) rfl rfl 0 (by decide) q217 rfl dX2_init_63 ?_
      refine g_imul hC dX2_init_66 ?_
      refine g_ishl1 hC 4 (by omega) (by omega) dX2_init_67 ?_
      refine g_put hC in_X2 tyX2 tyX2_ok nmX2 0 (ci := 1) (fs := [vI 4, vI 0, vI 0, vI 0, Value.ref q0, Value.ref q1, Value.ref q2, Value.ref q3]) rfl rfl 1 (by decide) q218 rfl (ty := .int) rfl rfl rfl (Nat.le_of_ble_eq_true rfl) dX2_init_68 ?_
      show gW (gCS k 4 90) [(a, .inr (1, [vI 4, vI (p8 4), vI 0, vI 0, Value.ref q0, Value.ref q1, Value.ref q2, Value.ref q3])), (q0, .inl (cA, 9, .inl (iA z0))), (q1, .inl (cA, 27, .inl (iA z0))), (q2, .inl (cA, 27, .inl (iA z0))), (q3, .inl (cA, 27, .inl (iA z0)))] 71 [(0, Value.ref a), (1, vI ev)] []
      have hn : nC ev = 4 := by
        unfold nC
        (repeat' split) <;> omega
      have h : gW (gCS k 4 90) (wM (cA, a, (fun i => match i with | 0 => q0 | 1 => q1 | 2 => q2 | _ => q3)) (z0, z0, z0, z0, nC ev, p8 (nC ev), 0, 0)) 71 [(0, Value.ref a), (1, vI ev)] [] := hret 71 [(0, Value.ref a), (1, vI ev)] (cA, (fun i => match i with | 0 => q0 | 1 => q1 | 2 => q2 | _ => q3)) dX2_init_71 hC
      rw [hn] at h
      exact h
  · refine g_iconst hC dX2_init_42 ?_
    refine g_goto hC 56 dX2_init_43 (by decide) ?_
    refine g_put hC in_X2 tyX2 tyX2_ok nmX2 0 (ci := 1) (fs := [vI 0, vI 0, vI 0, vI 0, Value.ref q0, Value.ref q1, Value.ref q2, Value.ref q3]) rfl rfl 0 (by decide) q217 rfl (ty := .int) rfl rfl rfl (Nat.le_of_ble_eq_true rfl) dX2_init_56 ?_
    show gW (gCS k 4 90) [(a, .inr (1, [vI 2, vI 0, vI 0, vI 0, Value.ref q0, Value.ref q1, Value.ref q2, Value.ref q3])), (q0, .inl (cA, 9, .inl (iA z0))), (q1, .inl (cA, 27, .inl (iA z0))), (q2, .inl (cA, 27, .inl (iA z0))), (q3, .inl (cA, 27, .inl (iA z0)))] 59 [(0, Value.ref a), (1, vI ev)] []
    refine g_aload_n hC dX2_init_59 rfl 0 rfl ?_
    refine g_iconst hC dX2_init_60 ?_
    refine g_iconst hC dX2_init_61 ?_
    refine g_aload_n hC dX2_init_62 rfl 0 rfl ?_
    refine g_get hC in_X2 0 (ci := 1) (fs := [vI 2, vI 0, vI 0, vI 0, Value.ref q0, Value.ref q1, Value.ref q2, Value.ref q3]) rfl rfl 0 (by decide) q217 rfl dX2_init_63 ?_
    refine g_imul hC dX2_init_66 ?_
    refine g_ishl1 hC 2 (by omega) (by omega) dX2_init_67 ?_
    refine g_put hC in_X2 tyX2 tyX2_ok nmX2 0 (ci := 1) (fs := [vI 2, vI 0, vI 0, vI 0, Value.ref q0, Value.ref q1, Value.ref q2, Value.ref q3]) rfl rfl 1 (by decide) q218 rfl (ty := .int) rfl rfl rfl (Nat.le_of_ble_eq_true rfl) dX2_init_68 ?_
    show gW (gCS k 4 90) [(a, .inr (1, [vI 2, vI (p8 2), vI 0, vI 0, Value.ref q0, Value.ref q1, Value.ref q2, Value.ref q3])), (q0, .inl (cA, 9, .inl (iA z0))), (q1, .inl (cA, 27, .inl (iA z0))), (q2, .inl (cA, 27, .inl (iA z0))), (q3, .inl (cA, 27, .inl (iA z0)))] 71 [(0, Value.ref a), (1, vI ev)] []
    have hn : nC ev = 2 := by
      unfold nC
      (repeat' split) <;> omega
    have h : gW (gCS k 4 90) (wM (cA, a, (fun i => match i with | 0 => q0 | 1 => q1 | 2 => q2 | _ => q3)) (z0, z0, z0, z0, nC ev, p8 (nC ev), 0, 0)) 71 [(0, Value.ref a), (1, vI ev)] [] := hret 71 [(0, Value.ref a), (1, vI ev)] (cA, (fun i => match i with | 0 => q0 | 1 => q1 | 2 => q2 | _ => q3)) dX2_init_71 hC
    rw [hn] at h
    exact h
/-- the script, which no run changes -/
def gX (k : gK) (b Ls : Nat) (xs : Nat → Int32) : Prop := match k with
  | (p, l, e, R, s, m, args, below, meth, cd, cells, slots, Q, D, A, nL) => va_X b Ls xs s s.heap ∧ b < s.heap.size ∧ ¬ A b
/-- the script's int at i -/
def sx (xs : Nat → Int32) (i : Int) : Int := (xs i.toNat).toInt
theorem sx_rg (xs : Nat → Int32) (i : Int) : -2147483648 ≤ sx xs i ∧ sx xs i < 2147483648 := iI_rg _
def sx0 (Ls : Nat) (xs : Nat → Int32) : Int := if 0 < Ls then sx xs 0 else 0
theorem sx0_rg (Ls : Nat) (xs : Nat → Int32) : -2147483648 ≤ sx0 Ls xs ∧ sx0 Ls xs < 2147483648 := by
  have := sx_rg xs 0
  unfold sx0
  split <;> omega
theorem g_sld {k : gK} {cc : ByteArray} {own : String} {tys : List (ClassId × FieldType)} {n L b Ls : Nat} {xs : Nat → Int32} {w : va_W} {pc : Nat} {lv : List (Nat × Value)} {st : List Value} (hC : gC k cc own tys n L) (hX : gX k b Ls xs) (hL : Ls ≤ 257) {i : Int} (hi : 0 ≤ i ∧ i < Ls) (hd : decode cc pc = .ok (.iaload, 1)) (kk : gW k w (pc + 1) lv (vI (sx xs i) :: st)) : gW k w pc lv (vI i :: .ref b :: st) := by
  obtain ⟨p, l, e, R, s, m, args, below, meth, c, cells, slots, Q, D, A, nL⟩ := k
  intro ls H locs hl hP hD hS
  have h := kk ls H locs hl hP hD hS
  have e1 : iI (sx xs i) = xs (iI i).toNatClampNeg := by
    unfold sx
    rw [iI_of, iI_clamp hi.1 (by omega)]
  unfold vI at h ⊢
  rw [e1] at h
  exact va_sld hC.1 hC.2.1 hX.1 hX.2.1 hX.2.2 hS (iI_in hi.1 hi.2 (by omega)) hd h
theorem g_slen {k : gK} {cc : ByteArray} {own : String} {tys : List (ClassId × FieldType)} {n L b Ls : Nat} {xs : Nat → Int32} {w : va_W} {pc : Nat} {lv : List (Nat × Value)} {st : List Value} (hC : gC k cc own tys n L) (hX : gX k b Ls xs) (hd : decode cc pc = .ok (.arraylength, 1)) (kk : gW k w (pc + 1) lv (vI (Ls : Int) :: st)) : gW k w pc lv (.ref b :: st) := by
  obtain ⟨p, l, e, R, s, m, args, below, meth, c, cells, slots, Q, D, A, nL⟩ := k
  intro ls H locs hl hP hD hS
  have h := kk ls H locs hl hP hD hS
  unfold vI at h
  rw [← iI_nI] at h
  exact va_slen hC.1 hC.2.1 hX.1 hX.2.1 hX.2.2 hS hd h
/-- the law's cell(script, 0) -/
theorem met_cell (l : Launch) (b Ls : Nat) (xs : Nat → Int32) (hL : Ls ≤ 257) (sz : Nat) : Met l yX0_cell (ws_ yX0_cell cX0_cell 2 (some .int)) (rmL 0) (va_Pc [.ref b, vI 0] (fun U => U.heap.size = sz ∧ b < sz ∧ va_X b Ls xs U U.heap)) (va_Qi (fun r (_ : Unit) => r = iI (sx0 Ls xs)) (fun _ _ => True) (va_A [] sz)) 0 0 (va_A [] sz) := by
  refine Met.ofW (cc := cX0_cell) (maxL := 2) (ret := some .int) (by decide) rfl ?_
  intro p e s m args below meth c s₁ B hml hv
  obtain ⟨rfl, hsz, hbs, hX⟩ := hv
  have hx := B.exec
  have hb := B.bytes
  have hr := B.returns
  have hlocks := B.notSynchronized
  subst hsz
  have hS : va_S (va_A [] s.heap.size) s.heap s.heap [] := va_S.rf
  have hbA : ¬ va_A [] s.heap.size b := fun h => by
    rcases h with ⟨k, e, h⟩ | h
    · simp at h
    · omega
  have hl := lv_entry ([.ref b, vI 0]) (n := 2) (Nat.le_of_ble_eq_true rfl)
  rw [lg_entry_eq]
  generalize (lg_sl ([.ref b, vI 0]) ++ List.replicate (2 - (lg_sl ([.ref b, vI 0])).length) Slot.unset).toArray = ls at hl ⊢
  have hl : lv_has ls 2 [(0, .ref b), (1, vI 0)] := hl
  refine lv_iload_n hx hb dX0_cell_0 rfl (lv_at hl 1 rfl) ?_
  refine lv_aload_n hx hb dX0_cell_1 rfl (lv_at hl 0 rfl) ?_
  refine va_slen hx hb hX hbs hbA hS dX0_cell_2 ?_
  refine lv_icmp_ge (tgt := 12) hx hb dX0_cell_3 (by decide) (fun c3 => ?_) (fun c3 => ?_)
  · have h0 : ¬ 0 < Ls := by
      rw [show Int32.ofNat Ls = iI (Ls : Int) from iI_nI Ls, iI_le ⟨by omega, by omega⟩ (by decide)] at c3
      omega
    refine lv_iconst (v := iI 0) hx hb dX0_cell_12 (by decide) ?_
    exact W.iret hx hb hr (fun t ht hW => ⟨⟨_, (), rfl, by unfold sx0; rw [if_neg h0], trivial⟩, hS.F ht⟩) hS.2.2 dX0_cell_13
  · have h0 : 0 < Ls := by
      rw [show Int32.ofNat Ls = iI (Ls : Int) from iI_nI Ls, iI_le ⟨by omega, by omega⟩ (by decide)] at c3
      omega
    refine lv_aload_n hx hb dX0_cell_6 rfl (lv_at hl 0 rfl) ?_
    refine lv_iload_n hx hb dX0_cell_7 rfl (lv_at hl 1 rfl) ?_
    refine va_sld hx hb hX hbs hbA hS (iI_in (Int.le_refl 0) (by omega) (by omega)) dX0_cell_8 ?_
    refine lv_goto (tgt := 13) hx hb dX0_cell_9 (by decide) ?_
    exact W.iret hx hb hr (fun t ht hW => ⟨⟨_, (), rfl, by unfold sx0 sx; rw [if_pos h0, iI_of, iI_clamp (Int.le_refl 0) (by decide)], trivial⟩, hS.F ht⟩) hS.2.2 dX0_cell_13
theorem g_cell {k : gK} {cc : ByteArray} {tys : List (ClassId × FieldType)} {n L b Ls : Nat} {xs : Nat → Int32} {w : va_W} {pc : Nat} {lv : List (Nat × Value)} {rest : List Value} (hC : gC k cc RX0 tys n L) (hn : 2 ≤ n) (hX : gX k b Ls xs) (hL : Ls ≤ 257) (hrest : (rest.map fun v => v.category).sum ≤ 8) (hd : decode cc pc = .ok (.invokestatic 9, 3)) (kk : gW k w (pc + 3) lv (vI (sx0 Ls xs) :: rest)) : gW k w pc lv (vI 0 :: .ref b :: rest) := by
  obtain ⟨p, l, e, R, s, m, args, below, meth, c, cells, slots, Q, D, A, nL⟩ := k
  obtain ⟨hx, hb, hml, hown, hts, hK, hA, hrm, hLL⟩ := hC
  obtain ⟨hX1, hX2, hX3⟩ := hX
  intro ls H locs hl hP hD hS
  have hroom : (rmL 0).frames + 1 ≤ R.frames ∧ 8 + (2 + 11) + (rmL 0).locals ≤ R.locals := by
    obtain ⟨r1, r2, -, -⟩ := hrm
    simp only [rmL]
    omega
  have hXH : va_X b Ls xs s H := hX1.kept (hS.2.1 b hX2 hX3)
  have hbH : b < H.size := Nat.lt_of_lt_of_le hX2 hS.1
  have hFc : ∀ q, va_A [] H.size q → A q := fun q h => by
    rcases h with ⟨k, e, h⟩ | h
    · simp at h
    · exact hA q (Nat.le_trans hS.1 h)
  refine va_calli (va_runS (As := [.ref b, vI 0]) (rest := rest) ⟨hx, hb, hml, hown, hts⟩ (met_cell l b Ls xs hL H.size) (va_cwS 2 hts (lw_S q208 q209 q23 q210) rfl rfl rfl (by decide +kernel) hroom) ⟨fun a U g mk q => by obtain ⟨q0, q1, q2, q3⟩ := q; exact ⟨q0, q1, q2, va_X.moved (u := U) (U := U.calling g mk a) (Vm.Alike.refl U.vm) q3⟩, fun U hU hW => ⟨rfl, by rw [hU], hbH, by rw [hU]; exact va_X.moved hW.alike hXH⟩⟩ rfl rfl hl.1 rfl (lv_room hrest) hd ⟨hrm.2.2.1, hrm.2.2.2⟩) hS (fun q _ h => hFc q h) hFc (fun r u t H1 locs1 ht hvm hw hB hz1 hk1 hS1 => ?_)
  subst hw
  refine kk ls H1 locs1 hl (hP.kept (fun j x hx => hk1 x.1 ((hP j x hx).lt) (fun h => ?_))) hD hS1
  rcases h with ⟨k, e, h⟩ | h
  · simp at h
  · exact absurd ((hP j x hx).lt) (Nat.not_lt.mpr h)
end
section
/-! THE LAW: rows -/
set_option maxRecDepth 100000
section
variable {k : gK} {cc : ByteArray} {n L pc b Ls : Nat} {xs : Nat → Int32} {lv : List (Nat × Value)} {w : va_W} {st : List Value} {oX oM : gO} {a0 a1 a2 a3 a4 a5 a6 a7 a8 a9 b0 b1 b2 b3 : Int → Int} {v0 v1 v2 v3 v4 v5 v6 u0 u1 u2 u3 : Int}
theorem l_callX {S : Type} {post : Int → S → Prop} {g : S → va_W} {y : MethodName} {cb : ByteArray} {Lb nb na idx : Nat} {ty : FieldType} {As rest st0 : List Value} (hC : gC k cc RX0 [(oX.1, .int), (oM.1, .int)] n L) (hI : gI y RX1 cb Lb (some ty) na) (hlk : Cond.methodLink RX0 idx y ∈ lw_all) (hM : gMetI (gL k) y cb Lb ty nb (gD k) [(oX.1, .int)] (wX oX (a0, a1, a2, a3, a4, a5, a6, a7, a8, a9, v0, v1, v2, v3, v4, v5, v6)) (.ref oX.2.1 :: As) post g) (hn : nb + 1 ≤ n) (hna : As.length = na) (hst : st0 = As.reverse ++ .ref oX.2.1 :: rest) (hrest : (rest.map fun v => v.category).sum ≤ 8) (hd : decode cc pc = .ok (.invokevirtual idx, 3)) (kk : ∀ (z : Int) (u : S), (-2147483648 ≤ z ∧ z < 2147483648) → post z u → gW k ((wM oM (b0, b1, b2, b3, u0, u1, u2, u3)) ++ g u) (pc + 3) lv (vI z :: rest)) : gW k ((wX oX (a0, a1, a2, a3, a4, a5, a6, a7, a8, a9, v0, v1, v2, v3, v4, v5, v6)) ++ (wM oM (b0, b1, b2, b3, u0, u1, u2, u3))) pc lv st0 := g_callI [0, 1, 2, 3, 4, 5, 6, 7, 8, 9, 10] [11, 12, 13, 14, 15] [0] hC hI hlk hM hn hna ⟨rfl, rfl, rfl, rfl, rfl, by decide⟩ rfl rfl (ci := 0) rfl rfl hst hrest hd kk
theorem l_callM {S : Type} {post : Int → S → Prop} {g : S → va_W} {y : MethodName} {cb : ByteArray} {Lb nb na idx : Nat} {ty : FieldType} {As rest st0 : List Value} (hC : gC k cc RX0 [(oX.1, .int), (oM.1, .int)] n L) (hI : gI y RX2 cb Lb (some ty) na) (hlk : Cond.methodLink RX0 idx y ∈ lw_all) (hM : gMetI (gL k) y cb Lb ty nb (gD k) [(oM.1, .int)] (wM oM (b0, b1, b2, b3, u0, u1, u2, u3)) (.ref oM.2.1 :: As) post g) (hn : nb + 1 ≤ n) (hna : As.length = na) (hst : st0 = As.reverse ++ .ref oM.2.1 :: rest) (hrest : (rest.map fun v => v.category).sum ≤ 8) (hd : decode cc pc = .ok (.invokevirtual idx, 3)) (kk : ∀ (z : Int) (u : S), (-2147483648 ≤ z ∧ z < 2147483648) → post z u → gW k ((wX oX (a0, a1, a2, a3, a4, a5, a6, a7, a8, a9, v0, v1, v2, v3, v4, v5, v6)) ++ g u) (pc + 3) lv (vI z :: rest)) : gW k ((wM oM (b0, b1, b2, b3, u0, u1, u2, u3)) ++ (wX oX (a0, a1, a2, a3, a4, a5, a6, a7, a8, a9, v0, v1, v2, v3, v4, v5, v6))) pc lv st0 := g_callI [0, 1, 2, 3, 4] [5, 6, 7, 8, 9, 10, 11, 12, 13, 14, 15] [1] hC hI hlk hM hn hna ⟨rfl, rfl, rfl, rfl, rfl, by decide⟩ rfl rfl (ci := 1) rfl rfl hst hrest hd kk
theorem l_cmp {own : String} {tys : List (ClassId × FieldType)} (hC : gC k cc own tys n L) {x y : Int} (tgt : Nat) {off : Int} (hd : decode cc pc = .ok (.if_icmp .eq off, 3)) (ht : (pc : Int) + off = (tgt : Int)) (hx : -2147483648 ≤ x ∧ x < 2147483648) (hy : -2147483648 ≤ y ∧ y < 2147483648) (he : x = y) (kk : gW k w tgt lv st) : gW k w pc lv (vI y :: vI x :: st) := g_icmp_eq hC tgt hd ht hx hy (fun _ => kk) (fun c => absurd he c)
theorem g_tableIn {own : String} {tys : List (ClassId × FieldType)} (hC : gC k cc own tys n L) {x dflt lo hi off : Int} {offs : Array Int} {len : Nat} (tgt : Nat) (hd : decode cc pc = .ok (.tableswitch dflt lo hi offs, len)) (hx : -2147483648 ≤ x ∧ x < 2147483648) (h1 : lo ≤ x) (h2 : x ≤ hi) (ho : offs[(x - lo).toNat]? = some off) (ht : (pc : Int) + off = (tgt : Int)) (kk : gW k w tgt lv st) : gW k w pc lv (vI x :: st) := by
  obtain ⟨p, l, e, R, s, m, args, below, meth, c, cells, slots, Q, D, A, nL⟩ := k
  intro ls H locs hl hP hD hS
  have ex := iI_toInt hx
  exact lv_tableIn hC.1 hC.2.1 hd (by rw [ex]; omega) (by rw [ex]; omega) (by rw [ex]; exact ho) ht (kk ls H locs hl hP hD hS)
theorem g_tableOut {own : String} {tys : List (ClassId × FieldType)} (hC : gC k cc own tys n L) {x dflt lo hi : Int} {offs : Array Int} {len : Nat} (tgt : Nat) (hd : decode cc pc = .ok (.tableswitch dflt lo hi offs, len)) (hx : -2147483648 ≤ x ∧ x < 2147483648) (h : x < lo ∨ hi < x) (ht : (pc : Int) + dflt = (tgt : Int)) (kk : gW k w tgt lv st) : gW k w pc lv (vI x :: st) := by
  obtain ⟨p, l, e, R, s, m, args, below, meth, c, cells, slots, Q, D, A, nL⟩ := k
  intro ls H locs hl hP hD hS
  have ex := iI_toInt hx
  exact lv_tableOut hC.1 hC.2.1 hd (by rw [ex]; exact h) ht (kk ls H locs hl hP hD hS)
end
theorem rr_ex {n ct ds : Int} {eE eB eL sZ dE dB dL mz lf rt bd : Int → Int} (h : RR n ct ds eE eB eL sZ dE dB dL mz lf rt bd) {t : Int} (k : exP n ct mz lf rt bd t) : exP n ct sZ eE eB eL t := by
  obtain ⟨k1, k2, k3⟩ := k
  refine ⟨k1, fun x x0 x1 g => k2 x x0 x1 ?_, ?_⟩
  · exact (exists_congr (rr_dom h (by omega))).mpr g
  · exact (exists_congr (rr_dom h (by omega))).mp k3
theorem eq_wd {v : Int → Int} {S S' : Int → Prop} {N x y c : Int} {A B : Prop} (hAB : A → B → False) (hS : S' = S) (h : (x = c ∧ A) ∨ (B ∧ mxP v S N x)) (k : (y = c ∧ A) ∨ (B ∧ mxP v S' N y)) : x = y := by
  subst hS
  rcases h with h | h <;> rcases k with k | k
  · exact h.1.trans k.1.symm
  · exact (hAB h.2 k.1).elim
  · exact (hAB k.2 h.1).elim
  · exact mx_un h.2 k.2
theorem eq_en {x y c d : Int} {P Q : Prop} (e : Q ↔ P) (h : (x = c ∧ d = 0) ∨ (d ≠ 0 ∧ isB x P)) (k : (y = c ∧ d = 0) ∨ (d ≠ 0 ∧ isB y Q)) : x = y := by
  rcases h with h | h <;> rcases k with k | k
  · exact h.1.trans k.1.symm
  · exact absurd h.2 k.1
  · exact absurd k.2 h.1
  · exact isB_un h.2 (isB_cg k.2 e)
end
section
/-! THE LAW: its cases -/
set_option maxRecDepth 100000
set_option maxHeartbeats 4000000 in
theorem law_c0 {oX oM : gO} {b Ls : Nat} {xs : Nat → Int32} {k : gK} {i : Int} {eE eB eL sZ dE dB dL sT mX tN mz lf rt bd : Int → Int} {n ct ds ac sb be : Int} (hC : gC k code RX0 [(oX.1, .int), (oM.1, .int)] 8 4) (hX : gX k b Ls xs) (hL : Ls ≤ 257) (hi : 1 ≤ i ∧ i + 3 < (Ls : Int)) (hR : RR n ct ds eE eB eL sZ dE dB dL mz lf rt bd) (back : ∀ (eE eB eL sZ dE dB dL sT mX tN mz lf rt bd : Int → Int) (n ct ds ac sb be : Int), RR n ct ds eE eB eL sZ dE dB dL mz lf rt bd → gW k (wX oX (eE, eB, eL, sZ, dE, dB, dL, sT, mX, tN, n, ct, ds, ac, -1, sb, be) ++ wM oM (mz, lf, rt, bd, n, p8 n, ds, ct)) 485 [(0, Value.ref b), (1, Value.ref oX.2.1), (2, Value.ref oM.2.1), (3, vI i)] []) : gW k (wX oX (eE, eB, eL, sZ, dE, dB, dL, sT, mX, tN, n, ct, ds, ac, -1, sb, be) ++ wM oM (mz, lf, rt, bd, n, p8 n, ds, ct)) 124 [(0, Value.ref b), (1, Value.ref oX.2.1), (2, Value.ref oM.2.1), (3, vI i)] [] := by
  refine g_aload_n hC dL_law_124 rfl 1 rfl ?_
  refine l_callX hC gi_X_events q87 (met_X_events _ _ oX _ _ _ _ _ _ _ _ _ _ _ _ _ _ _ _ _  hR.1.1) (by decide) rfl rfl (Nat.le_of_ble_eq_true rfl) dL_law_125 (fun z1 u1 r1 h1 => ?_)
  show gW k (wM oM (mz, lf, rt, bd, n, p8 n, ds, ct) ++ wX oX (eE, eB, eL, sZ, dE, dB, dL, sT, mX, tN, n, ct, ds, ac, -1, sb, be)) 128 [(0, Value.ref b), (1, Value.ref oX.2.1), (2, Value.ref oM.2.1), (3, vI i)] [vI z1]
  refine g_aload_n hC dL_law_128 rfl 2 rfl ?_
  refine l_callM hC gi_M_events q242 (met_M_events _ _ oM _ _ _ _ _ _ _ _  hR.1.1) (by decide) rfl rfl (Nat.le_of_ble_eq_true rfl) dL_law_129 (fun z2 u2 r2 h2 => ?_)
  show gW k (wX oX (eE, eB, eL, sZ, dE, dB, dL, sT, mX, tN, n, ct, ds, ac, -1, sb, be) ++ wM oM (mz, lf, rt, bd, n, p8 n, ds, ct)) 132 [(0, Value.ref b), (1, Value.ref oX.2.1), (2, Value.ref oM.2.1), (3, vI i)] [vI z2, vI z1]
  refine l_cmp hC 485 dL_law_132 (by decide) r1 r2 (h1.trans h2.symm) ?_
  exact back eE eB eL sZ dE dB dL sT mX tN mz lf rt bd n ct ds ac sb be (hR)
set_option maxHeartbeats 4000000 in
theorem law_c1 {oX oM : gO} {b Ls : Nat} {xs : Nat → Int32} {k : gK} {i : Int} {eE eB eL sZ dE dB dL sT mX tN mz lf rt bd : Int → Int} {n ct ds ac sb be : Int} (hC : gC k code RX0 [(oX.1, .int), (oM.1, .int)] 8 4) (hX : gX k b Ls xs) (hL : Ls ≤ 257) (hi : 1 ≤ i ∧ i + 3 < (Ls : Int)) (hR : RR n ct ds eE eB eL sZ dE dB dL mz lf rt bd) (back : ∀ (eE eB eL sZ dE dB dL sT mX tN mz lf rt bd : Int → Int) (n ct ds ac sb be : Int), RR n ct ds eE eB eL sZ dE dB dL mz lf rt bd → gW k (wX oX (eE, eB, eL, sZ, dE, dB, dL, sT, mX, tN, n, ct, ds, ac, -1, sb, be) ++ wM oM (mz, lf, rt, bd, n, p8 n, ds, ct)) 485 [(0, Value.ref b), (1, Value.ref oX.2.1), (2, Value.ref oM.2.1), (3, vI i)] []) : gW k (wX oX (eE, eB, eL, sZ, dE, dB, dL, sT, mX, tN, n, ct, ds, ac, -1, sb, be) ++ wM oM (mz, lf, rt, bd, n, p8 n, ds, ct)) 137 [(0, Value.ref b), (1, Value.ref oX.2.1), (2, Value.ref oM.2.1), (3, vI i)] [] := by
  refine g_aload_n hC dL_law_137 rfl 1 rfl ?_
  refine g_aload_n hC dL_law_138 rfl 0 rfl ?_
  refine g_iload_n hC dL_law_139 rfl 3 rfl ?_
  refine g_iconst hC dL_law_140 ?_
  refine g_iadd hC dL_law_141 ?_
  refine g_sld hC hX hL (by omega) dL_law_142 ?_
  refine g_aload_n hC dL_law_143 rfl 0 rfl ?_
  refine g_iload_n hC dL_law_144 rfl 3 rfl ?_
  refine g_iconst hC dL_law_145 ?_
  refine g_iadd hC dL_law_146 ?_
  refine g_sld hC hX hL (by omega) dL_law_147 ?_
  refine g_aload_n hC dL_law_148 rfl 0 rfl ?_
  refine g_iload_n hC dL_law_149 rfl 3 rfl ?_
  refine g_iconst hC dL_law_150 ?_
  refine g_iadd hC dL_law_151 ?_
  refine g_sld hC hX hL (by omega) dL_law_152 ?_
  refine l_callX hC gi_X_alternative q91 (met_X_alternative _ _ oX _ _ _ _ _ _ _ _ _ _ _ _ _ _ _ _ _ (sx xs (i + 1)) (sx xs (i + 2)) (sx xs (i + 3)) hR.1.1 (sx_rg _ _) (sx_rg _ _) (sx_rg _ _) hR.2.1) (by decide) rfl rfl (Nat.le_of_ble_eq_true rfl) dL_law_153 (fun z1 u1 r1 h1 => ?_)
  obtain ⟨dE1, dB1, dL1, ds1⟩ := u1
  show gW k (wM oM (mz, lf, rt, bd, n, p8 n, ds, ct) ++ wX oX (eE, eB, eL, sZ, dE1, dB1, dL1, sT, mX, tN, n, ct, ds1, ac, -1, sb, be)) 156 [(0, Value.ref b), (1, Value.ref oX.2.1), (2, Value.ref oM.2.1), (3, vI i)] [vI z1]
  refine g_aload_n hC dL_law_156 rfl 2 rfl ?_
  refine g_aload_n hC dL_law_157 rfl 0 rfl ?_
  refine g_iload_n hC dL_law_158 rfl 3 rfl ?_
  refine g_iconst hC dL_law_159 ?_
  refine g_iadd hC dL_law_160 ?_
  refine g_sld hC hX hL (by omega) dL_law_161 ?_
  refine g_aload_n hC dL_law_162 rfl 0 rfl ?_
  refine g_iload_n hC dL_law_163 rfl 3 rfl ?_
  refine g_iconst hC dL_law_164 ?_
  refine g_iadd hC dL_law_165 ?_
  refine g_sld hC hX hL (by omega) dL_law_166 ?_
  refine g_aload_n hC dL_law_167 rfl 0 rfl ?_
  refine g_iload_n hC dL_law_168 rfl 3 rfl ?_
  refine g_iconst hC dL_law_169 ?_
  refine g_iadd hC dL_law_170 ?_
  refine g_sld hC hX hL (by omega) dL_law_171 ?_
  refine l_callM hC gi_M_alternative q246 (met_M_alternative _ _ oM _ _ _ _ _ _ _ _ (sx xs (i + 1)) (sx xs (i + 2)) (sx xs (i + 3)) hR.1.1 (sx_rg _ _) (sx_rg _ _) (sx_rg _ _) hR.2.1 hR.2.2.2.1) (by decide) rfl rfl (Nat.le_of_ble_eq_true rfl) dL_law_172 (fun z2 u2 r2 h2 => ?_)
  obtain ⟨mz2, lf2, rt2, bd2, dr2⟩ := u2
  show gW k (wX oX (eE, eB, eL, sZ, dE1, dB1, dL1, sT, mX, tN, n, ct, ds1, ac, -1, sb, be) ++ wM oM (mz2, lf2, rt2, bd2, n, p8 n, dr2, ct)) 175 [(0, Value.ref b), (1, Value.ref oX.2.1), (2, Value.ref oM.2.1), (3, vI i)] [vI z2, vI z1]
  have hds := hR.2.1
  obtain ⟨f1, f2⟩ := h1
  obtain ⟨g1, g2⟩ := h2
  rcases f2 with ⟨a0, a1, a2, a3, a4⟩ | ⟨a0, a1, a2, a3, a4, a5⟩ <;> rcases g2 with ⟨b0, b1, b2, b3, b4, b5⟩ | ⟨b0, b1, b2, b3, b4, b5, b6⟩
  · rw [a1, a2, a3, a4, b1, b2, b3, b4, b5]
    refine l_cmp hC 485 dL_law_175 (by decide) r1 r2 (f1.trans g1.symm) ?_
    exact back eE eB eL sZ dE dB dL sT mX tN mz lf rt bd n ct ds ac sb be (hR)
  · omega
  · omega
  · rw [a2, b2]
    refine l_cmp hC 485 dL_law_175 (by decide) r1 r2 (f1.trans g1.symm) ?_
    exact back eE eB eL sZ dE1 dB1 dL1 sT mX tN mz2 lf2 rt2 bd2 n ct ((ds + 1)) ac sb be (rr_alt hR a1 a3 a4 a5 b3 b4 b5 b6)
set_option maxHeartbeats 4000000 in
theorem law_c2 {oX oM : gO} {b Ls : Nat} {xs : Nat → Int32} {k : gK} {i : Int} {eE eB eL sZ dE dB dL sT mX tN mz lf rt bd : Int → Int} {n ct ds ac sb be : Int} (hC : gC k code RX0 [(oX.1, .int), (oM.1, .int)] 8 4) (hX : gX k b Ls xs) (hL : Ls ≤ 257) (hi : 1 ≤ i ∧ i + 3 < (Ls : Int)) (hR : RR n ct ds eE eB eL sZ dE dB dL mz lf rt bd) (back : ∀ (eE eB eL sZ dE dB dL sT mX tN mz lf rt bd : Int → Int) (n ct ds ac sb be : Int), RR n ct ds eE eB eL sZ dE dB dL mz lf rt bd → gW k (wX oX (eE, eB, eL, sZ, dE, dB, dL, sT, mX, tN, n, ct, ds, ac, -1, sb, be) ++ wM oM (mz, lf, rt, bd, n, p8 n, ds, ct)) 485 [(0, Value.ref b), (1, Value.ref oX.2.1), (2, Value.ref oM.2.1), (3, vI i)] []) : gW k (wX oX (eE, eB, eL, sZ, dE, dB, dL, sT, mX, tN, n, ct, ds, ac, -1, sb, be) ++ wM oM (mz, lf, rt, bd, n, p8 n, ds, ct)) 180 [(0, Value.ref b), (1, Value.ref oX.2.1), (2, Value.ref oM.2.1), (3, vI i)] [] := by
  refine g_aload_n hC dL_law_180 rfl 1 rfl ?_
  refine l_callX hC gi_X_clear q99 (met_X_clear _ _ oX _ _ _ _ _ _ _ _ _ _ _ _ _ _ _ _ _  hR.2.1) (by decide) rfl rfl (Nat.le_of_ble_eq_true rfl) dL_law_181 (fun z1 u1 r1 h1 => ?_)
  obtain ⟨ds1, rfl⟩ : ∃ z, z = u1 := ⟨_, rfl⟩
  show gW k (wM oM (mz, lf, rt, bd, n, p8 n, ds, ct) ++ wX oX (eE, eB, eL, sZ, dE, dB, dL, sT, mX, tN, n, ct, ds1, ac, -1, sb, be)) 184 [(0, Value.ref b), (1, Value.ref oX.2.1), (2, Value.ref oM.2.1), (3, vI i)] [vI z1]
  refine g_aload_n hC dL_law_184 rfl 2 rfl ?_
  refine l_callM hC gi_M_clear q258 (met_M_clear _ _ oM _ _ _ _ _ _ _ _  hR.2.1) (by decide) rfl rfl (Nat.le_of_ble_eq_true rfl) dL_law_185 (fun z2 u2 r2 h2 => ?_)
  obtain ⟨mz2, dr2⟩ := u2
  show gW k (wX oX (eE, eB, eL, sZ, dE, dB, dL, sT, mX, tN, n, ct, ds1, ac, -1, sb, be) ++ wM oM (mz2, lf, rt, bd, n, p8 n, dr2, ct)) 188 [(0, Value.ref b), (1, Value.ref oX.2.1), (2, Value.ref oM.2.1), (3, vI i)] [vI z2, vI z1]
  obtain ⟨f1, f2⟩ := h1
  obtain ⟨g1, g2, g3⟩ := h2
  rw [f2, g3]
  refine l_cmp hC 485 dL_law_188 (by decide) r1 r2 (f1.trans g1.symm) ?_
  exact back eE eB eL sZ dE dB dL sT mX tN mz2 lf rt bd n ct 0 ac sb be (rr_clear hR g2)
set_option maxHeartbeats 4000000 in
theorem law_c3 {oX oM : gO} {b Ls : Nat} {xs : Nat → Int32} {k : gK} {i : Int} {eE eB eL sZ dE dB dL sT mX tN mz lf rt bd : Int → Int} {n ct ds ac sb be : Int} (hC : gC k code RX0 [(oX.1, .int), (oM.1, .int)] 8 4) (hX : gX k b Ls xs) (hL : Ls ≤ 257) (hi : 1 ≤ i ∧ i + 3 < (Ls : Int)) (hR : RR n ct ds eE eB eL sZ dE dB dL mz lf rt bd) (back : ∀ (eE eB eL sZ dE dB dL sT mX tN mz lf rt bd : Int → Int) (n ct ds ac sb be : Int), RR n ct ds eE eB eL sZ dE dB dL mz lf rt bd → gW k (wX oX (eE, eB, eL, sZ, dE, dB, dL, sT, mX, tN, n, ct, ds, ac, -1, sb, be) ++ wM oM (mz, lf, rt, bd, n, p8 n, ds, ct)) 485 [(0, Value.ref b), (1, Value.ref oX.2.1), (2, Value.ref oM.2.1), (3, vI i)] []) : gW k (wX oX (eE, eB, eL, sZ, dE, dB, dL, sT, mX, tN, n, ct, ds, ac, -1, sb, be) ++ wM oM (mz, lf, rt, bd, n, p8 n, ds, ct)) 193 [(0, Value.ref b), (1, Value.ref oX.2.1), (2, Value.ref oM.2.1), (3, vI i)] [] := by
  refine g_aload_n hC dL_law_193 rfl 1 rfl ?_
  refine l_callX hC gi_X_add q103 (met_X_add _ _ oX _ _ _ _ _ _ _ _ _ _ _ _ _ _ _ _ _  hR.2.1 hR.1.2.1) (by decide) rfl rfl (Nat.le_of_ble_eq_true rfl) dL_law_194 (fun z1 u1 r1 h1 => ?_)
  obtain ⟨eE1, eB1, eL1, sZ1, ds1, ct1⟩ := u1
  show gW k (wM oM (mz, lf, rt, bd, n, p8 n, ds, ct) ++ wX oX (eE1, eB1, eL1, sZ1, dE, dB, dL, sT, mX, tN, n, ct1, ds1, ac, -1, sb, be)) 197 [(0, Value.ref b), (1, Value.ref oX.2.1), (2, Value.ref oM.2.1), (3, vI i)] [vI z1]
  refine g_aload_n hC dL_law_197 rfl 2 rfl ?_
  refine l_callM hC gi_M_add q262 (met_M_add _ _ oM _ _ _ _ _ _ _ _  hR.2.1 hR.1.2.1) (by decide) rfl rfl (Nat.le_of_ble_eq_true rfl) dL_law_198 (fun z2 u2 r2 h2 => ?_)
  obtain ⟨mz2, lf2, rt2, bd2, dr2, mct2⟩ := u2
  show gW k (wX oX (eE1, eB1, eL1, sZ1, dE, dB, dL, sT, mX, tN, n, ct1, ds1, ac, -1, sb, be) ++ wM oM (mz2, lf2, rt2, bd2, n, p8 n, dr2, mct2)) 201 [(0, Value.ref b), (1, Value.ref oX.2.1), (2, Value.ref oM.2.1), (3, vI i)] [vI z2, vI z1]
  rcases h1 with ⟨a0, a1, a2, a3, a4, a5, a6, a7⟩ | ⟨a0, a1, a2, a3, a4, a5, a6, a7, a8⟩ <;> rcases h2 with ⟨b0, b1, b2, b3, b4, b5, b6, b7⟩ | ⟨b0, b1, b2, b3, b4, b5, b6, b7, b8⟩
  · rw [a2, a3, a4, a5, a6, a7, b2, b3, b4, b5, b6, b7]
    refine l_cmp hC 485 dL_law_201 (by decide) r1 r2 (a0.trans b0.symm) ?_
    exact back eE eB eL sZ dE dB dL sT mX tN mz lf rt bd n ct ds ac sb be (hR)
  · omega
  · omega
  · rw [a7, a8, b7, b8]
    refine l_cmp hC 485 dL_law_201 (by decide) r1 r2 (a0.trans b0.symm) ?_
    exact back eE1 eB1 eL1 sZ1 dE dB dL sT mX tN mz2 lf2 rt2 bd2 n ((ct + 1)) 0 ac sb be (rr_add hR a1 a2 a3 a4 a5 a6 b3 b4 b5 b6)
set_option maxHeartbeats 4000000 in
theorem law_c4 {oX oM : gO} {b Ls : Nat} {xs : Nat → Int32} {k : gK} {i : Int} {eE eB eL sZ dE dB dL sT mX tN mz lf rt bd : Int → Int} {n ct ds ac sb be : Int} (hC : gC k code RX0 [(oX.1, .int), (oM.1, .int)] 8 4) (hX : gX k b Ls xs) (hL : Ls ≤ 257) (hi : 1 ≤ i ∧ i + 3 < (Ls : Int)) (hR : RR n ct ds eE eB eL sZ dE dB dL mz lf rt bd) (back : ∀ (eE eB eL sZ dE dB dL sT mX tN mz lf rt bd : Int → Int) (n ct ds ac sb be : Int), RR n ct ds eE eB eL sZ dE dB dL mz lf rt bd → gW k (wX oX (eE, eB, eL, sZ, dE, dB, dL, sT, mX, tN, n, ct, ds, ac, -1, sb, be) ++ wM oM (mz, lf, rt, bd, n, p8 n, ds, ct)) 485 [(0, Value.ref b), (1, Value.ref oX.2.1), (2, Value.ref oM.2.1), (3, vI i)] []) : gW k (wX oX (eE, eB, eL, sZ, dE, dB, dL, sT, mX, tN, n, ct, ds, ac, -1, sb, be) ++ wM oM (mz, lf, rt, bd, n, p8 n, ds, ct)) 206 [(0, Value.ref b), (1, Value.ref oX.2.1), (2, Value.ref oM.2.1), (3, vI i)] [] := by
  refine g_aload_n hC dL_law_206 rfl 1 rfl ?_
  refine g_aload_n hC dL_law_207 rfl 0 rfl ?_
  refine g_iload_n hC dL_law_208 rfl 3 rfl ?_
  refine g_iconst hC dL_law_209 ?_
  refine g_iadd hC dL_law_210 ?_
  refine g_sld hC hX hL (by omega) dL_law_211 ?_
  refine g_aload_n hC dL_law_212 rfl 0 rfl ?_
  refine g_iload_n hC dL_law_213 rfl 3 rfl ?_
  refine g_iconst hC dL_law_214 ?_
  refine g_iadd hC dL_law_215 ?_
  refine g_sld hC hX hL (by omega) dL_law_216 ?_
  refine g_aload_n hC dL_law_217 rfl 0 rfl ?_
  refine g_iload_n hC dL_law_218 rfl 3 rfl ?_
  refine g_iconst hC dL_law_219 ?_
  refine g_iadd hC dL_law_220 ?_
  refine g_sld hC hX hL (by omega) dL_law_221 ?_
  refine l_callX hC gi_X_apart q111 (met_X_apart _ _ oX _ _ _ _ _ _ _ _ _ _ _ _ _ _ _ _ _ (sx xs (i + 1)) (sx xs (i + 2)) (sx xs (i + 3)) hR.1.1 (sx_rg _ _) (sx_rg _ _) (sx_rg _ _) hR.1.2.1) (by decide) rfl rfl (Nat.le_of_ble_eq_true rfl) dL_law_222 (fun z1 u1 r1 h1 => ?_)
  obtain ⟨sZ1, eE1, eB1, eL1, ct1⟩ := u1
  show gW k (wM oM (mz, lf, rt, bd, n, p8 n, ds, ct) ++ wX oX (eE1, eB1, eL1, sZ1, dE, dB, dL, sT, mX, tN, n, ct1, ds, ac, -1, sb, be)) 225 [(0, Value.ref b), (1, Value.ref oX.2.1), (2, Value.ref oM.2.1), (3, vI i)] [vI z1]
  refine g_aload_n hC dL_law_225 rfl 2 rfl ?_
  refine g_aload_n hC dL_law_226 rfl 0 rfl ?_
  refine g_iload_n hC dL_law_227 rfl 3 rfl ?_
  refine g_iconst hC dL_law_228 ?_
  refine g_iadd hC dL_law_229 ?_
  refine g_sld hC hX hL (by omega) dL_law_230 ?_
  refine g_aload_n hC dL_law_231 rfl 0 rfl ?_
  refine g_iload_n hC dL_law_232 rfl 3 rfl ?_
  refine g_iconst hC dL_law_233 ?_
  refine g_iadd hC dL_law_234 ?_
  refine g_sld hC hX hL (by omega) dL_law_235 ?_
  refine g_aload_n hC dL_law_236 rfl 0 rfl ?_
  refine g_iload_n hC dL_law_237 rfl 3 rfl ?_
  refine g_iconst hC dL_law_238 ?_
  refine g_iadd hC dL_law_239 ?_
  refine g_sld hC hX hL (by omega) dL_law_240 ?_
  refine l_callM hC gi_M_apart q270 (met_M_apart _ _ oM _ _ _ _ _ _ _ _ (sx xs (i + 1)) (sx xs (i + 2)) (sx xs (i + 3)) hR.1.1 (sx_rg _ _) (sx_rg _ _) (sx_rg _ _) hR.1.2.1) (by decide) rfl rfl (Nat.le_of_ble_eq_true rfl) dL_law_241 (fun z2 u2 r2 h2 => ?_)
  obtain ⟨mz2, lf2, rt2, bd2, mct2⟩ := u2
  show gW k (wX oX (eE1, eB1, eL1, sZ1, dE, dB, dL, sT, mX, tN, n, ct1, ds, ac, -1, sb, be) ++ wM oM (mz2, lf2, rt2, bd2, n, p8 n, ds, mct2)) 244 [(0, Value.ref b), (1, Value.ref oX.2.1), (2, Value.ref oM.2.1), (3, vI i)] [vI z2, vI z1]
  obtain ⟨f1, f2⟩ := h1
  obtain ⟨g1, g2⟩ := h2
  have hct := hR.1.2.1
  rcases f2 with ⟨a0, a1, a2, a3, a4, a5⟩ | ⟨a0, a1, a2⟩ <;> rcases g2 with ⟨b0, b1, b2, b3, b4, b5⟩ | ⟨b0, b1, b2⟩
  · rw [a1, a2, a3, a4, a5, b1, b2, b3, b4, b5]
    refine l_cmp hC 485 dL_law_244 (by decide) r1 r2 (f1.trans g1.symm) ?_
    exact back eE eB eL sZ dE dB dL sT mX tN mz lf rt bd n ct ds ac sb be (hR)
  · omega
  · omega
  · rw [a1, b1]
    refine l_cmp hC 485 dL_law_244 (by decide) r1 r2 (f1.trans g1.symm) ?_
    exact back eE1 eB1 eL1 sZ1 dE dB dL sT mX tN mz2 lf2 rt2 bd2 n ((ct + 3)) ds ac sb be (rr_ap hR a2 b2)
set_option maxHeartbeats 4000000 in
theorem law_c5 {oX oM : gO} {b Ls : Nat} {xs : Nat → Int32} {k : gK} {i : Int} {eE eB eL sZ dE dB dL sT mX tN mz lf rt bd : Int → Int} {n ct ds ac sb be : Int} (hC : gC k code RX0 [(oX.1, .int), (oM.1, .int)] 8 4) (hX : gX k b Ls xs) (hL : Ls ≤ 257) (hi : 1 ≤ i ∧ i + 3 < (Ls : Int)) (hR : RR n ct ds eE eB eL sZ dE dB dL mz lf rt bd) (back : ∀ (eE eB eL sZ dE dB dL sT mX tN mz lf rt bd : Int → Int) (n ct ds ac sb be : Int), RR n ct ds eE eB eL sZ dE dB dL mz lf rt bd → gW k (wX oX (eE, eB, eL, sZ, dE, dB, dL, sT, mX, tN, n, ct, ds, ac, -1, sb, be) ++ wM oM (mz, lf, rt, bd, n, p8 n, ds, ct)) 485 [(0, Value.ref b), (1, Value.ref oX.2.1), (2, Value.ref oM.2.1), (3, vI i)] []) : gW k (wX oX (eE, eB, eL, sZ, dE, dB, dL, sT, mX, tN, n, ct, ds, ac, -1, sb, be) ++ wM oM (mz, lf, rt, bd, n, p8 n, ds, ct)) 249 [(0, Value.ref b), (1, Value.ref oX.2.1), (2, Value.ref oM.2.1), (3, vI i)] [] := by
  refine g_aload_n hC dL_law_249 rfl 1 rfl ?_
  refine g_aload_n hC dL_law_250 rfl 0 rfl ?_
  refine g_iload_n hC dL_law_251 rfl 3 rfl ?_
  refine g_iconst hC dL_law_252 ?_
  refine g_iadd hC dL_law_253 ?_
  refine g_sld hC hX hL (by omega) dL_law_254 ?_
  refine l_callX hC gi_X_remove q119 (met_X_remove _ _ oX _ _ _ _ _ _ _ _ _ _ _ _ _ _ _ _ _ (sx xs (i + 1)) (sx_rg _ _) hR.1.2.1) (by decide) rfl rfl (Nat.le_of_ble_eq_true rfl) dL_law_255 (fun z1 u1 r1 h1 => ?_)
  obtain ⟨sZ1, eE1, eB1, eL1, ct1⟩ := u1
  show gW k (wM oM (mz, lf, rt, bd, n, p8 n, ds, ct) ++ wX oX (eE1, eB1, eL1, sZ1, dE, dB, dL, sT, mX, tN, n, ct1, ds, ac, -1, sb, be)) 258 [(0, Value.ref b), (1, Value.ref oX.2.1), (2, Value.ref oM.2.1), (3, vI i)] [vI z1]
  refine g_aload_n hC dL_law_258 rfl 2 rfl ?_
  refine g_aload_n hC dL_law_259 rfl 0 rfl ?_
  refine g_iload_n hC dL_law_260 rfl 3 rfl ?_
  refine g_iconst hC dL_law_261 ?_
  refine g_iadd hC dL_law_262 ?_
  refine g_sld hC hX hL (by omega) dL_law_263 ?_
  refine l_callM hC gi_M_remove q278 (met_M_remove _ _ oM _ _ _ _ _ _ _ _ (sx xs (i + 1)) (sx_rg _ _) hR.1.2.1) (by decide) rfl rfl (Nat.le_of_ble_eq_true rfl) dL_law_264 (fun z2 u2 r2 h2 => ?_)
  obtain ⟨mz2, lf2, rt2, bd2, mct2⟩ := u2
  show gW k (wX oX (eE1, eB1, eL1, sZ1, dE, dB, dL, sT, mX, tN, n, ct1, ds, ac, -1, sb, be) ++ wM oM (mz2, lf2, rt2, bd2, n, p8 n, ds, mct2)) 267 [(0, Value.ref b), (1, Value.ref oX.2.1), (2, Value.ref oM.2.1), (3, vI i)] [vI z2, vI z1]
  rcases h1 with ⟨a0, a1, a2, a3, a4, a5, a6⟩ | ⟨a0, a1, a2, a3, a4, a5, a6⟩ <;> rcases h2 with ⟨b0, b1, b2, b3, b4, b5, b6⟩ | ⟨b0, b1, b2, b3, b4, b5, b6⟩
  · rw [a2, a3, a4, a5, a6, b2, b3, b4, b5, b6]
    refine l_cmp hC 485 dL_law_267 (by decide) r1 r2 (a0.trans b0.symm) ?_
    exact back eE eB eL sZ dE dB dL sT mX tN mz lf rt bd n ct ds ac sb be (hR)
  · exact absurd b1 a1
  · exact absurd a1 b1
  · rw [a6, b6]
    refine l_cmp hC 485 dL_law_267 (by decide) r1 r2 (a0.trans b0.symm) ?_
    exact back eE1 eB1 eL1 sZ1 dE dB dL sT mX tN mz2 lf2 rt2 bd2 n ((ct - 1)) ds ac sb be (rr_rem hR a1 a2 a3 a4 a5 b2 b3 b4 b5)
set_option maxHeartbeats 4000000 in
theorem law_c6 {oX oM : gO} {b Ls : Nat} {xs : Nat → Int32} {k : gK} {i : Int} {eE eB eL sZ dE dB dL sT mX tN mz lf rt bd : Int → Int} {n ct ds ac sb be : Int} (hC : gC k code RX0 [(oX.1, .int), (oM.1, .int)] 8 4) (hX : gX k b Ls xs) (hL : Ls ≤ 257) (hi : 1 ≤ i ∧ i + 3 < (Ls : Int)) (hR : RR n ct ds eE eB eL sZ dE dB dL mz lf rt bd) (back : ∀ (eE eB eL sZ dE dB dL sT mX tN mz lf rt bd : Int → Int) (n ct ds ac sb be : Int), RR n ct ds eE eB eL sZ dE dB dL mz lf rt bd → gW k (wX oX (eE, eB, eL, sZ, dE, dB, dL, sT, mX, tN, n, ct, ds, ac, -1, sb, be) ++ wM oM (mz, lf, rt, bd, n, p8 n, ds, ct)) 485 [(0, Value.ref b), (1, Value.ref oX.2.1), (2, Value.ref oM.2.1), (3, vI i)] []) : gW k (wX oX (eE, eB, eL, sZ, dE, dB, dL, sT, mX, tN, n, ct, ds, ac, -1, sb, be) ++ wM oM (mz, lf, rt, bd, n, p8 n, ds, ct)) 272 [(0, Value.ref b), (1, Value.ref oX.2.1), (2, Value.ref oM.2.1), (3, vI i)] [] := by
  refine g_aload_n hC dL_law_272 rfl 1 rfl ?_
  refine l_callX hC gi_X_size q127 (met_X_size _ _ oX _ _ _ _ _ _ _ _ _ _ _ _ _ _ _ _ _  hR.1.2.1) (by decide) rfl rfl (Nat.le_of_ble_eq_true rfl) dL_law_273 (fun z1 u1 r1 h1 => ?_)
  show gW k (wM oM (mz, lf, rt, bd, n, p8 n, ds, ct) ++ wX oX (eE, eB, eL, sZ, dE, dB, dL, sT, mX, tN, n, ct, ds, ac, -1, sb, be)) 276 [(0, Value.ref b), (1, Value.ref oX.2.1), (2, Value.ref oM.2.1), (3, vI i)] [vI z1]
  refine g_aload_n hC dL_law_276 rfl 2 rfl ?_
  refine l_callM hC gi_M_size q282 (met_M_size _ _ oM _ _ _ _ _ _ _ _  hR.1.2.1) (by decide) rfl rfl (Nat.le_of_ble_eq_true rfl) dL_law_277 (fun z2 u2 r2 h2 => ?_)
  show gW k (wX oX (eE, eB, eL, sZ, dE, dB, dL, sT, mX, tN, n, ct, ds, ac, -1, sb, be) ++ wM oM (mz, lf, rt, bd, n, p8 n, ds, ct)) 280 [(0, Value.ref b), (1, Value.ref oX.2.1), (2, Value.ref oM.2.1), (3, vI i)] [vI z2, vI z1]
  refine l_cmp hC 485 dL_law_280 (by decide) r1 r2 (h1.trans h2.symm) ?_
  exact back eE eB eL sZ dE dB dL sT mX tN mz lf rt bd n ct ds ac sb be (hR)
set_option maxHeartbeats 4000000 in
theorem law_c7 {oX oM : gO} {b Ls : Nat} {xs : Nat → Int32} {k : gK} {i : Int} {eE eB eL sZ dE dB dL sT mX tN mz lf rt bd : Int → Int} {n ct ds ac sb be : Int} (hC : gC k code RX0 [(oX.1, .int), (oM.1, .int)] 8 4) (hX : gX k b Ls xs) (hL : Ls ≤ 257) (hi : 1 ≤ i ∧ i + 3 < (Ls : Int)) (hR : RR n ct ds eE eB eL sZ dE dB dL mz lf rt bd) (back : ∀ (eE eB eL sZ dE dB dL sT mX tN mz lf rt bd : Int → Int) (n ct ds ac sb be : Int), RR n ct ds eE eB eL sZ dE dB dL mz lf rt bd → gW k (wX oX (eE, eB, eL, sZ, dE, dB, dL, sT, mX, tN, n, ct, ds, ac, -1, sb, be) ++ wM oM (mz, lf, rt, bd, n, p8 n, ds, ct)) 485 [(0, Value.ref b), (1, Value.ref oX.2.1), (2, Value.ref oM.2.1), (3, vI i)] []) : gW k (wX oX (eE, eB, eL, sZ, dE, dB, dL, sT, mX, tN, n, ct, ds, ac, -1, sb, be) ++ wM oM (mz, lf, rt, bd, n, p8 n, ds, ct)) 285 [(0, Value.ref b), (1, Value.ref oX.2.1), (2, Value.ref oM.2.1), (3, vI i)] [] := by
  refine g_aload_n hC dL_law_285 rfl 1 rfl ?_
  refine l_callX hC gi_X_solvable q131 (met_X_solvable _ _ oX _ _ _ _ _ _ _ _ _ _ _ _ _ _ _ _ _  hR.1 rfl) (by decide) rfl rfl (Nat.le_of_ble_eq_true rfl) dL_law_286 (fun z1 u1 r1 h1 => ?_)
  obtain ⟨sT1, sb1, mX1, tN1, ac1, be1⟩ := u1
  show gW k (wM oM (mz, lf, rt, bd, n, p8 n, ds, ct) ++ wX oX (eE, eB, eL, sZ, dE, dB, dL, sT1, mX1, tN1, n, ct, ds, ac1, -1, sb1, be1)) 289 [(0, Value.ref b), (1, Value.ref oX.2.1), (2, Value.ref oM.2.1), (3, vI i)] [vI z1]
  refine g_aload_n hC dL_law_289 rfl 2 rfl ?_
  refine l_callM hC gi_M_solvable q286 (met_M_solvable _ _ oM _ _ _ _ _ _ _ _  (rr_okM hR) rfl) (by decide) rfl rfl (Nat.le_of_ble_eq_true rfl) dL_law_290 (fun z2 u2 r2 h2 => ?_)
  show gW k (wX oX (eE, eB, eL, sZ, dE, dB, dL, sT1, mX1, tN1, n, ct, ds, ac1, -1, sb1, be1) ++ wM oM (mz, lf, rt, bd, n, p8 n, ds, ct)) 293 [(0, Value.ref b), (1, Value.ref oX.2.1), (2, Value.ref oM.2.1), (3, vI i)] [vI z2, vI z1]
  refine l_cmp hC 485 dL_law_293 (by decide) r1 r2 (isB_un h1 (isB_cg h2 (exists_congr (rr_dom hR (Int.le_refl _))))) ?_
  exact back eE eB eL sZ dE dB dL sT1 mX1 tN1 mz lf rt bd n ct ds ac1 sb1 be1 (hR)
set_option maxHeartbeats 4000000 in
theorem law_c8 {oX oM : gO} {b Ls : Nat} {xs : Nat → Int32} {k : gK} {i : Int} {eE eB eL sZ dE dB dL sT mX tN mz lf rt bd : Int → Int} {n ct ds ac sb be : Int} (hC : gC k code RX0 [(oX.1, .int), (oM.1, .int)] 8 4) (hX : gX k b Ls xs) (hL : Ls ≤ 257) (hi : 1 ≤ i ∧ i + 3 < (Ls : Int)) (hR : RR n ct ds eE eB eL sZ dE dB dL mz lf rt bd) (back : ∀ (eE eB eL sZ dE dB dL sT mX tN mz lf rt bd : Int → Int) (n ct ds ac sb be : Int), RR n ct ds eE eB eL sZ dE dB dL mz lf rt bd → gW k (wX oX (eE, eB, eL, sZ, dE, dB, dL, sT, mX, tN, n, ct, ds, ac, -1, sb, be) ++ wM oM (mz, lf, rt, bd, n, p8 n, ds, ct)) 485 [(0, Value.ref b), (1, Value.ref oX.2.1), (2, Value.ref oM.2.1), (3, vI i)] []) : gW k (wX oX (eE, eB, eL, sZ, dE, dB, dL, sT, mX, tN, n, ct, ds, ac, -1, sb, be) ++ wM oM (mz, lf, rt, bd, n, p8 n, ds, ct)) 298 [(0, Value.ref b), (1, Value.ref oX.2.1), (2, Value.ref oM.2.1), (3, vI i)] [] := by
  refine g_aload_n hC dL_law_298 rfl 1 rfl ?_
  refine g_aload_n hC dL_law_299 rfl 0 rfl ?_
  refine g_iload_n hC dL_law_300 rfl 3 rfl ?_
  refine g_iconst hC dL_law_301 ?_
  refine g_iadd hC dL_law_302 ?_
  refine g_sld hC hX hL (by omega) dL_law_303 ?_
  refine l_callX hC gi_X_earliest q160 (met_X_earliest _ _ oX _ _ _ _ _ _ _ _ _ _ _ _ _ _ _ _ _ (sx xs (i + 1)) hR.1 rfl (sx_rg _ _)) (by decide) rfl rfl (Nat.le_of_ble_eq_true rfl) dL_law_304 (fun z1 u1 r1 h1 => ?_)
  obtain ⟨sT1, sb1, mX1, tN1, ac1, be1⟩ := u1
  show gW k (wM oM (mz, lf, rt, bd, n, p8 n, ds, ct) ++ wX oX (eE, eB, eL, sZ, dE, dB, dL, sT1, mX1, tN1, n, ct, ds, ac1, -1, sb1, be1)) 307 [(0, Value.ref b), (1, Value.ref oX.2.1), (2, Value.ref oM.2.1), (3, vI i)] [vI z1]
  refine g_aload_n hC dL_law_307 rfl 2 rfl ?_
  refine g_aload_n hC dL_law_308 rfl 0 rfl ?_
  refine g_iload_n hC dL_law_309 rfl 3 rfl ?_
  refine g_iconst hC dL_law_310 ?_
  refine g_iadd hC dL_law_311 ?_
  refine g_sld hC hX hL (by omega) dL_law_312 ?_
  refine l_callM hC gi_M_earliest q306 (met_M_earliest _ _ oM _ _ _ _ _ _ _ _ (sx xs (i + 1)) (rr_okM hR) rfl (sx_rg _ _)) (by decide) rfl rfl (Nat.le_of_ble_eq_true rfl) dL_law_313 (fun z2 u2 r2 h2 => ?_)
  show gW k (wX oX (eE, eB, eL, sZ, dE, dB, dL, sT1, mX1, tN1, n, ct, ds, ac1, -1, sb1, be1) ++ wM oM (mz, lf, rt, bd, n, p8 n, ds, ct)) 316 [(0, Value.ref b), (1, Value.ref oX.2.1), (2, Value.ref oM.2.1), (3, vI i)] [vI z2, vI z1]
  refine l_cmp hC 485 dL_law_316 (by decide) r1 r2 (eq_el (rr_S hR (Int.le_refl _)) h1 h2) ?_
  exact back eE eB eL sZ dE dB dL sT1 mX1 tN1 mz lf rt bd n ct ds ac1 sb1 be1 (hR)
end
section
/-! THE LAW: its cases -/
set_option maxRecDepth 100000
set_option maxHeartbeats 4000000 in
theorem law_c9 {oX oM : gO} {b Ls : Nat} {xs : Nat → Int32} {k : gK} {i : Int} {eE eB eL sZ dE dB dL sT mX tN mz lf rt bd : Int → Int} {n ct ds ac sb be : Int} (hC : gC k code RX0 [(oX.1, .int), (oM.1, .int)] 8 4) (hX : gX k b Ls xs) (hL : Ls ≤ 257) (hi : 1 ≤ i ∧ i + 3 < (Ls : Int)) (hR : RR n ct ds eE eB eL sZ dE dB dL mz lf rt bd) (back : ∀ (eE eB eL sZ dE dB dL sT mX tN mz lf rt bd : Int → Int) (n ct ds ac sb be : Int), RR n ct ds eE eB eL sZ dE dB dL mz lf rt bd → gW k (wX oX (eE, eB, eL, sZ, dE, dB, dL, sT, mX, tN, n, ct, ds, ac, -1, sb, be) ++ wM oM (mz, lf, rt, bd, n, p8 n, ds, ct)) 485 [(0, Value.ref b), (1, Value.ref oX.2.1), (2, Value.ref oM.2.1), (3, vI i)] []) : gW k (wX oX (eE, eB, eL, sZ, dE, dB, dL, sT, mX, tN, n, ct, ds, ac, -1, sb, be) ++ wM oM (mz, lf, rt, bd, n, p8 n, ds, ct)) 321 [(0, Value.ref b), (1, Value.ref oX.2.1), (2, Value.ref oM.2.1), (3, vI i)] [] := by
  refine g_aload_n hC dL_law_321 rfl 1 rfl ?_
  refine g_aload_n hC dL_law_322 rfl 0 rfl ?_
  refine g_iload_n hC dL_law_323 rfl 3 rfl ?_
  refine g_iconst hC dL_law_324 ?_
  refine g_iadd hC dL_law_325 ?_
  refine g_sld hC hX hL (by omega) dL_law_326 ?_
  refine l_callX hC gi_X_latest q164 (met_X_latest _ _ oX _ _ _ _ _ _ _ _ _ _ _ _ _ _ _ _ _ (sx xs (i + 1)) hR.1 rfl (sx_rg _ _)) (by decide) rfl rfl (Nat.le_of_ble_eq_true rfl) dL_law_327 (fun z1 u1 r1 h1 => ?_)
  obtain ⟨sT1, sb1, mX1, tN1, ac1, be1⟩ := u1
  show gW k (wM oM (mz, lf, rt, bd, n, p8 n, ds, ct) ++ wX oX (eE, eB, eL, sZ, dE, dB, dL, sT1, mX1, tN1, n, ct, ds, ac1, -1, sb1, be1)) 330 [(0, Value.ref b), (1, Value.ref oX.2.1), (2, Value.ref oM.2.1), (3, vI i)] [vI z1]
  refine g_aload_n hC dL_law_330 rfl 2 rfl ?_
  refine g_aload_n hC dL_law_331 rfl 0 rfl ?_
  refine g_iload_n hC dL_law_332 rfl 3 rfl ?_
  refine g_iconst hC dL_law_333 ?_
  refine g_iadd hC dL_law_334 ?_
  refine g_sld hC hX hL (by omega) dL_law_335 ?_
  refine l_callM hC gi_M_latest q318 (met_M_latest _ _ oM _ _ _ _ _ _ _ _ (sx xs (i + 1)) (rr_okM hR) rfl (sx_rg _ _)) (by decide) rfl rfl (Nat.le_of_ble_eq_true rfl) dL_law_336 (fun z2 u2 r2 h2 => ?_)
  show gW k (wX oX (eE, eB, eL, sZ, dE, dB, dL, sT1, mX1, tN1, n, ct, ds, ac1, -1, sb1, be1) ++ wM oM (mz, lf, rt, bd, n, p8 n, ds, ct)) 339 [(0, Value.ref b), (1, Value.ref oX.2.1), (2, Value.ref oM.2.1), (3, vI i)] [vI z2, vI z1]
  refine l_cmp hC 485 dL_law_339 (by decide) r1 r2 (eq_el (rr_S hR (Int.le_refl _)) h1 h2) ?_
  exact back eE eB eL sZ dE dB dL sT1 mX1 tN1 mz lf rt bd n ct ds ac1 sb1 be1 (hR)
set_option maxHeartbeats 4000000 in
theorem law_c10 {oX oM : gO} {b Ls : Nat} {xs : Nat → Int32} {k : gK} {i : Int} {eE eB eL sZ dE dB dL sT mX tN mz lf rt bd : Int → Int} {n ct ds ac sb be : Int} (hC : gC k code RX0 [(oX.1, .int), (oM.1, .int)] 8 4) (hX : gX k b Ls xs) (hL : Ls ≤ 257) (hi : 1 ≤ i ∧ i + 3 < (Ls : Int)) (hR : RR n ct ds eE eB eL sZ dE dB dL mz lf rt bd) (back : ∀ (eE eB eL sZ dE dB dL sT mX tN mz lf rt bd : Int → Int) (n ct ds ac sb be : Int), RR n ct ds eE eB eL sZ dE dB dL mz lf rt bd → gW k (wX oX (eE, eB, eL, sZ, dE, dB, dL, sT, mX, tN, n, ct, ds, ac, -1, sb, be) ++ wM oM (mz, lf, rt, bd, n, p8 n, ds, ct)) 485 [(0, Value.ref b), (1, Value.ref oX.2.1), (2, Value.ref oM.2.1), (3, vI i)] []) : gW k (wX oX (eE, eB, eL, sZ, dE, dB, dL, sT, mX, tN, n, ct, ds, ac, -1, sb, be) ++ wM oM (mz, lf, rt, bd, n, p8 n, ds, ct)) 344 [(0, Value.ref b), (1, Value.ref oX.2.1), (2, Value.ref oM.2.1), (3, vI i)] [] := by
  refine g_aload_n hC dL_law_344 rfl 1 rfl ?_
  refine g_aload_n hC dL_law_345 rfl 0 rfl ?_
  refine g_iload_n hC dL_law_346 rfl 3 rfl ?_
  refine g_iconst hC dL_law_347 ?_
  refine g_iadd hC dL_law_348 ?_
  refine g_sld hC hX hL (by omega) dL_law_349 ?_
  refine g_aload_n hC dL_law_350 rfl 0 rfl ?_
  refine g_iload_n hC dL_law_351 rfl 3 rfl ?_
  refine g_iconst hC dL_law_352 ?_
  refine g_iadd hC dL_law_353 ?_
  refine g_sld hC hX hL (by omega) dL_law_354 ?_
  refine l_callX hC gi_X_widest q168 (met_X_widest _ _ oX _ _ _ _ _ _ _ _ _ _ _ _ _ _ _ _ _ (sx xs (i + 1)) (sx xs (i + 2)) hR.1 rfl (sx_rg _ _) (sx_rg _ _)) (by decide) rfl rfl (Nat.le_of_ble_eq_true rfl) dL_law_355 (fun z1 u1 r1 h1 => ?_)
  obtain ⟨sT1, sb1, mX1, tN1, ac1, be1⟩ := u1
  show gW k (wM oM (mz, lf, rt, bd, n, p8 n, ds, ct) ++ wX oX (eE, eB, eL, sZ, dE, dB, dL, sT1, mX1, tN1, n, ct, ds, ac1, -1, sb1, be1)) 358 [(0, Value.ref b), (1, Value.ref oX.2.1), (2, Value.ref oM.2.1), (3, vI i)] [vI z1]
  refine g_aload_n hC dL_law_358 rfl 2 rfl ?_
  refine g_aload_n hC dL_law_359 rfl 0 rfl ?_
  refine g_iload_n hC dL_law_360 rfl 3 rfl ?_
  refine g_iconst hC dL_law_361 ?_
  refine g_iadd hC dL_law_362 ?_
  refine g_sld hC hX hL (by omega) dL_law_363 ?_
  refine g_aload_n hC dL_law_364 rfl 0 rfl ?_
  refine g_iload_n hC dL_law_365 rfl 3 rfl ?_
  refine g_iconst hC dL_law_366 ?_
  refine g_iadd hC dL_law_367 ?_
  refine g_sld hC hX hL (by omega) dL_law_368 ?_
  refine l_callM hC gi_M_widest q322 (met_M_widest _ _ oM _ _ _ _ _ _ _ _ (sx xs (i + 1)) (sx xs (i + 2)) (rr_okM hR) rfl (sx_rg _ _) (sx_rg _ _)) (by decide) rfl rfl (Nat.le_of_ble_eq_true rfl) dL_law_369 (fun z2 u2 r2 h2 => ?_)
  show gW k (wX oX (eE, eB, eL, sZ, dE, dB, dL, sT1, mX1, tN1, n, ct, ds, ac1, -1, sb1, be1) ++ wM oM (mz, lf, rt, bd, n, p8 n, ds, ct)) 372 [(0, Value.ref b), (1, Value.ref oX.2.1), (2, Value.ref oM.2.1), (3, vI i)] [vI z2, vI z1]
  refine l_cmp hC 485 dL_law_372 (by decide) r1 r2 (eq_wd (by omega) (rr_S hR (Int.le_refl _)) h1 h2) ?_
  exact back eE eB eL sZ dE dB dL sT1 mX1 tN1 mz lf rt bd n ct ds ac1 sb1 be1 (hR)
set_option maxHeartbeats 4000000 in
theorem law_c11 {oX oM : gO} {b Ls : Nat} {xs : Nat → Int32} {k : gK} {i : Int} {eE eB eL sZ dE dB dL sT mX tN mz lf rt bd : Int → Int} {n ct ds ac sb be : Int} (hC : gC k code RX0 [(oX.1, .int), (oM.1, .int)] 8 4) (hX : gX k b Ls xs) (hL : Ls ≤ 257) (hi : 1 ≤ i ∧ i + 3 < (Ls : Int)) (hR : RR n ct ds eE eB eL sZ dE dB dL mz lf rt bd) (back : ∀ (eE eB eL sZ dE dB dL sT mX tN mz lf rt bd : Int → Int) (n ct ds ac sb be : Int), RR n ct ds eE eB eL sZ dE dB dL mz lf rt bd → gW k (wX oX (eE, eB, eL, sZ, dE, dB, dL, sT, mX, tN, n, ct, ds, ac, -1, sb, be) ++ wM oM (mz, lf, rt, bd, n, p8 n, ds, ct)) 485 [(0, Value.ref b), (1, Value.ref oX.2.1), (2, Value.ref oM.2.1), (3, vI i)] []) : gW k (wX oX (eE, eB, eL, sZ, dE, dB, dL, sT, mX, tN, n, ct, ds, ac, -1, sb, be) ++ wM oM (mz, lf, rt, bd, n, p8 n, ds, ct)) 377 [(0, Value.ref b), (1, Value.ref oX.2.1), (2, Value.ref oM.2.1), (3, vI i)] [] := by
  refine g_aload_n hC dL_law_377 rfl 1 rfl ?_
  refine g_aload_n hC dL_law_378 rfl 0 rfl ?_
  refine g_iload_n hC dL_law_379 rfl 3 rfl ?_
  refine g_iconst hC dL_law_380 ?_
  refine g_iadd hC dL_law_381 ?_
  refine g_sld hC hX hL (by omega) dL_law_382 ?_
  refine l_callX hC gi_X_next q172 (met_X_next _ _ oX _ _ _ _ _ _ _ _ _ _ _ _ _ _ _ _ _ (sx xs (i + 1)) hR.1 rfl (sx_rg _ _)) (by decide) rfl rfl (Nat.le_of_ble_eq_true rfl) dL_law_383 (fun z1 u1 r1 h1 => ?_)
  obtain ⟨sT1, sb1, mX1, tN1, ac1, be1⟩ := u1
  show gW k (wM oM (mz, lf, rt, bd, n, p8 n, ds, ct) ++ wX oX (eE, eB, eL, sZ, dE, dB, dL, sT1, mX1, tN1, n, ct, ds, ac1, -1, sb1, be1)) 386 [(0, Value.ref b), (1, Value.ref oX.2.1), (2, Value.ref oM.2.1), (3, vI i)] [vI z1]
  refine g_aload_n hC dL_law_386 rfl 2 rfl ?_
  refine g_aload_n hC dL_law_387 rfl 0 rfl ?_
  refine g_iload_n hC dL_law_388 rfl 3 rfl ?_
  refine g_iconst hC dL_law_389 ?_
  refine g_iadd hC dL_law_390 ?_
  refine g_sld hC hX hL (by omega) dL_law_391 ?_
  refine l_callM hC gi_M_next q326 (met_M_next _ _ oM _ _ _ _ _ _ _ _ (sx xs (i + 1)) (rr_okM hR) rfl (sx_rg _ _)) (by decide) rfl rfl (Nat.le_of_ble_eq_true rfl) dL_law_392 (fun z2 u2 r2 h2 => ?_)
  show gW k (wX oX (eE, eB, eL, sZ, dE, dB, dL, sT1, mX1, tN1, n, ct, ds, ac1, -1, sb1, be1) ++ wM oM (mz, lf, rt, bd, n, p8 n, ds, ct)) 395 [(0, Value.ref b), (1, Value.ref oX.2.1), (2, Value.ref oM.2.1), (3, vI i)] [vI z2, vI z1]
  refine l_cmp hC 485 dL_law_395 (by decide) r1 r2 (leS_un h1 (leS_cg h2 (fun x => and_congr Iff.rfl (rr_dom hR (Int.le_refl _) x)))) ?_
  exact back eE eB eL sZ dE dB dL sT1 mX1 tN1 mz lf rt bd n ct ds ac1 sb1 be1 (hR)
set_option maxHeartbeats 4000000 in
theorem law_c12 {oX oM : gO} {b Ls : Nat} {xs : Nat → Int32} {k : gK} {i : Int} {eE eB eL sZ dE dB dL sT mX tN mz lf rt bd : Int → Int} {n ct ds ac sb be : Int} (hC : gC k code RX0 [(oX.1, .int), (oM.1, .int)] 8 4) (hX : gX k b Ls xs) (hL : Ls ≤ 257) (hi : 1 ≤ i ∧ i + 3 < (Ls : Int)) (hR : RR n ct ds eE eB eL sZ dE dB dL mz lf rt bd) (back : ∀ (eE eB eL sZ dE dB dL sT mX tN mz lf rt bd : Int → Int) (n ct ds ac sb be : Int), RR n ct ds eE eB eL sZ dE dB dL mz lf rt bd → gW k (wX oX (eE, eB, eL, sZ, dE, dB, dL, sT, mX, tN, n, ct, ds, ac, -1, sb, be) ++ wM oM (mz, lf, rt, bd, n, p8 n, ds, ct)) 485 [(0, Value.ref b), (1, Value.ref oX.2.1), (2, Value.ref oM.2.1), (3, vI i)] []) : gW k (wX oX (eE, eB, eL, sZ, dE, dB, dL, sT, mX, tN, n, ct, ds, ac, -1, sb, be) ++ wM oM (mz, lf, rt, bd, n, p8 n, ds, ct)) 400 [(0, Value.ref b), (1, Value.ref oX.2.1), (2, Value.ref oM.2.1), (3, vI i)] [] := by
  refine g_aload_n hC dL_law_400 rfl 1 rfl ?_
  refine g_aload_n hC dL_law_401 rfl 0 rfl ?_
  refine g_iload_n hC dL_law_402 rfl 3 rfl ?_
  refine g_iconst hC dL_law_403 ?_
  refine g_iadd hC dL_law_404 ?_
  refine g_sld hC hX hL (by omega) dL_law_405 ?_
  refine l_callX hC gi_X_meets q184 (met_X_meets _ _ oX _ _ _ _ _ _ _ _ _ _ _ _ _ _ _ _ _ (sx xs (i + 1)) hR.1 (sx_rg _ _)) (by decide) rfl rfl (Nat.le_of_ble_eq_true rfl) dL_law_406 (fun z1 u1 r1 h1 => ?_)
  show gW k (wM oM (mz, lf, rt, bd, n, p8 n, ds, ct) ++ wX oX (eE, eB, eL, sZ, dE, dB, dL, sT, mX, tN, n, ct, ds, ac, -1, sb, be)) 409 [(0, Value.ref b), (1, Value.ref oX.2.1), (2, Value.ref oM.2.1), (3, vI i)] [vI z1]
  refine g_aload_n hC dL_law_409 rfl 2 rfl ?_
  refine g_aload_n hC dL_law_410 rfl 0 rfl ?_
  refine g_iload_n hC dL_law_411 rfl 3 rfl ?_
  refine g_iconst hC dL_law_412 ?_
  refine g_iadd hC dL_law_413 ?_
  refine g_sld hC hX hL (by omega) dL_law_414 ?_
  refine l_callM hC gi_M_meets q330 (met_M_meets _ _ oM _ _ _ _ _ _ _ _ (sx xs (i + 1)) (rr_okM hR) rfl (sx_rg _ _)) (by decide) rfl rfl (Nat.le_of_ble_eq_true rfl) dL_law_415 (fun z2 u2 r2 h2 => ?_)
  show gW k (wX oX (eE, eB, eL, sZ, dE, dB, dL, sT, mX, tN, n, ct, ds, ac, -1, sb, be) ++ wM oM (mz, lf, rt, bd, n, p8 n, ds, ct)) 418 [(0, Value.ref b), (1, Value.ref oX.2.1), (2, Value.ref oM.2.1), (3, vI i)] [vI z2, vI z1]
  refine l_cmp hC 485 dL_law_418 (by decide) r1 r2 (eq_or (P := fun z => isB z (sol ct (-1) sZ eE eB eL (tim n (sx xs (i + 1))))) (fun _ _ a b => isB_un a b) h1 (by rcases h2 with b | b; exact Or.inl b; exact Or.inr ⟨b.1, isB_cg b.2 (rr_sol hR (Int.le_refl _) _)⟩)) ?_
  exact back eE eB eL sZ dE dB dL sT mX tN mz lf rt bd n ct ds ac sb be (hR)
set_option maxHeartbeats 4000000 in
theorem law_c13 {oX oM : gO} {b Ls : Nat} {xs : Nat → Int32} {k : gK} {i : Int} {eE eB eL sZ dE dB dL sT mX tN mz lf rt bd : Int → Int} {n ct ds ac sb be : Int} (hC : gC k code RX0 [(oX.1, .int), (oM.1, .int)] 8 4) (hX : gX k b Ls xs) (hL : Ls ≤ 257) (hi : 1 ≤ i ∧ i + 3 < (Ls : Int)) (hR : RR n ct ds eE eB eL sZ dE dB dL mz lf rt bd) (back : ∀ (eE eB eL sZ dE dB dL sT mX tN mz lf rt bd : Int → Int) (n ct ds ac sb be : Int), RR n ct ds eE eB eL sZ dE dB dL mz lf rt bd → gW k (wX oX (eE, eB, eL, sZ, dE, dB, dL, sT, mX, tN, n, ct, ds, ac, -1, sb, be) ++ wM oM (mz, lf, rt, bd, n, p8 n, ds, ct)) 485 [(0, Value.ref b), (1, Value.ref oX.2.1), (2, Value.ref oM.2.1), (3, vI i)] []) : gW k (wX oX (eE, eB, eL, sZ, dE, dB, dL, sT, mX, tN, n, ct, ds, ac, -1, sb, be) ++ wM oM (mz, lf, rt, bd, n, p8 n, ds, ct)) 423 [(0, Value.ref b), (1, Value.ref oX.2.1), (2, Value.ref oM.2.1), (3, vI i)] [] := by
  refine g_aload_n hC dL_law_423 rfl 1 rfl ?_
  refine l_callX hC gi_X_shortest q192 (met_X_shortest _ _ oX _ _ _ _ _ _ _ _ _ _ _ _ _ _ _ _ _  hR.1 rfl) (by decide) rfl rfl (Nat.le_of_ble_eq_true rfl) dL_law_424 (fun z1 u1 r1 h1 => ?_)
  obtain ⟨sT1, sb1, mX1, tN1, ac1, be1⟩ := u1
  show gW k (wM oM (mz, lf, rt, bd, n, p8 n, ds, ct) ++ wX oX (eE, eB, eL, sZ, dE, dB, dL, sT1, mX1, tN1, n, ct, ds, ac1, -1, sb1, be1)) 427 [(0, Value.ref b), (1, Value.ref oX.2.1), (2, Value.ref oM.2.1), (3, vI i)] [vI z1]
  refine g_aload_n hC dL_law_427 rfl 2 rfl ?_
  refine l_callM hC gi_M_shortest q334 (met_M_shortest _ _ oM _ _ _ _ _ _ _ _  (rr_okM hR) rfl) (by decide) rfl rfl (Nat.le_of_ble_eq_true rfl) dL_law_428 (fun z2 u2 r2 h2 => ?_)
  show gW k (wX oX (eE, eB, eL, sZ, dE, dB, dL, sT1, mX1, tN1, n, ct, ds, ac1, -1, sb1, be1) ++ wM oM (mz, lf, rt, bd, n, p8 n, ds, ct)) 431 [(0, Value.ref b), (1, Value.ref oX.2.1), (2, Value.ref oM.2.1), (3, vI i)] [vI z2, vI z1]
  refine l_cmp hC 485 dL_law_431 (by decide) r1 r2 (by have g2 : shP n (fun p => sol ct (-1) sZ eE eB eL (tim n p)) (p8 n) z2 := (by rw [← rr_S hR (Int.le_refl _)]; exact h2); exact sh_un h1 g2) ?_
  exact back eE eB eL sZ dE dB dL sT1 mX1 tN1 mz lf rt bd n ct ds ac1 sb1 be1 (hR)
set_option maxHeartbeats 4000000 in
theorem law_c14 {oX oM : gO} {b Ls : Nat} {xs : Nat → Int32} {k : gK} {i : Int} {eE eB eL sZ dE dB dL sT mX tN mz lf rt bd : Int → Int} {n ct ds ac sb be : Int} (hC : gC k code RX0 [(oX.1, .int), (oM.1, .int)] 8 4) (hX : gX k b Ls xs) (hL : Ls ≤ 257) (hi : 1 ≤ i ∧ i + 3 < (Ls : Int)) (hR : RR n ct ds eE eB eL sZ dE dB dL mz lf rt bd) (back : ∀ (eE eB eL sZ dE dB dL sT mX tN mz lf rt bd : Int → Int) (n ct ds ac sb be : Int), RR n ct ds eE eB eL sZ dE dB dL mz lf rt bd → gW k (wX oX (eE, eB, eL, sZ, dE, dB, dL, sT, mX, tN, n, ct, ds, ac, -1, sb, be) ++ wM oM (mz, lf, rt, bd, n, p8 n, ds, ct)) 485 [(0, Value.ref b), (1, Value.ref oX.2.1), (2, Value.ref oM.2.1), (3, vI i)] []) : gW k (wX oX (eE, eB, eL, sZ, dE, dB, dL, sT, mX, tN, n, ct, ds, ac, -1, sb, be) ++ wM oM (mz, lf, rt, bd, n, p8 n, ds, ct)) 436 [(0, Value.ref b), (1, Value.ref oX.2.1), (2, Value.ref oM.2.1), (3, vI i)] [] := by
  refine g_aload_n hC dL_law_436 rfl 1 rfl ?_
  refine l_callX hC gi_X_entailed q196 (met_X_entailed _ _ oX _ _ _ _ _ _ _ _ _ _ _ _ _ _ _ _ _  hR.1 rfl hR.2.1 hR.2.2.1) (by decide) rfl rfl (Nat.le_of_ble_eq_true rfl) dL_law_437 (fun z1 u1 r1 h1 => ?_)
  obtain ⟨sT1, sb1, mX1, tN1, ac1, be1⟩ := u1
  show gW k (wM oM (mz, lf, rt, bd, n, p8 n, ds, ct) ++ wX oX (eE, eB, eL, sZ, dE, dB, dL, sT1, mX1, tN1, n, ct, ds, ac1, -1, sb1, be1)) 440 [(0, Value.ref b), (1, Value.ref oX.2.1), (2, Value.ref oM.2.1), (3, vI i)] [vI z1]
  refine g_aload_n hC dL_law_440 rfl 2 rfl ?_
  refine l_callM hC gi_M_entailed q338 (met_M_entailed _ _ oM _ _ _ _ _ _ _ _  (rr_okM hR) rfl hR.2.1 hR.2.2.2.1 (rr_dr hR)) (by decide) rfl rfl (Nat.le_of_ble_eq_true rfl) dL_law_441 (fun z2 u2 r2 h2 => ?_)
  show gW k (wX oX (eE, eB, eL, sZ, dE, dB, dL, sT1, mX1, tN1, n, ct, ds, ac1, -1, sb1, be1) ++ wM oM (mz, lf, rt, bd, n, p8 n, ds, ct)) 444 [(0, Value.ref b), (1, Value.ref oX.2.1), (2, Value.ref oM.2.1), (3, vI i)] [vI z2, vI z1]
  refine l_cmp hC 485 dL_law_444 (by decide) r1 r2 (eq_en (forall_congr' (fun p => imp_congr (rr_dom hR (Int.le_refl _) p) (rr_ent hR _))) h1 h2) ?_
  exact back eE eB eL sZ dE dB dL sT1 mX1 tN1 mz lf rt bd n ct ds ac1 sb1 be1 (hR)
set_option maxHeartbeats 4000000 in
theorem law_c15 {oX oM : gO} {b Ls : Nat} {xs : Nat → Int32} {k : gK} {i : Int} {eE eB eL sZ dE dB dL sT mX tN mz lf rt bd : Int → Int} {n ct ds ac sb be : Int} (hC : gC k code RX0 [(oX.1, .int), (oM.1, .int)] 8 4) (hX : gX k b Ls xs) (hL : Ls ≤ 257) (hi : 1 ≤ i ∧ i + 3 < (Ls : Int)) (hR : RR n ct ds eE eB eL sZ dE dB dL mz lf rt bd) (back : ∀ (eE eB eL sZ dE dB dL sT mX tN mz lf rt bd : Int → Int) (n ct ds ac sb be : Int), RR n ct ds eE eB eL sZ dE dB dL mz lf rt bd → gW k (wX oX (eE, eB, eL, sZ, dE, dB, dL, sT, mX, tN, n, ct, ds, ac, -1, sb, be) ++ wM oM (mz, lf, rt, bd, n, p8 n, ds, ct)) 485 [(0, Value.ref b), (1, Value.ref oX.2.1), (2, Value.ref oM.2.1), (3, vI i)] []) : gW k (wX oX (eE, eB, eL, sZ, dE, dB, dL, sT, mX, tN, n, ct, ds, ac, -1, sb, be) ++ wM oM (mz, lf, rt, bd, n, p8 n, ds, ct)) 449 [(0, Value.ref b), (1, Value.ref oX.2.1), (2, Value.ref oM.2.1), (3, vI i)] [] := by
  refine g_aload_n hC dL_law_449 rfl 1 rfl ?_
  refine g_aload_n hC dL_law_450 rfl 0 rfl ?_
  refine g_iload_n hC dL_law_451 rfl 3 rfl ?_
  refine g_iconst hC dL_law_452 ?_
  refine g_iadd hC dL_law_453 ?_
  refine g_sld hC hX hL (by omega) dL_law_454 ?_
  refine l_callX hC gi_X_redundant q200 (met_X_redundant _ _ oX _ _ _ _ _ _ _ _ _ _ _ _ _ _ _ _ _ (sx xs (i + 1)) hR.1 rfl (sx_rg _ _)) (by decide) rfl rfl (Nat.le_of_ble_eq_true rfl) dL_law_455 (fun z1 u1 r1 h1 => ?_)
  obtain ⟨sT1, sb1, mX1, tN1, ac1, be1, sk1⟩ := u1
  show gW k (wM oM (mz, lf, rt, bd, n, p8 n, ds, ct) ++ wX oX (eE, eB, eL, sZ, dE, dB, dL, sT1, mX1, tN1, n, ct, ds, ac1, sk1, sb1, be1)) 458 [(0, Value.ref b), (1, Value.ref oX.2.1), (2, Value.ref oM.2.1), (3, vI i)] [vI z1]
  obtain ⟨esk, h1b⟩ := id h1
  rw [esk]
  show gW k (wM oM (mz, lf, rt, bd, n, p8 n, ds, ct) ++ wX oX (eE, eB, eL, sZ, dE, dB, dL, sT1, mX1, tN1, n, ct, ds, ac1, -1, sb1, be1)) 458 [(0, Value.ref b), (1, Value.ref oX.2.1), (2, Value.ref oM.2.1), (3, vI i)] [vI z1]
  refine g_aload_n hC dL_law_458 rfl 2 rfl ?_
  refine g_aload_n hC dL_law_459 rfl 0 rfl ?_
  refine g_iload_n hC dL_law_460 rfl 3 rfl ?_
  refine g_iconst hC dL_law_461 ?_
  refine g_iadd hC dL_law_462 ?_
  refine g_sld hC hX hL (by omega) dL_law_463 ?_
  refine l_callM hC gi_M_redundant q342 (met_M_redundant _ _ oM _ _ _ _ _ _ _ _ (sx xs (i + 1)) (rr_okM hR) rfl (sx_rg _ _)) (by decide) rfl rfl (Nat.le_of_ble_eq_true rfl) dL_law_464 (fun z2 u2 r2 h2 => ?_)
  show gW k (wX oX (eE, eB, eL, sZ, dE, dB, dL, sT1, mX1, tN1, n, ct, ds, ac1, -1, sb1, be1) ++ wM oM (mz, lf, rt, bd, n, p8 n, ds, ct)) 467 [(0, Value.ref b), (1, Value.ref oX.2.1), (2, Value.ref oM.2.1), (3, vI i)] [vI z2, vI z1]
  refine l_cmp hC 485 dL_law_467 (by decide) r1 r2 (eq_or (P := fun z => isB z (∀ p : Int, dom n ct (sx xs (i + 1)) sZ eE eB eL p → mt sZ eE eB eL (sx xs (i + 1)) (tim n p))) (fun _ _ a b => isB_un a b) h1.2 (by rcases h2 with b | b; exact Or.inl b; exact Or.inr ⟨b.1, isB_cg b.2 (forall_congr' (fun p => imp_congr (rr_dom hR (Int.le_refl _) p) (rr_mt hR b.1.1 b.1.2 _)))⟩)) ?_
  exact back eE eB eL sZ dE dB dL sT1 mX1 tN1 mz lf rt bd n ct ds ac1 sb1 be1 (hR)
set_option maxHeartbeats 4000000 in
theorem law_c16 {oX oM : gO} {b Ls : Nat} {xs : Nat → Int32} {k : gK} {i : Int} {eE eB eL sZ dE dB dL sT mX tN mz lf rt bd : Int → Int} {n ct ds ac sb be : Int} (hC : gC k code RX0 [(oX.1, .int), (oM.1, .int)] 8 4) (hX : gX k b Ls xs) (hL : Ls ≤ 257) (hi : 1 ≤ i ∧ i + 3 < (Ls : Int)) (hR : RR n ct ds eE eB eL sZ dE dB dL mz lf rt bd) (back : ∀ (eE eB eL sZ dE dB dL sT mX tN mz lf rt bd : Int → Int) (n ct ds ac sb be : Int), RR n ct ds eE eB eL sZ dE dB dL mz lf rt bd → gW k (wX oX (eE, eB, eL, sZ, dE, dB, dL, sT, mX, tN, n, ct, ds, ac, -1, sb, be) ++ wM oM (mz, lf, rt, bd, n, p8 n, ds, ct)) 485 [(0, Value.ref b), (1, Value.ref oX.2.1), (2, Value.ref oM.2.1), (3, vI i)] []) : gW k (wX oX (eE, eB, eL, sZ, dE, dB, dL, sT, mX, tN, n, ct, ds, ac, -1, sb, be) ++ wM oM (mz, lf, rt, bd, n, p8 n, ds, ct)) 472 [(0, Value.ref b), (1, Value.ref oX.2.1), (2, Value.ref oM.2.1), (3, vI i)] [] := by
  refine g_aload_n hC dL_law_472 rfl 1 rfl ?_
  refine l_callX hC gi_X_excess q204 (met_X_excess _ _ oX _ _ _ _ _ _ _ _ _ _ _ _ _ _ _ _ _  hR.1 rfl) (by decide) rfl rfl (Nat.le_of_ble_eq_true rfl) dL_law_473 (fun z1 u1 r1 h1 => ?_)
  obtain ⟨sT1, sb1, mX1, tN1, ac1, be1⟩ := u1
  show gW k (wM oM (mz, lf, rt, bd, n, p8 n, ds, ct) ++ wX oX (eE, eB, eL, sZ, dE, dB, dL, sT1, mX1, tN1, n, ct, ds, ac1, -1, sb1, be1)) 476 [(0, Value.ref b), (1, Value.ref oX.2.1), (2, Value.ref oM.2.1), (3, vI i)] [vI z1]
  refine g_aload_n hC dL_law_476 rfl 2 rfl ?_
  refine l_callM hC gi_M_excess q346 (met_M_excess _ _ oM _ _ _ _ _ _ _ _  (rr_okM hR) rfl) (by decide) rfl rfl (Nat.le_of_ble_eq_true rfl) dL_law_477 (fun z2 u2 r2 h2 => ?_)
  show gW k (wX oX (eE, eB, eL, sZ, dE, dB, dL, sT1, mX1, tN1, n, ct, ds, ac1, -1, sb1, be1) ++ wM oM (mz, lf, rt, bd, n, p8 n, ds, ct)) 480 [(0, Value.ref b), (1, Value.ref oX.2.1), (2, Value.ref oM.2.1), (3, vI i)] [vI z2, vI z1]
  refine l_cmp hC 485 dL_law_480 (by decide) r1 r2 (exP_un h1 (rr_ex hR h2)) ?_
  exact back eE eB eL sZ dE dB dL sT1 mX1 tN1 mz lf rt bd n ct ds ac1 sb1 be1 (hR)
end
section
/-! THE LAW: its loop -/
set_option maxRecDepth 100000
set_option maxHeartbeats 4000000 in
theorem law_loop {oX oM : gO} {b Ls : Nat} {xs : Nat → Int32} {k : gK} (hC : gC k code RX0 [(oX.1, .int), (oM.1, .int)] 8 4) (hX : gX k b Ls xs) (hL : Ls ≤ 257) (hend : ∀ (w : va_W) (lv : List (Nat × Value)), gW k w 492 lv [vI 1]) : ∀ (N : Nat) (i : Int) (eE eB eL sZ dE dB dL sT mX tN mz lf rt bd : Int → Int) (n ct ds ac sb be : Int), (0 ≤ (Ls : Int) + 4 - i ∧ (Ls : Int) + 4 - i < (N : Int)) → 1 ≤ i → RR n ct ds eE eB eL sZ dE dB dL mz lf rt bd → gW k (wX oX (eE, eB, eL, sZ, dE, dB, dL, sT, mX, tN, n, ct, ds, ac, -1, sb, be) ++ wM oM (mz, lf, rt, bd, n, p8 n, ds, ct)) 28 [(0, Value.ref b), (1, Value.ref oX.2.1), (2, Value.ref oM.2.1), (3, vI i)] [] := by
  intro N
  induction N with
  | zero =>
    intro i eE eB eL sZ dE dB dL sT mX tN mz lf rt bd n ct ds ac sb be hm
    exfalso
    omega
  | succ N ih =>
    intro i eE eB eL sZ dE dB dL sT mX tN mz lf rt bd n ct ds ac sb be hm hi hR
    refine g_iload_n hC dL_law_28 rfl 3 rfl ?_
    refine g_aload_n hC dL_law_29 rfl 0 rfl ?_
    refine g_slen hC hX dL_law_30 ?_
    refine g_iconst hC dL_law_31 ?_
    refine g_isub hC dL_law_32 ?_
    refine g_icmp_gt hC 491 dL_law_33 (by decide) (by omega) (by omega) (fun c33 => ?_) (fun c33 => ?_)
    · refine g_iconst hC dL_law_491 ?_
      exact hend _ _
    · refine g_aload_n hC dL_law_36 rfl 0 rfl ?_
      refine g_iload_n hC dL_law_37 rfl 3 rfl ?_
      refine g_sld hC hX hL (by omega) dL_law_38 ?_
      refine g_bipush hC dL_law_39 (by decide) ?_
      refine g_iand31 hC dL_law_41 ?_
      refine g_name (fun y ey => ?_)
      have back : ∀ (eE eB eL sZ dE dB dL sT mX tN mz lf rt bd : Int → Int) (n ct ds ac sb be : Int), RR n ct ds eE eB eL sZ dE dB dL mz lf rt bd → gW k (wX oX (eE, eB, eL, sZ, dE, dB, dL, sT, mX, tN, n, ct, ds, ac, -1, sb, be) ++ wM oM (mz, lf, rt, bd, n, p8 n, ds, ct)) 485 [(0, Value.ref b), (1, Value.ref oX.2.1), (2, Value.ref oM.2.1), (3, vI i)] [] := by
        intro eE eB eL sZ dE dB dL sT mX tN mz lf rt bd n ct ds ac sb be hR2
        refine g_iinc hC [(3, vI (i + 4)), (0, Value.ref b), (1, Value.ref oX.2.1), (2, Value.ref oM.2.1)] dL_law_485 3 rfl (by decide) rfl ?_
        refine g_goto hC 28 dL_law_488 (by decide) ?_
        refine g_lv [1, 2, 3, 0] rfl ?_
        exact ih (i + 4) eE eB eL sZ dE dB dL sT mX tN mz lf rt bd n ct ds ac sb be ⟨by omega, by omega⟩ (by omega) hR2
      have hy : 0 ≤ y ∧ y < 32 := by omega
      have h17 : y = 0 ∨ y = 1 ∨ y = 2 ∨ y = 3 ∨ y = 4 ∨ y = 5 ∨ y = 6 ∨ y = 7 ∨ y = 8 ∨ y = 9 ∨ y = 10 ∨ y = 11 ∨ y = 12 ∨ y = 13 ∨ y = 14 ∨ y = 15 ∨ y = 16 ∨ 16 < y := by omega
      rcases h17 with h | h | h | h | h | h | h | h | h | h | h | h | h | h | h | h | h | h
      · rw [h]
        refine g_tableIn hC 124 dL_law_42 (by decide) (by decide) (by decide) rfl (by decide) ?_
        exact law_c0 hC hX hL (by omega) hR back
      · rw [h]
        refine g_tableIn hC 137 dL_law_42 (by decide) (by decide) (by decide) rfl (by decide) ?_
        exact law_c1 hC hX hL (by omega) hR back
      · rw [h]
        refine g_tableIn hC 180 dL_law_42 (by decide) (by decide) (by decide) rfl (by decide) ?_
        exact law_c2 hC hX hL (by omega) hR back
      · rw [h]
        refine g_tableIn hC 193 dL_law_42 (by decide) (by decide) (by decide) rfl (by decide) ?_
        exact law_c3 hC hX hL (by omega) hR back
      · rw [h]
        refine g_tableIn hC 206 dL_law_42 (by decide) (by decide) (by decide) rfl (by decide) ?_
        exact law_c4 hC hX hL (by omega) hR back
      · rw [h]
        refine g_tableIn hC 249 dL_law_42 (by decide) (by decide) (by decide) rfl (by decide) ?_
        exact law_c5 hC hX hL (by omega) hR back
      · rw [h]
        refine g_tableIn hC 272 dL_law_42 (by decide) (by decide) (by decide) rfl (by decide) ?_
        exact law_c6 hC hX hL (by omega) hR back
      · rw [h]
        refine g_tableIn hC 285 dL_law_42 (by decide) (by decide) (by decide) rfl (by decide) ?_
        exact law_c7 hC hX hL (by omega) hR back
      · rw [h]
        refine g_tableIn hC 298 dL_law_42 (by decide) (by decide) (by decide) rfl (by decide) ?_
        exact law_c8 hC hX hL (by omega) hR back
      · rw [h]
        refine g_tableIn hC 321 dL_law_42 (by decide) (by decide) (by decide) rfl (by decide) ?_
        exact law_c9 hC hX hL (by omega) hR back
      · rw [h]
        refine g_tableIn hC 344 dL_law_42 (by decide) (by decide) (by decide) rfl (by decide) ?_
        exact law_c10 hC hX hL (by omega) hR back
      · rw [h]
        refine g_tableIn hC 377 dL_law_42 (by decide) (by decide) (by decide) rfl (by decide) ?_
        exact law_c11 hC hX hL (by omega) hR back
      · rw [h]
        refine g_tableIn hC 400 dL_law_42 (by decide) (by decide) (by decide) rfl (by decide) ?_
        exact law_c12 hC hX hL (by omega) hR back
      · rw [h]
        refine g_tableIn hC 423 dL_law_42 (by decide) (by decide) (by decide) rfl (by decide) ?_
        exact law_c13 hC hX hL (by omega) hR back
      · rw [h]
        refine g_tableIn hC 436 dL_law_42 (by decide) (by decide) (by decide) rfl (by decide) ?_
        exact law_c14 hC hX hL (by omega) hR back
      · rw [h]
        refine g_tableIn hC 449 dL_law_42 (by decide) (by decide) (by decide) rfl (by decide) ?_
        exact law_c15 hC hX hL (by omega) hR back
      · rw [h]
        refine g_tableIn hC 472 dL_law_42 (by decide) (by decide) (by decide) rfl (by decide) ?_
        exact law_c16 hC hX hL (by omega) hR back
      · refine g_tableOut hC 485 dL_law_42 (by omega) (Or.inr h) (by decide) ?_
        exact back eE eB eL sZ dE dB dL sT mX tN mz lf rt bd n ct ds ac sb be hR
end
section
/-! THE CLAIM OUT OF ONE WALK OF THE LAW'S BODY. Your part is whole_start (and what it stands on); all else here is the same for every law, but numbers. -/
def R_law : String := "DisjunctiveTimesLaw"
def lw_P (b : Addr) (xs : List Int32) (args : Array Value) (s : State) : Prop := args = #[.ref b] ∧ s.IntsAt b xs ∧ xs.length ≤ 257 ∧ (Jvm.Cond.and given_1 narrow_1).before args s = true
def lw_Q (_ : Array Value) (s : State) (o : Outcome) (t : State) : Prop := o = .returned (some (.int 1)) ∧ Framed s o t [] 600000 7290000
def lw_Z (below : List Frame) (a : Array Value) (s : State) : State → Prop := fun t => ∃ o, t.status = .running ∧ Ended t below o ∧ lw_Q a s o t
/-- the law's own end, with 1 on the stack, nothing written that was there before, its room as the claim has it -/
theorem lw_ret {p : Program} {l : Launch} {e : Env} {s : State} {m : MethodId} {below : List Frame} {meth : Method} {c : Code} {b : Nat} (hx : p.tables.exec = Jvm.exec) (hb : c.code = code) (hr : meth.sig.returnType = ret) (hlocks : meth.locks = false) {pc : Nat} {H : Heap} {ls : Array Slot} (hdg : decode code pc = .ok (.ireturn, 1)) : W p l e room_1 s m #[Value.ref b] below meth c H [] 600000 7290000 (lw_Z below #[Value.ref b] s) (F0 m pc ls [.int 1]) := by
  intro T hT X
  obtain ⟨fs, hret, hrun, hended, hW, hframe⟩ := X.leave (v := some (.int 1)) (hlocks := hlocks) (fun h => by rw [hr] at h; cases h)
  have hmeth' : T.vm.method? m = some meth := X.method'
  refine ⟨T.setFrames fs, ?_, .returned (some (.int 1)), hrun, hended, rfl, ⟨_, rfl⟩, hW, hframe⟩
  jvm_step X.here [X.here.top, hx, hb, hdg, hmeth', hr, ret, narrow_b1]
  (try refine ⟨rfl, ?_⟩); (try refine ⟨rfl, ?_⟩)
  first | (intro acts; rw [hret _ acts rfl rfl rfl]) | rw [hret _ _ rfl rfl rfl]
  exact Steps.refl _
/-- what holds at the law's entry: the machine, the code, the tables' words (any of lw_tbl by 'hts w (by decide +kernel)'), the script of L ints xs at the cell b, what the Statement gives of the start (any of its parts by flat_of_before) -/
def lw_At (p : Program) (s : State) (m : MethodId) (meth : Method) (c : Code) (b L : Nat) (xs : Nat → Int32) : Prop :=
  p.tables.exec = Jvm.exec ∧ c.code = code ∧ meth.sig.returnType = ret ∧ c.maxLocals = 4 ∧ s.vm.findClass R_law = some m.cls ∧ (∀ w ∈ lw_tbl, w.before #[Value.ref b] s = true) ∧ va_X b L xs s s.heap ∧ b < s.heap.size ∧ meth.locks = false ∧ (Jvm.Cond.and given_1 narrow_1).before #[Value.ref b] s = true
end
section
/-! THE LAW, from its entry -/
set_option maxRecDepth 100000
set_option maxHeartbeats 4000000 in
theorem whole_start {p : Program} {e : Env} {s : State} {m : MethodId} {below : List Frame} {meth : Method} {c : Code} (l : Launch) {b L : Nat} {xs : Nat → Int32} (hL : L ≤ 257) (C0 : lw_At p s m meth c b L xs) : W p l e room_1 s m #[Value.ref b] below meth c s.heap [] 0 0 (lw_Z below #[Value.ref b] s) (entryFrame m ([Value.ref b] : List Value).toArray 4) := by
  obtain ⟨hx, hb, hr, hml, hown, hts0, hX, hbl, hlocks, hgv⟩ := id C0
  have hts : ∀ w ∈ lw_all, w.before #[Value.ref b] s = true := fun w h => hts0 w (lw_all_tbl h)
  obtain ⟨c0, iS0, hKn0⟩ := u_known (C := RX1) (T := TX1) (N := 17) (n := 17) hts in_X1 (hts _ q27)
  obtain ⟨c1, iS1, hKn1⟩ := u_known (C := RX2) (T := TX2) (N := 8) (n := 8) hts in_X2 (hts _ q212)
  obtain ⟨dC, dI, hKc⟩ : ∃ (dC : Nat → ClassId) (dI : Nat → Nat → Nat), ∀ (k : Nat) (q : vw_C), clX[k]? = some q → u_Kn s q.1 q.2.1 q.2.2 (dC k) (dI k) := by
    refine ⟨fun k => if k = 0 then c0 else c1, fun k => if k = 0 then iS0 else iS1, ?_⟩
    intro k q hq
    match k, hq with
    | 0, hq => cases hq; exact hKn0
    | 1, hq => cases hq; exact hKn1
    | k + 2, hq => simp [clX] at hq
  have hK : va_K (dC, dI) clX [] s := ⟨hKc, fun k q h => by simp at h⟩
  have hP : va_P (dC, dI) clX [] s.heap := fun k q h => by simp at h
  have hD : va_D (fun q : Nat => s.heap.size ≤ q) [] := ⟨fun i j p q h => by simp at h, fun k q h => by simp at h⟩
  obtain ⟨K, hKe⟩ : ∃ K : gK, K = (p, l, e, room_1, s, m, #[Value.ref b], below, meth, c, 0, 0, lw_Z below #[Value.ref b] s, (dC, dI), (fun q : Nat => s.heap.size ≤ q), 4) := ⟨_, rfl⟩
  have hC0 : gC (gCS K 0 0) code RX0 [] 8 4 := by
    subst hKe
    exact ⟨hx, hb, hml, hown, hts, hK, fun _ h => h, ⟨by decide, by decide, by decide, by decide⟩, rfl⟩
  have hX0 : ∀ a n : Nat, gX (gCS K a n) b L xs := by
    subst hKe
    exact fun _ _ => ⟨hX, hbl, Nat.not_le.mpr hbl⟩
  have hRm : gRm K 600000 7290000 := by
    subst hKe
    exact ⟨by decide, by decide⟩
  have hend : ∀ (w : va_W) (lv : List (Nat × Value)), gW (gCS K 16 463) w 492 lv [vI 1] := by
    subst hKe
    intro w lv ls H locs hl hP hD hS
    refine va_forget (fun q hq => hS.2.2 q hq) ?_
    refine W.widen (k := 600000) (n := 7290000) (by decide) (by decide) ?_
    unfold vI
    rw [show iI 1 = 1 by decide]
    exact lw_ret hx hb hr hlocks dL_law_492
  have main : gW (gCS K 0 0) [] 0 [(0, Value.ref b)] [] := by
    refine g_new (N := 17) 1 17 hC0 hRm in_X1 tyX1 tyX1_ok q26 q27 q24 (ci := 0) rfl (fs := fsX) (fun j hj => by rcases (show j = 0 ∨ j = 1 ∨ j = 2 ∨ j = 3 ∨ j = 4 ∨ j = 5 ∨ j = 6 ∨ j = 7 ∨ j = 8 ∨ j = 9 ∨ j = 10 ∨ j = 11 ∨ j = 12 ∨ j = 13 ∨ j = 14 ∨ j = 15 ∨ j = 16 by omega) with rfl | rfl | rfl | rfl | rfl | rfl | rfl | rfl | rfl | rfl | rfl | rfl | rfl | rfl | rfl | rfl | rfl <;> first | rfl | exact vI_0) rfl rfl (by decide) (by decide) dL_law_0 (fun qX => ?_)
    have hC1 := gC_CS (c1 := 1) (n1 := 17) hC0 hRm (by decide) (by decide)
    show gW (gCS K 1 17) [(qX, .inr (0, fsX))] 3 [(0, Value.ref b)] [Value.ref qX]
    refine g_dup hC1 rfl dL_law_3 ?_
    refine g_aload_n hC1 dL_law_4 rfl 0 rfl ?_
    refine g_iconst hC1 dL_law_5 ?_
    refine g_cell hC1 (by decide) (hX0 1 17) hL (Nat.le_of_ble_eq_true rfl) dL_law_6 ?_
    refine g_ctor (na := 1) (wr := []) 11 365 [0] [] hC1 hRm (met_X_init _ _ qX (sx0 L xs) (sx0_rg L xs)) (by decide) (by decide) rfl q28 q29 q24 q30 rfl (by decide +kernel) ⟨rfl, rfl, rfl, rfl, rfl, by decide⟩ rfl (Nat.le_of_ble_eq_true rfl) rfl rfl (by decide) (by decide) dL_law_9 (fun u hC2 => ?_)
    obtain ⟨cX, fX⟩ := u
    have hC2 : gC (gCS K 11 365) code RX0 [(cX, .int)] 8 4 := hC2
    show gW (gCS K 11 365) (wX (cX, qX, fX) (z0, z0, z0, z0, z0, z0, z0, z0, z0, z0, nC (sx0 L xs), 0, 0, 0, -1, 0, 0)) 12 [(0, Value.ref b)] [Value.ref qX]
    refine g_astore_n hC2 [(1, Value.ref qX), (0, Value.ref b)] dL_law_12 rfl (by decide) rfl ?_
    refine g_new (N := 8) 12 373 hC2 hRm in_X2 tyX2 tyX2_ok q211 q212 q25 (ci := 1) rfl (fs := fsM) (fun j hj => by rcases (show j = 0 ∨ j = 1 ∨ j = 2 ∨ j = 3 ∨ j = 4 ∨ j = 5 ∨ j = 6 ∨ j = 7 by omega) with rfl | rfl | rfl | rfl | rfl | rfl | rfl | rfl <;> first | rfl | exact vI_0) rfl rfl (by decide) (by decide) dL_law_13 (fun qM => ?_)
    have hC3 := gC_CS (c1 := 12) (n1 := 373) hC2 hRm (by decide) (by decide)
    show gW (gCS K 12 373) ((wX (cX, qX, fX) (z0, z0, z0, z0, z0, z0, z0, z0, z0, z0, nC (sx0 L xs), 0, 0, 0, -1, 0, 0)) ++ [(qM, .inr (1, fsM))]) 16 [(1, Value.ref qX), (0, Value.ref b)] [Value.ref qM]
    refine g_dup hC3 rfl dL_law_16 ?_
    refine g_aload_n hC3 dL_law_17 rfl 1 rfl ?_
    refine g_iconst hC3 dL_law_18 ?_
    refine g_cell hC3 (by decide) (hX0 12 373) hL (Nat.le_of_ble_eq_true rfl) dL_law_19 ?_
    refine g_ctor (na := 1) (wr := wX (cX, qX, fX) (z0, z0, z0, z0, z0, z0, z0, z0, z0, z0, nC (sx0 L xs), 0, 0, 0, -1, 0, 0)) 16 463 [11] [0, 1, 2, 3, 4, 5, 6, 7, 8, 9, 10] hC3 hRm (met_M_init _ _ qM (sx0 L xs) (sx0_rg L xs)) (by decide) (by decide) rfl q213 q214 q25 q215 rfl (by decide +kernel) ⟨rfl, rfl, rfl, rfl, rfl, by decide⟩ rfl (Nat.le_of_ble_eq_true rfl) rfl rfl (by decide) (by decide) dL_law_22 (fun u hC4 => ?_)
    obtain ⟨cM, fM⟩ := u
    have hC4 : gC (gCS K 16 463) code RX0 [(cX, .int), (cM, .int)] 8 4 := hC4
    show gW (gCS K 16 463) ((wX (cX, qX, fX) (z0, z0, z0, z0, z0, z0, z0, z0, z0, z0, nC (sx0 L xs), 0, 0, 0, -1, 0, 0)) ++ (wM (cM, qM, fM) (z0, z0, z0, z0, nC (sx0 L xs), p8 (nC (sx0 L xs)), 0, 0))) 25 [(1, Value.ref qX), (0, Value.ref b)] [Value.ref qM]
    refine g_astore_n hC4 [(2, Value.ref qM), (1, Value.ref qX), (0, Value.ref b)] dL_law_25 rfl (by decide) rfl ?_
    refine g_iconst hC4 dL_law_26 ?_
    refine g_istore_n hC4 [(3, vI 1), (2, Value.ref qM), (1, Value.ref qX), (0, Value.ref b)] dL_law_27 rfl (by decide) rfl ?_
    refine g_lv [3, 2, 1, 0] rfl ?_
    exact law_loop (oX := (cX, qX, fX)) (oM := (cM, qM, fM)) hC4 (hX0 16 463) hL hend (L + 5) 1 z0 z0 z0 z0 z0 z0 z0 z0 z0 z0 z0 z0 z0 z0 (nC (sx0 L xs)) 0 0 0 0 0 ⟨by omega, by omega⟩ (by omega) (rr_0 (nC_rg _) rfl)
  have hl := lv_entry ([.ref b]) (n := 4) (Nat.le_of_ble_eq_true rfl)
  rw [lg_entry_eq]
  subst hKe
  exact main _ s.heap [] hl hP hD va_S.rf
end
section
set_option maxHeartbeats 4000000 in
theorem lw_walk (l : Launch) (b : Addr) (xs : List Int32) : MetFree l x (headSpec (Jvm.Cond.code x code maxLocals ret :: tables_1) room_1) (lw_P b xs) (fun _ _ _ _ _ => True) lw_Q := by
  refine MetFree.of_bodyS (code := code) (maxLocals := maxLocals) (ret := ret) (by decide) ?_ ?_
  · intro args s m h hn
    obtain ⟨meth, c, h1, h2, h3, h4, h5, h6, -, -⟩ := Cond.code_spec hn (atoms_spec (ws := Jvm.Cond.code x code maxLocals ret :: tables_1) h _ List.mem_cons_self)
    exact ⟨meth, c, h1, h2, h3, h4, h5, h6⟩
  · intro p e s m args below meth c s₁ B hml0 hP _
    obtain ⟨rfl, hx, hbd, hgv⟩ := hP
    obtain ⟨scr, harrAt, hlist, hof, hsmall⟩ := hx
    obtain ⟨hcb, hkn, -, -⟩ := State.arrayAt?_spec harrAt
    have hown : s.vm.findClass R_law = some m.cls := findClass_of_methodNamed B.named
    have hts0 : ∀ c ∈ (Jvm.Cond.code x code maxLocals ret :: tables_1), c.before #[Value.ref b] s = true := atoms_spec (ws := Jvm.Cond.code x code maxLocals ret :: tables_1) B.pre
    have hts : ∀ w ∈ lw_tbl, w.before #[Value.ref b] s = true := k2_hts_sels lw_privs (fun w hw => hts0 w (List.mem_cons_of_mem _ hw)) lw_privs_ok
    have hml : c.maxLocals = 4 := B.maxLocals_eq (hts0 _ List.mem_cons_self)
    have X₀ : Stand p l e room_1 s m #[Value.ref b] below meth c s₁ [] 0 0 := Stand.of_body B
    have hh0 : s₁.heap = s.heap := by rw [B.state]; rfl
    have hsz : scr.slots.size = xs.length := by rw [← Array.length_toList, hlist, List.length_map]
    have hval : ∀ j : Nat, j < xs.length → scr.slots[j]? = some (.int (xs.getD j 0)) := fun j hj => by
      rw [← Array.getElem?_toList, hlist]
      simp [hj]
    have hbl : b < s.heap.size := (Array.getElem?_eq_some_iff.mp hcb).1
    have hX : va_X b xs.length (fun j => xs.getD j 0) s s.heap := ⟨scr, hcb, hof, hkn, hsz, hval⟩
    have K : W p l e room_1 s m #[Value.ref b] below meth c s₁.heap [] 0 0 (lw_Z below #[Value.ref b] s) (entryFrame m ([Value.ref b] : List Value).toArray 4) := by
      rw [hh0]
      exact whole_start l hbd ⟨B.exec, B.bytes, B.returns, hml, hown, hts, hX, hbl, B.notSynchronized, hgv⟩
    obtain ⟨t, a1, o, b1, b2, b3⟩ := K s₁ rfl X₀
    exact ⟨t, o, a1, b1, b2, b3⟩
theorem lw_pre_spec {args : Array Value} {s : State} (h : (Jvm.Cond.and given_1 narrow_1).before args s = true) (hr : rest_1_c.before args s = true) : ∃ (b : Addr) (xs : List Int32), lw_P b xs args s := by
  have hs := flat_of_before _ h
  have hq := flat_of_before _ hr
  have hc : (Cond.count 1).before args s = true := hs _ (by decide +kernel)
  have harr : (Cond.arrayOf (.arg 0) .int).before args s = true := hs _ (by decide +kernel)
  have hle : (Cond.le (.length (.arg 0)) (.int 257)).before args s = true := hs _ (by decide +kernel)
  have hlen : (Cond.isInt (.length (.arg 0))).before args s = true := hq _ (by decide +kernel)
  have hall : (Cond.all (.arg 0) (.isInt (.elem (.arg 0) (.index 0)))).before args s = true := hq _ (by decide +kernel)
  obtain ⟨b, xs, hb, hx⟩ := State.ints_of_pre rfl harr hlen hall
  have hsm : xs.length < 2 ^ 31 := hx.choose_spec.2.2.2
  have hev : (Term.length (.arg 0)).eval args s none [] s = some (.int xs.length.toInt32) := hx.length_eval hb
  have hv := Cond.le_ints hev (show (Term.int 257).eval args s none [] s = some (.int 257) from rfl)
  have hd : xs.length.toInt32 ≤ 257 := by
    simpa [Cond.before, Cond.holds, hv] using hle
  have hN : xs.length ≤ 257 := (Int32.ofNat_le_ofNat hsm (by decide)).mp (show Int32.ofNat xs.length ≤ Int32.ofNat 257 from hd)
  exact ⟨b, xs, Cond.one_arg hc (show args[0]? = some (.ref b) from hb), hx, hN, h⟩
theorem lw_comes (l : Launch) : Comes l x (Jvm.Cond.code x code maxLocals ret :: tables_1) room_1 (fun tb e args s => Calls_1 tb e args s ∧ rest_1 tb e args s ∧ Pre_1 tb e args s)
    (fun _ _ args s o t => lw_Q args s o t) := by
  intro p e ha hc hk s m args below hf hfit hheap happ hpre
  obtain ⟨b, xs, hP⟩ := lw_pre_spec hpre.2.2 hpre.2.1
  obtain ⟨k, o, h1, h2, h3, hQ⟩ := lw_walk l b xs p e ha hc hk s m args below hf ((Spec.applies_iff_loose hf).mp happ).1 hP trivial
  exact ⟨k, o, h1, h2, h3, hQ⟩
theorem lw_frame {s t : State} {o : Outcome} {args : Array Value} (h : Framed s o t [] 600000 7290000) :
    Framed s o t (fieldLocs frame_1_writes args s ++ arrayLocs frame_1_arrays args s ++ staticLocs frame_1_statics s) 600000 7290000 := h
theorem lw_limb (L : Cond) (hL : ∀ (args : Array Value) (s t : State), L.after args s (.returned (some (.int 1))) t = true) :
    ArmFor flags0 classFile x code maxLocals ret World_1 tables_1 room_1 Calls_1 rest_1 Pre_1
      (fun tb e a s o t => postC L tb e a s o t ∧ Framed s o t (fieldLocs frame_1_writes a s ++ arrayLocs frame_1_arrays a s ++ staticLocs frame_1_statics s) 600000 7290000) := by
  intro l _ _ _ p e ha hc hk s m args below hf hfit hheap happ hpre
  obtain ⟨k, o, h1, h2, h3, rfl, hF⟩ := lw_comes l p e ha hc hk s m args below hf hfit hheap happ hpre
  exact ⟨k, _, h1, h2, h3, hL args s _, lw_frame hF⟩
theorem i_vc : Claimed_1_1 ∧ Claimed_1_2 := ⟨lw_limb limb_1_1 (fun args s t => by simp [limb_1_1, Cond.after, Cond.holds, Cond.value]), lw_limb limb_1_2 (fun args s t => Cond.after_iff.mpr (by
  first | (rw [show limb_1_2 = Cond.eq .result (.int 1) from rfl, Cond.eq_ints (x := 1) (y := 1) rfl rfl]; simp; done) | (simp [limb_1_2, Cond.value, Term.eval]; done)))⟩
end
