section
-- ===== PART A: goes FIRST, ahead of the names: the tables' words, and 'selects' of the private methods out of them =====
/-- a private method of a class that the tables say can be made, by its rows of tables_1 -/
def lw_okq (q : MethodName × Nat) : Prop := (q.1.cls ≠ "java/lang/invoke/MethodHandle" ∧ q.1.cls ≠ "java/lang/invoke/VarHandle") ∧ Cond.instantiable q.1.cls q.2 ∈ tables_1 ∧ Cond.privateMethod q.1 ∈ tables_1 ∧ Cond.instanceMethod q.1 ∈ tables_1
set_option maxRecDepth 100000
theorem lw_t1 {w : Cond} (h : w ∈ tables_1_1) : w ∈ tables_1 := List.mem_append_left _ h
theorem lw_t2 {w : Cond} (h : w ∈ tables_1_2) : w ∈ tables_1 := List.mem_append_right _ h
theorem lw_p0 : lw_okq (⟨"NaiveNulls", "isCellValue", "(I)Z"⟩, 20) := ⟨⟨by decide +kernel, by decide +kernel⟩, lw_t1 (List.mem_of_getElem? (i := 4) rfl), lw_t1 (List.mem_of_getElem? (i := 78) rfl), lw_t1 (List.mem_of_getElem? (i := 79) rfl)⟩
theorem lw_p1 : lw_okq (⟨"NaiveNulls", "isTerm", "(I)Z"⟩, 20) := ⟨⟨by decide +kernel, by decide +kernel⟩, lw_t1 (List.mem_of_getElem? (i := 4) rfl), lw_t1 (List.mem_of_getElem? (i := 94) rfl), lw_t1 (List.mem_of_getElem? (i := 95) rfl)⟩
theorem lw_p2 : lw_okq (⟨"NaiveNulls", "evaluate", "()V"⟩, 20) := ⟨⟨by decide +kernel, by decide +kernel⟩, lw_t1 (List.mem_of_getElem? (i := 4) rfl), lw_t1 (List.mem_of_getElem? (i := 110) rfl), lw_t1 (List.mem_of_getElem? (i := 111) rfl)⟩
theorem lw_p3 : lw_okq (⟨"NaiveNulls", "isSafe", "(I)Z"⟩, 20) := ⟨⟨by decide +kernel, by decide +kernel⟩, lw_t1 (List.mem_of_getElem? (i := 4) rfl), lw_t1 (List.mem_of_getElem? (i := 114) rfl), lw_t1 (List.mem_of_getElem? (i := 115) rfl)⟩
theorem lw_p4 : lw_okq (⟨"NaiveNulls", "inBody", "(II)Z"⟩, 20) := ⟨⟨by decide +kernel, by decide +kernel⟩, lw_t1 (List.mem_of_getElem? (i := 4) rfl), lw_t1 (List.mem_of_getElem? (i := 118) rfl), lw_t1 (List.mem_of_getElem? (i := 119) rfl)⟩
theorem lw_p5 : lw_okq (⟨"NaiveNulls", "matchRule", "(I)V"⟩, 20) := ⟨⟨by decide +kernel, by decide +kernel⟩, lw_t1 (List.mem_of_getElem? (i := 4) rfl), lw_t1 (List.mem_of_getElem? (i := 122) rfl), lw_t1 (List.mem_of_getElem? (i := 123) rfl)⟩
theorem lw_p6 : lw_okq (⟨"NaiveNulls", "save", "(I)V"⟩, 20) := ⟨⟨by decide +kernel, by decide +kernel⟩, lw_t1 (List.mem_of_getElem? (i := 4) rfl), lw_t1 (List.mem_of_getElem? (i := 126) rfl), lw_t1 (List.mem_of_getElem? (i := 127) rfl)⟩
theorem lw_p7 : lw_okq (⟨"NaiveNulls", "restore", "(I)V"⟩, 20) := ⟨⟨by decide +kernel, by decide +kernel⟩, lw_t1 (List.mem_of_getElem? (i := 4) rfl), lw_t1 (List.mem_of_getElem? (i := 130) rfl), lw_t1 (List.mem_of_getElem? (i := 131) rfl)⟩
theorem lw_p8 : lw_okq (⟨"NaiveNulls", "finish", "(I)V"⟩, 20) := ⟨⟨by decide +kernel, by decide +kernel⟩, lw_t1 (List.mem_of_getElem? (i := 4) rfl), lw_t1 (List.mem_of_getElem? (i := 134) rfl), lw_t1 (List.mem_of_getElem? (i := 135) rfl)⟩
theorem lw_p9 : lw_okq (⟨"NaiveNulls", "unify", "(II)Z"⟩, 20) := ⟨⟨by decide +kernel, by decide +kernel⟩, lw_t1 (List.mem_of_getElem? (i := 4) rfl), lw_t1 (List.mem_of_getElem? (i := 138) rfl), lw_t1 (List.mem_of_getElem? (i := 139) rfl)⟩
theorem lw_p10 : lw_okq (⟨"NaiveNulls", "valueOf", "(I)I"⟩, 20) := ⟨⟨by decide +kernel, by decide +kernel⟩, lw_t1 (List.mem_of_getElem? (i := 4) rfl), lw_t1 (List.mem_of_getElem? (i := 142) rfl), lw_t1 (List.mem_of_getElem? (i := 143) rfl)⟩
theorem lw_p11 : lw_okq (⟨"NaiveNulls", "slotOf", "(I)I"⟩, 20) := ⟨⟨by decide +kernel, by decide +kernel⟩, lw_t1 (List.mem_of_getElem? (i := 4) rfl), lw_t1 (List.mem_of_getElem? (i := 146) rfl), lw_t1 (List.mem_of_getElem? (i := 147) rfl)⟩
theorem lw_p12 : lw_okq (⟨"NaiveNullsModel", "isTable", "(I)Z"⟩, 13) := ⟨⟨by decide +kernel, by decide +kernel⟩, lw_t1 (List.mem_of_getElem? (i := 162) rfl), lw_t1 (List.mem_of_getElem? (i := 214) rfl), lw_t1 (List.mem_of_getElem? (i := 215) rfl)⟩
theorem lw_p13 : lw_okq (⟨"NaiveNullsModel", "isValue", "(I)Z"⟩, 13) := ⟨⟨by decide +kernel, by decide +kernel⟩, lw_t1 (List.mem_of_getElem? (i := 162) rfl), lw_t1 (List.mem_of_getElem? (i := 218) rfl), lw_t1 (List.mem_of_getElem? (i := 219) rfl)⟩
theorem lw_p14 : lw_okq (⟨"NaiveNullsModel", "isTerm", "(I)Z"⟩, 13) := ⟨⟨by decide +kernel, by decide +kernel⟩, lw_t1 (List.mem_of_getElem? (i := 162) rfl), lw_t1 (List.mem_of_getElem? (i := 234) rfl), lw_t1 (List.mem_of_getElem? (i := 235) rfl)⟩
theorem lw_p15 : lw_okq (⟨"NaiveNullsModel", "isCouple", "(II)Z"⟩, 13) := ⟨⟨by decide +kernel, by decide +kernel⟩, lw_t1 (List.mem_of_getElem? (i := 162) rfl), lw_t2 (List.mem_of_getElem? (i := 10) rfl), lw_t2 (List.mem_of_getElem? (i := 11) rfl)⟩
def lw_privs_1 : List (MethodName × Nat) := [(⟨"NaiveNulls", "isCellValue", "(I)Z"⟩, 20), (⟨"NaiveNulls", "isTerm", "(I)Z"⟩, 20), (⟨"NaiveNulls", "evaluate", "()V"⟩, 20), (⟨"NaiveNulls", "isSafe", "(I)Z"⟩, 20), (⟨"NaiveNulls", "inBody", "(II)Z"⟩, 20), (⟨"NaiveNulls", "matchRule", "(I)V"⟩, 20), (⟨"NaiveNulls", "save", "(I)V"⟩, 20), (⟨"NaiveNulls", "restore", "(I)V"⟩, 20), (⟨"NaiveNulls", "finish", "(I)V"⟩, 20), (⟨"NaiveNulls", "unify", "(II)Z"⟩, 20), (⟨"NaiveNulls", "valueOf", "(I)I"⟩, 20), (⟨"NaiveNulls", "slotOf", "(I)I"⟩, 20), (⟨"NaiveNullsModel", "isTable", "(I)Z"⟩, 13), (⟨"NaiveNullsModel", "isValue", "(I)Z"⟩, 13), (⟨"NaiveNullsModel", "isTerm", "(I)Z"⟩, 13), (⟨"NaiveNullsModel", "isCouple", "(II)Z"⟩, 13)]
theorem lw_r1 : ∀ q ∈ lw_privs_1, lw_okq q := List.forall_mem_cons.mpr ⟨lw_p0, List.forall_mem_cons.mpr ⟨lw_p1, List.forall_mem_cons.mpr ⟨lw_p2, List.forall_mem_cons.mpr ⟨lw_p3, List.forall_mem_cons.mpr ⟨lw_p4, List.forall_mem_cons.mpr ⟨lw_p5, List.forall_mem_cons.mpr ⟨lw_p6, List.forall_mem_cons.mpr ⟨lw_p7, List.forall_mem_cons.mpr ⟨lw_p8, List.forall_mem_cons.mpr ⟨lw_p9, List.forall_mem_cons.mpr ⟨lw_p10, List.forall_mem_cons.mpr ⟨lw_p11, List.forall_mem_cons.mpr ⟨lw_p12, List.forall_mem_cons.mpr ⟨lw_p13, List.forall_mem_cons.mpr ⟨lw_p14, List.forall_mem_cons.mpr ⟨lw_p15, fun _ h => absurd h List.not_mem_nil⟩⟩⟩⟩⟩⟩⟩⟩⟩⟩⟩⟩⟩⟩⟩⟩
theorem lw_p16 : lw_okq (⟨"NaiveNullsModel", "evaluate", "()V"⟩, 13) := ⟨⟨by decide +kernel, by decide +kernel⟩, lw_t1 (List.mem_of_getElem? (i := 162) rfl), lw_t2 (List.mem_of_getElem? (i := 14) rfl), lw_t2 (List.mem_of_getElem? (i := 15) rfl)⟩
theorem lw_p17 : lw_okq (⟨"NaiveNullsModel", "complete", "(I)Z"⟩, 13) := ⟨⟨by decide +kernel, by decide +kernel⟩, lw_t1 (List.mem_of_getElem? (i := 162) rfl), lw_t2 (List.mem_of_getElem? (i := 18) rfl), lw_t2 (List.mem_of_getElem? (i := 19) rfl)⟩
theorem lw_p18 : lw_okq (⟨"NaiveNullsModel", "apply", "(I)V"⟩, 13) := ⟨⟨by decide +kernel, by decide +kernel⟩, lw_t1 (List.mem_of_getElem? (i := 162) rfl), lw_t2 (List.mem_of_getElem? (i := 22) rfl), lw_t2 (List.mem_of_getElem? (i := 23) rfl)⟩
theorem lw_p19 : lw_okq (⟨"NaiveNullsModel", "fits", "(II)Z"⟩, 13) := ⟨⟨by decide +kernel, by decide +kernel⟩, lw_t1 (List.mem_of_getElem? (i := 162) rfl), lw_t2 (List.mem_of_getElem? (i := 26) rfl), lw_t2 (List.mem_of_getElem? (i := 27) rfl)⟩
theorem lw_p20 : lw_okq (⟨"NaiveNullsModel", "constantAt", "(I)I"⟩, 13) := ⟨⟨by decide +kernel, by decide +kernel⟩, lw_t1 (List.mem_of_getElem? (i := 162) rfl), lw_t2 (List.mem_of_getElem? (i := 30) rfl), lw_t2 (List.mem_of_getElem? (i := 31) rfl)⟩
theorem lw_p21 : lw_okq (⟨"NaiveNullsModel", "fit", "(II)Z"⟩, 13) := ⟨⟨by decide +kernel, by decide +kernel⟩, lw_t1 (List.mem_of_getElem? (i := 162) rfl), lw_t2 (List.mem_of_getElem? (i := 34) rfl), lw_t2 (List.mem_of_getElem? (i := 35) rfl)⟩
theorem lw_p22 : lw_okq (⟨"NaiveNullsModel", "headOf", "(I)I"⟩, 13) := ⟨⟨by decide +kernel, by decide +kernel⟩, lw_t1 (List.mem_of_getElem? (i := 162) rfl), lw_t2 (List.mem_of_getElem? (i := 38) rfl), lw_t2 (List.mem_of_getElem? (i := 39) rfl)⟩
def lw_privs_2 : List (MethodName × Nat) := [(⟨"NaiveNullsModel", "evaluate", "()V"⟩, 13), (⟨"NaiveNullsModel", "complete", "(I)Z"⟩, 13), (⟨"NaiveNullsModel", "apply", "(I)V"⟩, 13), (⟨"NaiveNullsModel", "fits", "(II)Z"⟩, 13), (⟨"NaiveNullsModel", "constantAt", "(I)I"⟩, 13), (⟨"NaiveNullsModel", "fit", "(II)Z"⟩, 13), (⟨"NaiveNullsModel", "headOf", "(I)I"⟩, 13)]
theorem lw_r2 : ∀ q ∈ lw_privs_2, lw_okq q := List.forall_mem_cons.mpr ⟨lw_p16, List.forall_mem_cons.mpr ⟨lw_p17, List.forall_mem_cons.mpr ⟨lw_p18, List.forall_mem_cons.mpr ⟨lw_p19, List.forall_mem_cons.mpr ⟨lw_p20, List.forall_mem_cons.mpr ⟨lw_p21, List.forall_mem_cons.mpr ⟨lw_p22, fun _ h => absurd h List.not_mem_nil⟩⟩⟩⟩⟩⟩⟩
def lw_privs : List (MethodName × Nat) := lw_privs_1 ++ (lw_privs_2)
def lw_tbl : List Cond := k2_sels lw_privs ++ tables_1
theorem lw_privs_ok : ∀ q ∈ lw_privs, lw_okq q := by
  show ∀ q ∈ lw_privs_1 ++ (lw_privs_2), lw_okq q
  exact List.forall_mem_append.mpr ⟨lw_r1, lw_r2⟩
-- ===== ONE list of words for every method: the tables' words that hold all through a run =====
def lw_all : List Cond := lw_tbl.filter goodWord
/-- a word of the tables by its place: claim/WORDS.tsv -/
theorem lw_w {w : Cond} (i : Nat) (h : lw_tbl[i]? = some w) (g : goodWord w = true) : w ∈ lw_all := List.mem_filter.mpr ⟨List.mem_of_getElem? h, g⟩
theorem lw_all_tbl {w : Cond} (h : w ∈ lw_all) : w ∈ lw_tbl := (List.mem_filter.mp h).1
theorem lw_self : GoodIn lw_all lw_all := fun w h => ⟨h, good_of_word (List.mem_filter.mp h).2⟩
/-- a class's field words, by their places -/
theorem lw_in (ws : List Cond) (ps : List Nat) (hp : ws = ps.filterMap (fun i => lw_tbl[i]?)) (hg : ws.all goodWord = true) : ∀ w ∈ ws, w ∈ lw_all := by
  intro w h
  have h1 := List.all_eq_true.mp hg w h
  rw [hp] at h
  obtain ⟨i, -, hi⟩ := List.mem_filterMap.mp h
  exact lw_w i hi h1
/-- the words of a contract for the method y with code b, L locals, answer r -/
abbrev ws_ (y : MethodName) (b : ByteArray) (L : Nat) (r : Option FieldType) : List Cond := Cond.code y b L r :: lw_all
theorem lw_meth {y : MethodName} {b : ByteArray} {L : Nat} {r : Option FieldType} (h : Cond.code y b L r ∈ lw_all) : GoodIn lw_all (ws_ y b L r) := by
  intro w hw
  rcases List.mem_cons.mp hw with e | e
  · rw [e]
    exact lw_self _ h
  · exact lw_self _ e
theorem lw_app {a c : List Cond} (ha : ∀ w ∈ a, w ∈ lw_all) (hc : GoodIn lw_all c) : GoodIn lw_all (a ++ c) := by
  intro w hw
  rcases List.mem_append.mp hw with e | e
  · exact lw_self w (ha w e)
  · exact hc w e
/-- what a call through an object asks: cwV n hts (lw_V ..) -/
theorem lw_V {own : String} {idx : Nat} {C : String} {y : MethodName} {b : ByteArray} {L : Nat} {r : Option FieldType} (h1 : Cond.methodLink own idx y ∈ lw_all) (h2 : Cond.instanceMethod y ∈ lw_all) (h3 : Cond.selects C y y ∈ lw_all) (h4 : Cond.initialized C ∈ lw_all) (h5 : Cond.code y b L r ∈ lw_all) : GoodIn lw_all (wsV own idx C y (ws_ y b L r)) := by
  refine lw_app ?_ (lw_meth h5)
  intro w hw
  simp only [List.mem_cons, List.not_mem_nil, or_false] at hw
  rcases hw with e | e | e | e
  · rw [e]; exact h1
  · rw [e]; exact h2
  · rw [e]; exact h3
  · rw [e]; exact h4
/-- what a static call asks: va_cwS n hts (lw_S ..) -/
theorem lw_S {own : String} {idx : Nat} {y : MethodName} {b : ByteArray} {L : Nat} {r : Option FieldType} (h1 : Cond.methodLink own idx y ∈ lw_all) (h2 : Cond.static y ∈ lw_all) (h3 : Cond.initialized y.cls ∈ lw_all) (h4 : Cond.code y b L r ∈ lw_all) : GoodIn lw_all (va_wsS own idx y (ws_ y b L r)) := by
  refine lw_app ?_ (lw_meth h4)
  intro w hw
  simp only [List.mem_cons, List.not_mem_nil, or_false] at hw
  rcases hw with e | e | e
  · rw [e]; exact h1
  · rw [e]; exact h2
  · rw [e]; exact h3
/-- the words of a contract for a method WITH HANDLERS (hh: its table) -/
abbrev wsW_ (y : MethodName) (b : ByteArray) (L : Nat) (r : Option FieldType) (hh : List (Nat × Nat × Nat × Nat)) : List Cond := Cond.codeWith y b L r hh :: lw_all
theorem lw_methW {y : MethodName} {b : ByteArray} {L : Nat} {r : Option FieldType} {hh : List (Nat × Nat × Nat × Nat)} (h : Cond.codeWith y b L r hh ∈ lw_all) : GoodIn lw_all (wsW_ y b L r hh) := by
  intro w hw
  rcases List.mem_cons.mp hw with e | e
  · rw [e]
    exact lw_self _ h
  · exact lw_self _ e
/-- any list of words by their places (lw_in), good -/
theorem lw_good {ws : List Cond} (h : ∀ w ∈ ws, w ∈ lw_all) : GoodIn lw_all ws := fun w hw => lw_self w (h w hw)
/-- what a call of a method with handlers asks: vx_cwVW n hts (lw_VW ..), vx_cwSW n hts (lw_SW ..) -/
theorem lw_VW {own : String} {idx : Nat} {C : String} {y : MethodName} {b : ByteArray} {L : Nat} {r : Option FieldType} {hh : List (Nat × Nat × Nat × Nat)} (h1 : Cond.methodLink own idx y ∈ lw_all) (h2 : Cond.instanceMethod y ∈ lw_all) (h3 : Cond.selects C y y ∈ lw_all) (h4 : Cond.initialized C ∈ lw_all) (h5 : Cond.codeWith y b L r hh ∈ lw_all) : GoodIn lw_all (wsV own idx C y (wsW_ y b L r hh)) := by
  refine lw_app ?_ (lw_methW h5)
  intro w hw
  simp only [List.mem_cons, List.not_mem_nil, or_false] at hw
  rcases hw with e | e | e | e
  · rw [e]; exact h1
  · rw [e]; exact h2
  · rw [e]; exact h3
  · rw [e]; exact h4
theorem lw_SW {own : String} {idx : Nat} {y : MethodName} {b : ByteArray} {L : Nat} {r : Option FieldType} {hh : List (Nat × Nat × Nat × Nat)} (h1 : Cond.methodLink own idx y ∈ lw_all) (h2 : Cond.static y ∈ lw_all) (h3 : Cond.initialized y.cls ∈ lw_all) (h4 : Cond.codeWith y b L r hh ∈ lw_all) : GoodIn lw_all (va_wsS own idx y (wsW_ y b L r hh)) := by
  refine lw_app ?_ (lw_methW h4)
  intro w hw
  simp only [List.mem_cons, List.not_mem_nil, or_false] at hw
  rcases hw with e | e | e
  · rw [e]; exact h1
  · rw [e]; exact h2
  · rw [e]; exact h3
/-- a word by its place in its run of the tables -/
theorem lw_at {r : List Cond} (hr : ∀ w ∈ r, w ∈ lw_tbl) {w : Cond} (i : Nat) (h : r[i]? = some w) : w ∈ lw_tbl := hr w (List.mem_of_getElem? h)
theorem lw_g {w : Cond} (h : w ∈ lw_tbl) (g : goodWord w = true) : w ∈ lw_all := List.mem_filter.mpr ⟨h, g⟩
theorem lw_ms : ∀ w ∈ k2_sels lw_privs, w ∈ lw_tbl := fun w h => show w ∈ k2_sels lw_privs ++ tables_1 from List.mem_append_left _ h
theorem lw_m1 : ∀ w ∈ tables_1_1, w ∈ lw_tbl := fun w h => show w ∈ k2_sels lw_privs ++ tables_1 from List.mem_append_right (k2_sels lw_privs) (show w ∈ tables_1 from List.mem_append_left _ h)
theorem lw_m2 : ∀ w ∈ tables_1_2, w ∈ lw_tbl := fun w h => show w ∈ k2_sels lw_privs ++ tables_1 from List.mem_append_right (k2_sels lw_privs) (show w ∈ tables_1 from List.mem_append_right _ h)
theorem qs0 : (Cond.selects "NaiveNulls" ⟨"NaiveNulls", "isCellValue", "(I)Z"⟩ ⟨"NaiveNulls", "isCellValue", "(I)Z"⟩) ∈ lw_all := lw_g (lw_at lw_ms 0 rfl) rfl
theorem qs1 : (Cond.selects "NaiveNulls" ⟨"NaiveNulls", "isTerm", "(I)Z"⟩ ⟨"NaiveNulls", "isTerm", "(I)Z"⟩) ∈ lw_all := lw_g (lw_at lw_ms 1 rfl) rfl
theorem qs2 : (Cond.selects "NaiveNulls" ⟨"NaiveNulls", "evaluate", "()V"⟩ ⟨"NaiveNulls", "evaluate", "()V"⟩) ∈ lw_all := lw_g (lw_at lw_ms 2 rfl) rfl
theorem qs3 : (Cond.selects "NaiveNulls" ⟨"NaiveNulls", "isSafe", "(I)Z"⟩ ⟨"NaiveNulls", "isSafe", "(I)Z"⟩) ∈ lw_all := lw_g (lw_at lw_ms 3 rfl) rfl
theorem qs4 : (Cond.selects "NaiveNulls" ⟨"NaiveNulls", "inBody", "(II)Z"⟩ ⟨"NaiveNulls", "inBody", "(II)Z"⟩) ∈ lw_all := lw_g (lw_at lw_ms 4 rfl) rfl
theorem qs5 : (Cond.selects "NaiveNulls" ⟨"NaiveNulls", "matchRule", "(I)V"⟩ ⟨"NaiveNulls", "matchRule", "(I)V"⟩) ∈ lw_all := lw_g (lw_at lw_ms 5 rfl) rfl
theorem qs6 : (Cond.selects "NaiveNulls" ⟨"NaiveNulls", "save", "(I)V"⟩ ⟨"NaiveNulls", "save", "(I)V"⟩) ∈ lw_all := lw_g (lw_at lw_ms 6 rfl) rfl
theorem qs7 : (Cond.selects "NaiveNulls" ⟨"NaiveNulls", "restore", "(I)V"⟩ ⟨"NaiveNulls", "restore", "(I)V"⟩) ∈ lw_all := lw_g (lw_at lw_ms 7 rfl) rfl
theorem qs8 : (Cond.selects "NaiveNulls" ⟨"NaiveNulls", "finish", "(I)V"⟩ ⟨"NaiveNulls", "finish", "(I)V"⟩) ∈ lw_all := lw_g (lw_at lw_ms 8 rfl) rfl
theorem qs9 : (Cond.selects "NaiveNulls" ⟨"NaiveNulls", "unify", "(II)Z"⟩ ⟨"NaiveNulls", "unify", "(II)Z"⟩) ∈ lw_all := lw_g (lw_at lw_ms 9 rfl) rfl
theorem qs10 : (Cond.selects "NaiveNulls" ⟨"NaiveNulls", "valueOf", "(I)I"⟩ ⟨"NaiveNulls", "valueOf", "(I)I"⟩) ∈ lw_all := lw_g (lw_at lw_ms 10 rfl) rfl
theorem qs11 : (Cond.selects "NaiveNulls" ⟨"NaiveNulls", "slotOf", "(I)I"⟩ ⟨"NaiveNulls", "slotOf", "(I)I"⟩) ∈ lw_all := lw_g (lw_at lw_ms 11 rfl) rfl
theorem qs12 : (Cond.selects "NaiveNullsModel" ⟨"NaiveNullsModel", "isTable", "(I)Z"⟩ ⟨"NaiveNullsModel", "isTable", "(I)Z"⟩) ∈ lw_all := lw_g (lw_at lw_ms 12 rfl) rfl
theorem qs13 : (Cond.selects "NaiveNullsModel" ⟨"NaiveNullsModel", "isValue", "(I)Z"⟩ ⟨"NaiveNullsModel", "isValue", "(I)Z"⟩) ∈ lw_all := lw_g (lw_at lw_ms 13 rfl) rfl
theorem qs14 : (Cond.selects "NaiveNullsModel" ⟨"NaiveNullsModel", "isTerm", "(I)Z"⟩ ⟨"NaiveNullsModel", "isTerm", "(I)Z"⟩) ∈ lw_all := lw_g (lw_at lw_ms 14 rfl) rfl
theorem qs15 : (Cond.selects "NaiveNullsModel" ⟨"NaiveNullsModel", "isCouple", "(II)Z"⟩ ⟨"NaiveNullsModel", "isCouple", "(II)Z"⟩) ∈ lw_all := lw_g (lw_at lw_ms 15 rfl) rfl
theorem qs16 : (Cond.selects "NaiveNullsModel" ⟨"NaiveNullsModel", "evaluate", "()V"⟩ ⟨"NaiveNullsModel", "evaluate", "()V"⟩) ∈ lw_all := lw_g (lw_at lw_ms 16 rfl) rfl
theorem qs17 : (Cond.selects "NaiveNullsModel" ⟨"NaiveNullsModel", "complete", "(I)Z"⟩ ⟨"NaiveNullsModel", "complete", "(I)Z"⟩) ∈ lw_all := lw_g (lw_at lw_ms 17 rfl) rfl
theorem qs18 : (Cond.selects "NaiveNullsModel" ⟨"NaiveNullsModel", "apply", "(I)V"⟩ ⟨"NaiveNullsModel", "apply", "(I)V"⟩) ∈ lw_all := lw_g (lw_at lw_ms 18 rfl) rfl
theorem qs19 : (Cond.selects "NaiveNullsModel" ⟨"NaiveNullsModel", "fits", "(II)Z"⟩ ⟨"NaiveNullsModel", "fits", "(II)Z"⟩) ∈ lw_all := lw_g (lw_at lw_ms 19 rfl) rfl
theorem qs20 : (Cond.selects "NaiveNullsModel" ⟨"NaiveNullsModel", "constantAt", "(I)I"⟩ ⟨"NaiveNullsModel", "constantAt", "(I)I"⟩) ∈ lw_all := lw_g (lw_at lw_ms 20 rfl) rfl
theorem qs21 : (Cond.selects "NaiveNullsModel" ⟨"NaiveNullsModel", "fit", "(II)Z"⟩ ⟨"NaiveNullsModel", "fit", "(II)Z"⟩) ∈ lw_all := lw_g (lw_at lw_ms 21 rfl) rfl
theorem qs22 : (Cond.selects "NaiveNullsModel" ⟨"NaiveNullsModel", "headOf", "(I)I"⟩ ⟨"NaiveNullsModel", "headOf", "(I)I"⟩) ∈ lw_all := lw_g (lw_at lw_ms 22 rfl) rfl
end
section
/-! NaiveNulls -/
set_option maxRecDepth 100000
def RX0 : String := "NaiveNulls"
def TX0 : u_T := fun k => match k with
  | 0 => ("NaiveNulls", "rowCount", "[B", true)
  | 1 => ("NaiveNulls", "rowX", "[B", true)
  | 2 => ("NaiveNulls", "rowY", "[B", true)
  | 3 => ("NaiveNulls", "ruleCount", "I", false)
  | 4 => ("NaiveNulls", "headX", "[B", true)
  | 5 => ("NaiveNulls", "headY", "[B", true)
  | 6 => ("NaiveNulls", "atomCount", "[B", true)
  | 7 => ("NaiveNulls", "atomTable", "[B", true)
  | 8 => ("NaiveNulls", "atomX", "[B", true)
  | 9 => ("NaiveNulls", "atomY", "[B", true)
  | 10 => ("NaiveNulls", "bound", "[B", true)
  | 11 => ("NaiveNulls", "frameRow", "[B", true)
  | 12 => ("NaiveNulls", "frameBound", "[B", true)
  | 13 => ("NaiveNulls", "strict", "Z", false)
  | 14 => ("NaiveNulls", "goalX", "I", false)
  | 15 => ("NaiveNulls", "goalY", "I", false)
  | 16 => ("NaiveNulls", "goalMet", "Z", false)
  | 17 => ("NaiveNulls", "evaluated", "Z", false)
  | 18 => ("NaiveNulls", "certainSet", "J", false)
  | _ => ("NaiveNulls", "anyAnswer", "Z", false)
def tyX0 : Nat → FieldType := fun k => match k with
  | 0 => .array .byte
  | 1 => .array .byte
  | 2 => .array .byte
  | 3 => .int
  | 4 => .array .byte
  | 5 => .array .byte
  | 6 => .array .byte
  | 7 => .array .byte
  | 8 => .array .byte
  | 9 => .array .byte
  | 10 => .array .byte
  | 11 => .array .byte
  | 12 => .array .byte
  | 13 => .boolean
  | 14 => .int
  | 15 => .int
  | 16 => .boolean
  | 17 => .boolean
  | 18 => .long
  | _ => .boolean
abbrev wsX00 : List Cond := u_ws RX0 TX0 20
set_option maxRecDepth 100000 in
theorem nmX0 : ∀ a, a < 20 → ∀ b, b < 20 → a ≠ b → (TX0 a).2.1 ≠ (TX0 b).2.1 := by decide +kernel
set_option maxRecDepth 100000 in
theorem tyX0_ok : ∀ k, k < 20 → parseFieldDescriptor (TX0 k).2.2.1 = some (tyX0 k) := by decide +kernel
abbrev cX0_init : ByteArray := prog_1_method_1_code
def yX0_init : MethodName := ⟨RX0, "<init>", "()V"⟩
theorem dX0_init_0 : decode cX0_init 0 = .ok (.aload_n 0, 1) := by decide +kernel
theorem dX0_init_1 : decode cX0_init 1 = .ok (.invokespecial 1, 3) := by decide +kernel
theorem dX0_init_4 : decode cX0_init 4 = .ok (.aload_n 0, 1) := by decide +kernel
theorem dX0_init_5 : decode cX0_init 5 = .ok (.iconst 2, 1) := by decide +kernel
theorem dX0_init_6 : decode cX0_init 6 = .ok (.newarray .byte, 2) := by decide +kernel
theorem dX0_init_8 : decode cX0_init 8 = .ok (.putfield 7, 3) := by decide +kernel
theorem dX0_init_11 : decode cX0_init 11 = .ok (.aload_n 0, 1) := by decide +kernel
theorem dX0_init_12 : decode cX0_init 12 = .ok (.bipush 10, 2) := by decide +kernel
theorem dX0_init_14 : decode cX0_init 14 = .ok (.newarray .byte, 2) := by decide +kernel
theorem dX0_init_16 : decode cX0_init 16 = .ok (.putfield 13, 3) := by decide +kernel
theorem dX0_init_19 : decode cX0_init 19 = .ok (.aload_n 0, 1) := by decide +kernel
theorem dX0_init_20 : decode cX0_init 20 = .ok (.bipush 10, 2) := by decide +kernel
theorem dX0_init_22 : decode cX0_init 22 = .ok (.newarray .byte, 2) := by decide +kernel
theorem dX0_init_24 : decode cX0_init 24 = .ok (.putfield 16, 3) := by decide +kernel
theorem dX0_init_27 : decode cX0_init 27 = .ok (.aload_n 0, 1) := by decide +kernel
theorem dX0_init_28 : decode cX0_init 28 = .ok (.iconst 2, 1) := by decide +kernel
theorem dX0_init_29 : decode cX0_init 29 = .ok (.newarray .byte, 2) := by decide +kernel
theorem dX0_init_31 : decode cX0_init 31 = .ok (.putfield 19, 3) := by decide +kernel
theorem dX0_init_34 : decode cX0_init 34 = .ok (.aload_n 0, 1) := by decide +kernel
theorem dX0_init_35 : decode cX0_init 35 = .ok (.iconst 2, 1) := by decide +kernel
theorem dX0_init_36 : decode cX0_init 36 = .ok (.newarray .byte, 2) := by decide +kernel
theorem dX0_init_38 : decode cX0_init 38 = .ok (.putfield 22, 3) := by decide +kernel
theorem dX0_init_41 : decode cX0_init 41 = .ok (.aload_n 0, 1) := by decide +kernel
theorem dX0_init_42 : decode cX0_init 42 = .ok (.iconst 2, 1) := by decide +kernel
theorem dX0_init_43 : decode cX0_init 43 = .ok (.newarray .byte, 2) := by decide +kernel
theorem dX0_init_45 : decode cX0_init 45 = .ok (.putfield 25, 3) := by decide +kernel
theorem dX0_init_48 : decode cX0_init 48 = .ok (.aload_n 0, 1) := by decide +kernel
theorem dX0_init_49 : decode cX0_init 49 = .ok (.bipush 6, 2) := by decide +kernel
theorem dX0_init_51 : decode cX0_init 51 = .ok (.newarray .byte, 2) := by decide +kernel
theorem dX0_init_53 : decode cX0_init 53 = .ok (.putfield 28, 3) := by decide +kernel
theorem dX0_init_56 : decode cX0_init 56 = .ok (.aload_n 0, 1) := by decide +kernel
theorem dX0_init_57 : decode cX0_init 57 = .ok (.bipush 6, 2) := by decide +kernel
theorem dX0_init_59 : decode cX0_init 59 = .ok (.newarray .byte, 2) := by decide +kernel
theorem dX0_init_61 : decode cX0_init 61 = .ok (.putfield 31, 3) := by decide +kernel
theorem dX0_init_64 : decode cX0_init 64 = .ok (.aload_n 0, 1) := by decide +kernel
theorem dX0_init_65 : decode cX0_init 65 = .ok (.bipush 6, 2) := by decide +kernel
theorem dX0_init_67 : decode cX0_init 67 = .ok (.newarray .byte, 2) := by decide +kernel
theorem dX0_init_69 : decode cX0_init 69 = .ok (.putfield 34, 3) := by decide +kernel
theorem dX0_init_72 : decode cX0_init 72 = .ok (.aload_n 0, 1) := by decide +kernel
theorem dX0_init_73 : decode cX0_init 73 = .ok (.bipush 7, 2) := by decide +kernel
theorem dX0_init_75 : decode cX0_init 75 = .ok (.newarray .byte, 2) := by decide +kernel
theorem dX0_init_77 : decode cX0_init 77 = .ok (.putfield 37, 3) := by decide +kernel
theorem dX0_init_80 : decode cX0_init 80 = .ok (.aload_n 0, 1) := by decide +kernel
theorem dX0_init_81 : decode cX0_init 81 = .ok (.iconst 4, 1) := by decide +kernel
theorem dX0_init_82 : decode cX0_init 82 = .ok (.newarray .byte, 2) := by decide +kernel
theorem dX0_init_84 : decode cX0_init 84 = .ok (.putfield 40, 3) := by decide +kernel
theorem dX0_init_87 : decode cX0_init 87 = .ok (.aload_n 0, 1) := by decide +kernel
theorem dX0_init_88 : decode cX0_init 88 = .ok (.bipush 28, 2) := by decide +kernel
theorem dX0_init_90 : decode cX0_init 90 = .ok (.newarray .byte, 2) := by decide +kernel
theorem dX0_init_92 : decode cX0_init 92 = .ok (.putfield 43, 3) := by decide +kernel
theorem dX0_init_95 : decode cX0_init 95 = .ok (.return_, 1) := by decide +kernel
abbrev cX0_addRow : ByteArray := prog_1_method_2_code
def yX0_addRow : MethodName := ⟨RX0, "addRow", "(III)I"⟩
theorem dX0_addRow_0 : decode cX0_addRow 0 = .ok (.iload_n 1, 1) := by decide +kernel
theorem dX0_addRow_1 : decode cX0_addRow 1 = .ok (.ifCond .lt 24, 3) := by decide +kernel
theorem dX0_addRow_4 : decode cX0_addRow 4 = .ok (.iload_n 1, 1) := by decide +kernel
theorem dX0_addRow_5 : decode cX0_addRow 5 = .ok (.iconst 1, 1) := by decide +kernel
theorem dX0_addRow_6 : decode cX0_addRow 6 = .ok (.if_icmp .gt 19, 3) := by decide +kernel
theorem dX0_addRow_9 : decode cX0_addRow 9 = .ok (.aload_n 0, 1) := by decide +kernel
theorem dX0_addRow_10 : decode cX0_addRow 10 = .ok (.iload_n 2, 1) := by decide +kernel
theorem dX0_addRow_11 : decode cX0_addRow 11 = .ok (.invokevirtual 46, 3) := by decide +kernel
theorem dX0_addRow_14 : decode cX0_addRow 14 = .ok (.ifCond .eq 11, 3) := by decide +kernel
theorem dX0_addRow_17 : decode cX0_addRow 17 = .ok (.aload_n 0, 1) := by decide +kernel
theorem dX0_addRow_18 : decode cX0_addRow 18 = .ok (.iload_n 3, 1) := by decide +kernel
theorem dX0_addRow_19 : decode cX0_addRow 19 = .ok (.invokevirtual 46, 3) := by decide +kernel
theorem dX0_addRow_22 : decode cX0_addRow 22 = .ok (.ifCond .ne 5, 3) := by decide +kernel
theorem dX0_addRow_25 : decode cX0_addRow 25 = .ok (.iconst (-1), 1) := by decide +kernel
theorem dX0_addRow_26 : decode cX0_addRow 26 = .ok (.ireturn, 1) := by decide +kernel
theorem dX0_addRow_27 : decode cX0_addRow 27 = .ok (.aload_n 0, 1) := by decide +kernel
theorem dX0_addRow_28 : decode cX0_addRow 28 = .ok (.getfield 7, 3) := by decide +kernel
theorem dX0_addRow_31 : decode cX0_addRow 31 = .ok (.iload_n 1, 1) := by decide +kernel
theorem dX0_addRow_32 : decode cX0_addRow 32 = .ok (.baload, 1) := by decide +kernel
theorem dX0_addRow_33 : decode cX0_addRow 33 = .ok (.iconst 5, 1) := by decide +kernel
theorem dX0_addRow_34 : decode cX0_addRow 34 = .ok (.if_icmp .lt 6, 3) := by decide +kernel
theorem dX0_addRow_37 : decode cX0_addRow 37 = .ok (.bipush (-2), 2) := by decide +kernel
theorem dX0_addRow_39 : decode cX0_addRow 39 = .ok (.ireturn, 1) := by decide +kernel
theorem dX0_addRow_40 : decode cX0_addRow 40 = .ok (.iconst 5, 1) := by decide +kernel
theorem dX0_addRow_41 : decode cX0_addRow 41 = .ok (.iload_n 1, 1) := by decide +kernel
theorem dX0_addRow_42 : decode cX0_addRow 42 = .ok (.imul, 1) := by decide +kernel
theorem dX0_addRow_43 : decode cX0_addRow 43 = .ok (.aload_n 0, 1) := by decide +kernel
theorem dX0_addRow_44 : decode cX0_addRow 44 = .ok (.getfield 7, 3) := by decide +kernel
theorem dX0_addRow_47 : decode cX0_addRow 47 = .ok (.iload_n 1, 1) := by decide +kernel
theorem dX0_addRow_48 : decode cX0_addRow 48 = .ok (.baload, 1) := by decide +kernel
theorem dX0_addRow_49 : decode cX0_addRow 49 = .ok (.iadd, 1) := by decide +kernel
theorem dX0_addRow_50 : decode cX0_addRow 50 = .ok (.istore 4, 2) := by decide +kernel
theorem dX0_addRow_52 : decode cX0_addRow 52 = .ok (.aload_n 0, 1) := by decide +kernel
theorem dX0_addRow_53 : decode cX0_addRow 53 = .ok (.getfield 13, 3) := by decide +kernel
theorem dX0_addRow_56 : decode cX0_addRow 56 = .ok (.iload 4, 2) := by decide +kernel
theorem dX0_addRow_58 : decode cX0_addRow 58 = .ok (.iload_n 2, 1) := by decide +kernel
theorem dX0_addRow_59 : decode cX0_addRow 59 = .ok (.i2b, 1) := by decide +kernel
theorem dX0_addRow_60 : decode cX0_addRow 60 = .ok (.bastore, 1) := by decide +kernel
theorem dX0_addRow_61 : decode cX0_addRow 61 = .ok (.aload_n 0, 1) := by decide +kernel
theorem dX0_addRow_62 : decode cX0_addRow 62 = .ok (.getfield 16, 3) := by decide +kernel
theorem dX0_addRow_65 : decode cX0_addRow 65 = .ok (.iload 4, 2) := by decide +kernel
theorem dX0_addRow_67 : decode cX0_addRow 67 = .ok (.iload_n 3, 1) := by decide +kernel
theorem dX0_addRow_68 : decode cX0_addRow 68 = .ok (.i2b, 1) := by decide +kernel
theorem dX0_addRow_69 : decode cX0_addRow 69 = .ok (.bastore, 1) := by decide +kernel
theorem dX0_addRow_70 : decode cX0_addRow 70 = .ok (.aload_n 0, 1) := by decide +kernel
theorem dX0_addRow_71 : decode cX0_addRow 71 = .ok (.getfield 7, 3) := by decide +kernel
theorem dX0_addRow_74 : decode cX0_addRow 74 = .ok (.iload_n 1, 1) := by decide +kernel
theorem dX0_addRow_75 : decode cX0_addRow 75 = .ok (.dup2, 1) := by decide +kernel
theorem dX0_addRow_76 : decode cX0_addRow 76 = .ok (.baload, 1) := by decide +kernel
theorem dX0_addRow_77 : decode cX0_addRow 77 = .ok (.iconst 1, 1) := by decide +kernel
theorem dX0_addRow_78 : decode cX0_addRow 78 = .ok (.iadd, 1) := by decide +kernel
theorem dX0_addRow_79 : decode cX0_addRow 79 = .ok (.i2b, 1) := by decide +kernel
theorem dX0_addRow_80 : decode cX0_addRow 80 = .ok (.bastore, 1) := by decide +kernel
theorem dX0_addRow_81 : decode cX0_addRow 81 = .ok (.aload_n 0, 1) := by decide +kernel
theorem dX0_addRow_82 : decode cX0_addRow 82 = .ok (.iconst 0, 1) := by decide +kernel
theorem dX0_addRow_83 : decode cX0_addRow 83 = .ok (.putfield 50, 3) := by decide +kernel
theorem dX0_addRow_86 : decode cX0_addRow 86 = .ok (.aload_n 0, 1) := by decide +kernel
theorem dX0_addRow_87 : decode cX0_addRow 87 = .ok (.getfield 7, 3) := by decide +kernel
theorem dX0_addRow_90 : decode cX0_addRow 90 = .ok (.iload_n 1, 1) := by decide +kernel
theorem dX0_addRow_91 : decode cX0_addRow 91 = .ok (.baload, 1) := by decide +kernel
theorem dX0_addRow_92 : decode cX0_addRow 92 = .ok (.ireturn, 1) := by decide +kernel
abbrev cX0_isCellValue : ByteArray := prog_1_method_5_code
def yX0_isCellValue : MethodName := ⟨RX0, "isCellValue", "(I)Z"⟩
theorem dX0_isCellValue_0 : decode cX0_isCellValue 0 = .ok (.iload_n 1, 1) := by decide +kernel
theorem dX0_isCellValue_1 : decode cX0_isCellValue 1 = .ok (.ifCond .lt 8, 3) := by decide +kernel
theorem dX0_isCellValue_4 : decode cX0_isCellValue 4 = .ok (.iload_n 1, 1) := by decide +kernel
theorem dX0_isCellValue_5 : decode cX0_isCellValue 5 = .ok (.iconst 3, 1) := by decide +kernel
theorem dX0_isCellValue_6 : decode cX0_isCellValue 6 = .ok (.if_icmp .le 15, 3) := by decide +kernel
theorem dX0_isCellValue_9 : decode cX0_isCellValue 9 = .ok (.iload_n 1, 1) := by decide +kernel
theorem dX0_isCellValue_10 : decode cX0_isCellValue 10 = .ok (.bipush 10, 2) := by decide +kernel
theorem dX0_isCellValue_12 : decode cX0_isCellValue 12 = .ok (.if_icmp .lt 13, 3) := by decide +kernel
theorem dX0_isCellValue_15 : decode cX0_isCellValue 15 = .ok (.iload_n 1, 1) := by decide +kernel
theorem dX0_isCellValue_16 : decode cX0_isCellValue 16 = .ok (.bipush 12, 2) := by decide +kernel
theorem dX0_isCellValue_18 : decode cX0_isCellValue 18 = .ok (.if_icmp .gt 7, 3) := by decide +kernel
theorem dX0_isCellValue_21 : decode cX0_isCellValue 21 = .ok (.iconst 1, 1) := by decide +kernel
theorem dX0_isCellValue_22 : decode cX0_isCellValue 22 = .ok (.goto 4, 3) := by decide +kernel
theorem dX0_isCellValue_25 : decode cX0_isCellValue 25 = .ok (.iconst 0, 1) := by decide +kernel
theorem dX0_isCellValue_26 : decode cX0_isCellValue 26 = .ok (.ireturn, 1) := by decide +kernel
abbrev cX0_dropRow : ByteArray := prog_1_method_3_code
def yX0_dropRow : MethodName := ⟨RX0, "dropRow", "(I)I"⟩
theorem dX0_dropRow_0 : decode cX0_dropRow 0 = .ok (.iload_n 1, 1) := by decide +kernel
theorem dX0_dropRow_1 : decode cX0_dropRow 1 = .ok (.ifCond .lt 17, 3) := by decide +kernel
theorem dX0_dropRow_4 : decode cX0_dropRow 4 = .ok (.iload_n 1, 1) := by decide +kernel
theorem dX0_dropRow_5 : decode cX0_dropRow 5 = .ok (.iconst 1, 1) := by decide +kernel
theorem dX0_dropRow_6 : decode cX0_dropRow 6 = .ok (.if_icmp .gt 12, 3) := by decide +kernel
theorem dX0_dropRow_9 : decode cX0_dropRow 9 = .ok (.aload_n 0, 1) := by decide +kernel
theorem dX0_dropRow_10 : decode cX0_dropRow 10 = .ok (.getfield 7, 3) := by decide +kernel
theorem dX0_dropRow_13 : decode cX0_dropRow 13 = .ok (.iload_n 1, 1) := by decide +kernel
theorem dX0_dropRow_14 : decode cX0_dropRow 14 = .ok (.baload, 1) := by decide +kernel
theorem dX0_dropRow_15 : decode cX0_dropRow 15 = .ok (.ifCond .ne 5, 3) := by decide +kernel
theorem dX0_dropRow_18 : decode cX0_dropRow 18 = .ok (.iconst (-1), 1) := by decide +kernel
theorem dX0_dropRow_19 : decode cX0_dropRow 19 = .ok (.ireturn, 1) := by decide +kernel
theorem dX0_dropRow_20 : decode cX0_dropRow 20 = .ok (.aload_n 0, 1) := by decide +kernel
theorem dX0_dropRow_21 : decode cX0_dropRow 21 = .ok (.getfield 7, 3) := by decide +kernel
theorem dX0_dropRow_24 : decode cX0_dropRow 24 = .ok (.iload_n 1, 1) := by decide +kernel
theorem dX0_dropRow_25 : decode cX0_dropRow 25 = .ok (.dup2, 1) := by decide +kernel
theorem dX0_dropRow_26 : decode cX0_dropRow 26 = .ok (.baload, 1) := by decide +kernel
theorem dX0_dropRow_27 : decode cX0_dropRow 27 = .ok (.iconst 1, 1) := by decide +kernel
theorem dX0_dropRow_28 : decode cX0_dropRow 28 = .ok (.isub, 1) := by decide +kernel
theorem dX0_dropRow_29 : decode cX0_dropRow 29 = .ok (.i2b, 1) := by decide +kernel
theorem dX0_dropRow_30 : decode cX0_dropRow 30 = .ok (.bastore, 1) := by decide +kernel
theorem dX0_dropRow_31 : decode cX0_dropRow 31 = .ok (.iconst 5, 1) := by decide +kernel
theorem dX0_dropRow_32 : decode cX0_dropRow 32 = .ok (.iload_n 1, 1) := by decide +kernel
theorem dX0_dropRow_33 : decode cX0_dropRow 33 = .ok (.imul, 1) := by decide +kernel
theorem dX0_dropRow_34 : decode cX0_dropRow 34 = .ok (.istore_n 2, 1) := by decide +kernel
theorem dX0_dropRow_35 : decode cX0_dropRow 35 = .ok (.iload_n 2, 1) := by decide +kernel
theorem dX0_dropRow_36 : decode cX0_dropRow 36 = .ok (.iconst 5, 1) := by decide +kernel
theorem dX0_dropRow_37 : decode cX0_dropRow 37 = .ok (.iload_n 1, 1) := by decide +kernel
theorem dX0_dropRow_38 : decode cX0_dropRow 38 = .ok (.imul, 1) := by decide +kernel
theorem dX0_dropRow_39 : decode cX0_dropRow 39 = .ok (.aload_n 0, 1) := by decide +kernel
theorem dX0_dropRow_40 : decode cX0_dropRow 40 = .ok (.getfield 7, 3) := by decide +kernel
theorem dX0_dropRow_43 : decode cX0_dropRow 43 = .ok (.iload_n 1, 1) := by decide +kernel
theorem dX0_dropRow_44 : decode cX0_dropRow 44 = .ok (.baload, 1) := by decide +kernel
theorem dX0_dropRow_45 : decode cX0_dropRow 45 = .ok (.iadd, 1) := by decide +kernel
theorem dX0_dropRow_46 : decode cX0_dropRow 46 = .ok (.if_icmp .ge 37, 3) := by decide +kernel
theorem dX0_dropRow_49 : decode cX0_dropRow 49 = .ok (.aload_n 0, 1) := by decide +kernel
theorem dX0_dropRow_50 : decode cX0_dropRow 50 = .ok (.getfield 13, 3) := by decide +kernel
theorem dX0_dropRow_53 : decode cX0_dropRow 53 = .ok (.iload_n 2, 1) := by decide +kernel
theorem dX0_dropRow_54 : decode cX0_dropRow 54 = .ok (.aload_n 0, 1) := by decide +kernel
theorem dX0_dropRow_55 : decode cX0_dropRow 55 = .ok (.getfield 13, 3) := by decide +kernel
theorem dX0_dropRow_58 : decode cX0_dropRow 58 = .ok (.iload_n 2, 1) := by decide +kernel
theorem dX0_dropRow_59 : decode cX0_dropRow 59 = .ok (.iconst 1, 1) := by decide +kernel
theorem dX0_dropRow_60 : decode cX0_dropRow 60 = .ok (.iadd, 1) := by decide +kernel
theorem dX0_dropRow_61 : decode cX0_dropRow 61 = .ok (.baload, 1) := by decide +kernel
theorem dX0_dropRow_62 : decode cX0_dropRow 62 = .ok (.bastore, 1) := by decide +kernel
theorem dX0_dropRow_63 : decode cX0_dropRow 63 = .ok (.aload_n 0, 1) := by decide +kernel
theorem dX0_dropRow_64 : decode cX0_dropRow 64 = .ok (.getfield 16, 3) := by decide +kernel
theorem dX0_dropRow_67 : decode cX0_dropRow 67 = .ok (.iload_n 2, 1) := by decide +kernel
theorem dX0_dropRow_68 : decode cX0_dropRow 68 = .ok (.aload_n 0, 1) := by decide +kernel
theorem dX0_dropRow_69 : decode cX0_dropRow 69 = .ok (.getfield 16, 3) := by decide +kernel
theorem dX0_dropRow_72 : decode cX0_dropRow 72 = .ok (.iload_n 2, 1) := by decide +kernel
theorem dX0_dropRow_73 : decode cX0_dropRow 73 = .ok (.iconst 1, 1) := by decide +kernel
theorem dX0_dropRow_74 : decode cX0_dropRow 74 = .ok (.iadd, 1) := by decide +kernel
theorem dX0_dropRow_75 : decode cX0_dropRow 75 = .ok (.baload, 1) := by decide +kernel
theorem dX0_dropRow_76 : decode cX0_dropRow 76 = .ok (.bastore, 1) := by decide +kernel
theorem dX0_dropRow_77 : decode cX0_dropRow 77 = .ok (.iinc 2 1, 3) := by decide +kernel
theorem dX0_dropRow_80 : decode cX0_dropRow 80 = .ok (.goto (-45), 3) := by decide +kernel
theorem dX0_dropRow_83 : decode cX0_dropRow 83 = .ok (.aload_n 0, 1) := by decide +kernel
theorem dX0_dropRow_84 : decode cX0_dropRow 84 = .ok (.iconst 0, 1) := by decide +kernel
theorem dX0_dropRow_85 : decode cX0_dropRow 85 = .ok (.putfield 50, 3) := by decide +kernel
theorem dX0_dropRow_88 : decode cX0_dropRow 88 = .ok (.aload_n 0, 1) := by decide +kernel
theorem dX0_dropRow_89 : decode cX0_dropRow 89 = .ok (.getfield 7, 3) := by decide +kernel
theorem dX0_dropRow_92 : decode cX0_dropRow 92 = .ok (.iload_n 1, 1) := by decide +kernel
theorem dX0_dropRow_93 : decode cX0_dropRow 93 = .ok (.baload, 1) := by decide +kernel
theorem dX0_dropRow_94 : decode cX0_dropRow 94 = .ok (.ireturn, 1) := by decide +kernel
abbrev cX0_learn : ByteArray := prog_1_method_4_code
def yX0_learn : MethodName := ⟨RX0, "learn", "(II)I"⟩
theorem dX0_learn_0 : decode cX0_learn 0 = .ok (.iload_n 1, 1) := by decide +kernel
theorem dX0_learn_1 : decode cX0_learn 1 = .ok (.bipush 10, 2) := by decide +kernel
theorem dX0_learn_3 : decode cX0_learn 3 = .ok (.if_icmp .lt 18, 3) := by decide +kernel
theorem dX0_learn_6 : decode cX0_learn 6 = .ok (.iload_n 1, 1) := by decide +kernel
theorem dX0_learn_7 : decode cX0_learn 7 = .ok (.bipush 12, 2) := by decide +kernel
theorem dX0_learn_9 : decode cX0_learn 9 = .ok (.if_icmp .gt 12, 3) := by decide +kernel
theorem dX0_learn_12 : decode cX0_learn 12 = .ok (.iload_n 2, 1) := by decide +kernel
theorem dX0_learn_13 : decode cX0_learn 13 = .ok (.ifCond .lt 8, 3) := by decide +kernel
theorem dX0_learn_16 : decode cX0_learn 16 = .ok (.iload_n 2, 1) := by decide +kernel
theorem dX0_learn_17 : decode cX0_learn 17 = .ok (.iconst 3, 1) := by decide +kernel
theorem dX0_learn_18 : decode cX0_learn 18 = .ok (.if_icmp .le 5, 3) := by decide +kernel
theorem dX0_learn_21 : decode cX0_learn 21 = .ok (.iconst (-1), 1) := by decide +kernel
theorem dX0_learn_22 : decode cX0_learn 22 = .ok (.ireturn, 1) := by decide +kernel
theorem dX0_learn_23 : decode cX0_learn 23 = .ok (.iconst 0, 1) := by decide +kernel
theorem dX0_learn_24 : decode cX0_learn 24 = .ok (.istore_n 3, 1) := by decide +kernel
theorem dX0_learn_25 : decode cX0_learn 25 = .ok (.iconst 0, 1) := by decide +kernel
theorem dX0_learn_26 : decode cX0_learn 26 = .ok (.istore 4, 2) := by decide +kernel
theorem dX0_learn_28 : decode cX0_learn 28 = .ok (.iload 4, 2) := by decide +kernel
theorem dX0_learn_30 : decode cX0_learn 30 = .ok (.bipush 10, 2) := by decide +kernel
theorem dX0_learn_32 : decode cX0_learn 32 = .ok (.if_icmp .ge 74, 3) := by decide +kernel
theorem dX0_learn_35 : decode cX0_learn 35 = .ok (.iload 4, 2) := by decide +kernel
theorem dX0_learn_37 : decode cX0_learn 37 = .ok (.iconst 5, 1) := by decide +kernel
theorem dX0_learn_38 : decode cX0_learn 38 = .ok (.irem, 1) := by decide +kernel
theorem dX0_learn_39 : decode cX0_learn 39 = .ok (.aload_n 0, 1) := by decide +kernel
theorem dX0_learn_40 : decode cX0_learn 40 = .ok (.getfield 7, 3) := by decide +kernel
theorem dX0_learn_43 : decode cX0_learn 43 = .ok (.iload 4, 2) := by decide +kernel
theorem dX0_learn_45 : decode cX0_learn 45 = .ok (.iconst 5, 1) := by decide +kernel
theorem dX0_learn_46 : decode cX0_learn 46 = .ok (.idiv, 1) := by decide +kernel
theorem dX0_learn_47 : decode cX0_learn 47 = .ok (.baload, 1) := by decide +kernel
theorem dX0_learn_48 : decode cX0_learn 48 = .ok (.if_icmp .lt 6, 3) := by decide +kernel
theorem dX0_learn_51 : decode cX0_learn 51 = .ok (.goto 49, 3) := by decide +kernel
theorem dX0_learn_54 : decode cX0_learn 54 = .ok (.aload_n 0, 1) := by decide +kernel
theorem dX0_learn_55 : decode cX0_learn 55 = .ok (.getfield 13, 3) := by decide +kernel
theorem dX0_learn_58 : decode cX0_learn 58 = .ok (.iload 4, 2) := by decide +kernel
theorem dX0_learn_60 : decode cX0_learn 60 = .ok (.baload, 1) := by decide +kernel
theorem dX0_learn_61 : decode cX0_learn 61 = .ok (.iload_n 1, 1) := by decide +kernel
theorem dX0_learn_62 : decode cX0_learn 62 = .ok (.if_icmp .ne 15, 3) := by decide +kernel
theorem dX0_learn_65 : decode cX0_learn 65 = .ok (.aload_n 0, 1) := by decide +kernel
theorem dX0_learn_66 : decode cX0_learn 66 = .ok (.getfield 13, 3) := by decide +kernel
theorem dX0_learn_69 : decode cX0_learn 69 = .ok (.iload 4, 2) := by decide +kernel
theorem dX0_learn_71 : decode cX0_learn 71 = .ok (.iload_n 2, 1) := by decide +kernel
theorem dX0_learn_72 : decode cX0_learn 72 = .ok (.i2b, 1) := by decide +kernel
theorem dX0_learn_73 : decode cX0_learn 73 = .ok (.bastore, 1) := by decide +kernel
theorem dX0_learn_74 : decode cX0_learn 74 = .ok (.iinc 3 1, 3) := by decide +kernel
theorem dX0_learn_77 : decode cX0_learn 77 = .ok (.aload_n 0, 1) := by decide +kernel
theorem dX0_learn_78 : decode cX0_learn 78 = .ok (.getfield 16, 3) := by decide +kernel
theorem dX0_learn_81 : decode cX0_learn 81 = .ok (.iload 4, 2) := by decide +kernel
theorem dX0_learn_83 : decode cX0_learn 83 = .ok (.baload, 1) := by decide +kernel
theorem dX0_learn_84 : decode cX0_learn 84 = .ok (.iload_n 1, 1) := by decide +kernel
theorem dX0_learn_85 : decode cX0_learn 85 = .ok (.if_icmp .ne 15, 3) := by decide +kernel
theorem dX0_learn_88 : decode cX0_learn 88 = .ok (.aload_n 0, 1) := by decide +kernel
theorem dX0_learn_89 : decode cX0_learn 89 = .ok (.getfield 16, 3) := by decide +kernel
theorem dX0_learn_92 : decode cX0_learn 92 = .ok (.iload 4, 2) := by decide +kernel
theorem dX0_learn_94 : decode cX0_learn 94 = .ok (.iload_n 2, 1) := by decide +kernel
theorem dX0_learn_95 : decode cX0_learn 95 = .ok (.i2b, 1) := by decide +kernel
theorem dX0_learn_96 : decode cX0_learn 96 = .ok (.bastore, 1) := by decide +kernel
theorem dX0_learn_97 : decode cX0_learn 97 = .ok (.iinc 3 1, 3) := by decide +kernel
theorem dX0_learn_100 : decode cX0_learn 100 = .ok (.iinc 4 1, 3) := by decide +kernel
theorem dX0_learn_103 : decode cX0_learn 103 = .ok (.goto (-75), 3) := by decide +kernel
theorem dX0_learn_106 : decode cX0_learn 106 = .ok (.aload_n 0, 1) := by decide +kernel
theorem dX0_learn_107 : decode cX0_learn 107 = .ok (.iconst 0, 1) := by decide +kernel
theorem dX0_learn_108 : decode cX0_learn 108 = .ok (.putfield 50, 3) := by decide +kernel
theorem dX0_learn_111 : decode cX0_learn 111 = .ok (.iload_n 3, 1) := by decide +kernel
theorem dX0_learn_112 : decode cX0_learn 112 = .ok (.ireturn, 1) := by decide +kernel
abbrev cX0_rule : ByteArray := prog_1_method_7_code
def yX0_rule : MethodName := ⟨RX0, "rule", "(II)I"⟩
theorem dX0_rule_0 : decode cX0_rule 0 = .ok (.aload_n 0, 1) := by decide +kernel
theorem dX0_rule_1 : decode cX0_rule 1 = .ok (.iload_n 1, 1) := by decide +kernel
theorem dX0_rule_2 : decode cX0_rule 2 = .ok (.invokevirtual 54, 3) := by decide +kernel
theorem dX0_rule_5 : decode cX0_rule 5 = .ok (.ifCond .eq 11, 3) := by decide +kernel
theorem dX0_rule_8 : decode cX0_rule 8 = .ok (.aload_n 0, 1) := by decide +kernel
theorem dX0_rule_9 : decode cX0_rule 9 = .ok (.iload_n 2, 1) := by decide +kernel
theorem dX0_rule_10 : decode cX0_rule 10 = .ok (.invokevirtual 54, 3) := by decide +kernel
theorem dX0_rule_13 : decode cX0_rule 13 = .ok (.ifCond .ne 5, 3) := by decide +kernel
theorem dX0_rule_16 : decode cX0_rule 16 = .ok (.iconst (-1), 1) := by decide +kernel
theorem dX0_rule_17 : decode cX0_rule 17 = .ok (.ireturn, 1) := by decide +kernel
theorem dX0_rule_18 : decode cX0_rule 18 = .ok (.aload_n 0, 1) := by decide +kernel
theorem dX0_rule_19 : decode cX0_rule 19 = .ok (.getfield 57, 3) := by decide +kernel
theorem dX0_rule_22 : decode cX0_rule 22 = .ok (.iconst 2, 1) := by decide +kernel
theorem dX0_rule_23 : decode cX0_rule 23 = .ok (.if_icmp .lt 6, 3) := by decide +kernel
theorem dX0_rule_26 : decode cX0_rule 26 = .ok (.bipush (-2), 2) := by decide +kernel
theorem dX0_rule_28 : decode cX0_rule 28 = .ok (.ireturn, 1) := by decide +kernel
theorem dX0_rule_29 : decode cX0_rule 29 = .ok (.aload_n 0, 1) := by decide +kernel
theorem dX0_rule_30 : decode cX0_rule 30 = .ok (.getfield 19, 3) := by decide +kernel
theorem dX0_rule_33 : decode cX0_rule 33 = .ok (.aload_n 0, 1) := by decide +kernel
theorem dX0_rule_34 : decode cX0_rule 34 = .ok (.getfield 57, 3) := by decide +kernel
theorem dX0_rule_37 : decode cX0_rule 37 = .ok (.iload_n 1, 1) := by decide +kernel
theorem dX0_rule_38 : decode cX0_rule 38 = .ok (.i2b, 1) := by decide +kernel
theorem dX0_rule_39 : decode cX0_rule 39 = .ok (.bastore, 1) := by decide +kernel
theorem dX0_rule_40 : decode cX0_rule 40 = .ok (.aload_n 0, 1) := by decide +kernel
theorem dX0_rule_41 : decode cX0_rule 41 = .ok (.getfield 22, 3) := by decide +kernel
theorem dX0_rule_44 : decode cX0_rule 44 = .ok (.aload_n 0, 1) := by decide +kernel
theorem dX0_rule_45 : decode cX0_rule 45 = .ok (.getfield 57, 3) := by decide +kernel
theorem dX0_rule_48 : decode cX0_rule 48 = .ok (.iload_n 2, 1) := by decide +kernel
theorem dX0_rule_49 : decode cX0_rule 49 = .ok (.i2b, 1) := by decide +kernel
theorem dX0_rule_50 : decode cX0_rule 50 = .ok (.bastore, 1) := by decide +kernel
theorem dX0_rule_51 : decode cX0_rule 51 = .ok (.aload_n 0, 1) := by decide +kernel
theorem dX0_rule_52 : decode cX0_rule 52 = .ok (.getfield 25, 3) := by decide +kernel
theorem dX0_rule_55 : decode cX0_rule 55 = .ok (.aload_n 0, 1) := by decide +kernel
theorem dX0_rule_56 : decode cX0_rule 56 = .ok (.getfield 57, 3) := by decide +kernel
theorem dX0_rule_59 : decode cX0_rule 59 = .ok (.iconst 0, 1) := by decide +kernel
theorem dX0_rule_60 : decode cX0_rule 60 = .ok (.bastore, 1) := by decide +kernel
theorem dX0_rule_61 : decode cX0_rule 61 = .ok (.aload_n 0, 1) := by decide +kernel
theorem dX0_rule_62 : decode cX0_rule 62 = .ok (.dup, 1) := by decide +kernel
theorem dX0_rule_63 : decode cX0_rule 63 = .ok (.getfield 57, 3) := by decide +kernel
theorem dX0_rule_66 : decode cX0_rule 66 = .ok (.iconst 1, 1) := by decide +kernel
theorem dX0_rule_67 : decode cX0_rule 67 = .ok (.iadd, 1) := by decide +kernel
theorem dX0_rule_68 : decode cX0_rule 68 = .ok (.putfield 57, 3) := by decide +kernel
theorem dX0_rule_71 : decode cX0_rule 71 = .ok (.aload_n 0, 1) := by decide +kernel
theorem dX0_rule_72 : decode cX0_rule 72 = .ok (.iconst 0, 1) := by decide +kernel
theorem dX0_rule_73 : decode cX0_rule 73 = .ok (.putfield 50, 3) := by decide +kernel
theorem dX0_rule_76 : decode cX0_rule 76 = .ok (.aload_n 0, 1) := by decide +kernel
theorem dX0_rule_77 : decode cX0_rule 77 = .ok (.getfield 57, 3) := by decide +kernel
theorem dX0_rule_80 : decode cX0_rule 80 = .ok (.ireturn, 1) := by decide +kernel
end
section
set_option maxRecDepth 100000
abbrev cX0_isTerm : ByteArray := prog_1_method_6_code
def yX0_isTerm : MethodName := ⟨RX0, "isTerm", "(I)Z"⟩
theorem dX0_isTerm_0 : decode cX0_isTerm 0 = .ok (.iload_n 1, 1) := by decide +kernel
theorem dX0_isTerm_1 : decode cX0_isTerm 1 = .ok (.ifCond .lt 8, 3) := by decide +kernel
theorem dX0_isTerm_4 : decode cX0_isTerm 4 = .ok (.iload_n 1, 1) := by decide +kernel
theorem dX0_isTerm_5 : decode cX0_isTerm 5 = .ok (.iconst 3, 1) := by decide +kernel
theorem dX0_isTerm_6 : decode cX0_isTerm 6 = .ok (.if_icmp .le 15, 3) := by decide +kernel
theorem dX0_isTerm_9 : decode cX0_isTerm 9 = .ok (.iload_n 1, 1) := by decide +kernel
theorem dX0_isTerm_10 : decode cX0_isTerm 10 = .ok (.bipush 20, 2) := by decide +kernel
theorem dX0_isTerm_12 : decode cX0_isTerm 12 = .ok (.if_icmp .lt 13, 3) := by decide +kernel
theorem dX0_isTerm_15 : decode cX0_isTerm 15 = .ok (.iload_n 1, 1) := by decide +kernel
theorem dX0_isTerm_16 : decode cX0_isTerm 16 = .ok (.bipush 23, 2) := by decide +kernel
theorem dX0_isTerm_18 : decode cX0_isTerm 18 = .ok (.if_icmp .gt 7, 3) := by decide +kernel
theorem dX0_isTerm_21 : decode cX0_isTerm 21 = .ok (.iconst 1, 1) := by decide +kernel
theorem dX0_isTerm_22 : decode cX0_isTerm 22 = .ok (.goto 4, 3) := by decide +kernel
theorem dX0_isTerm_25 : decode cX0_isTerm 25 = .ok (.iconst 0, 1) := by decide +kernel
theorem dX0_isTerm_26 : decode cX0_isTerm 26 = .ok (.ireturn, 1) := by decide +kernel
abbrev cX0_atom : ByteArray := prog_1_method_8_code
def yX0_atom : MethodName := ⟨RX0, "atom", "(III)I"⟩
theorem dX0_atom_0 : decode cX0_atom 0 = .ok (.iload_n 1, 1) := by decide +kernel
theorem dX0_atom_1 : decode cX0_atom 1 = .ok (.ifCond .lt 24, 3) := by decide +kernel
theorem dX0_atom_4 : decode cX0_atom 4 = .ok (.iload_n 1, 1) := by decide +kernel
theorem dX0_atom_5 : decode cX0_atom 5 = .ok (.iconst 1, 1) := by decide +kernel
theorem dX0_atom_6 : decode cX0_atom 6 = .ok (.if_icmp .gt 19, 3) := by decide +kernel
theorem dX0_atom_9 : decode cX0_atom 9 = .ok (.aload_n 0, 1) := by decide +kernel
theorem dX0_atom_10 : decode cX0_atom 10 = .ok (.iload_n 2, 1) := by decide +kernel
theorem dX0_atom_11 : decode cX0_atom 11 = .ok (.invokevirtual 54, 3) := by decide +kernel
theorem dX0_atom_14 : decode cX0_atom 14 = .ok (.ifCond .eq 11, 3) := by decide +kernel
theorem dX0_atom_17 : decode cX0_atom 17 = .ok (.aload_n 0, 1) := by decide +kernel
theorem dX0_atom_18 : decode cX0_atom 18 = .ok (.iload_n 3, 1) := by decide +kernel
theorem dX0_atom_19 : decode cX0_atom 19 = .ok (.invokevirtual 54, 3) := by decide +kernel
theorem dX0_atom_22 : decode cX0_atom 22 = .ok (.ifCond .ne 5, 3) := by decide +kernel
theorem dX0_atom_25 : decode cX0_atom 25 = .ok (.iconst (-1), 1) := by decide +kernel
theorem dX0_atom_26 : decode cX0_atom 26 = .ok (.ireturn, 1) := by decide +kernel
theorem dX0_atom_27 : decode cX0_atom 27 = .ok (.aload_n 0, 1) := by decide +kernel
theorem dX0_atom_28 : decode cX0_atom 28 = .ok (.getfield 57, 3) := by decide +kernel
theorem dX0_atom_31 : decode cX0_atom 31 = .ok (.ifCond .ne 6, 3) := by decide +kernel
theorem dX0_atom_34 : decode cX0_atom 34 = .ok (.bipush (-3), 2) := by decide +kernel
theorem dX0_atom_36 : decode cX0_atom 36 = .ok (.ireturn, 1) := by decide +kernel
theorem dX0_atom_37 : decode cX0_atom 37 = .ok (.aload_n 0, 1) := by decide +kernel
theorem dX0_atom_38 : decode cX0_atom 38 = .ok (.getfield 57, 3) := by decide +kernel
theorem dX0_atom_41 : decode cX0_atom 41 = .ok (.iconst 1, 1) := by decide +kernel
theorem dX0_atom_42 : decode cX0_atom 42 = .ok (.isub, 1) := by decide +kernel
theorem dX0_atom_43 : decode cX0_atom 43 = .ok (.istore 4, 2) := by decide +kernel
theorem dX0_atom_45 : decode cX0_atom 45 = .ok (.aload_n 0, 1) := by decide +kernel
theorem dX0_atom_46 : decode cX0_atom 46 = .ok (.getfield 25, 3) := by decide +kernel
theorem dX0_atom_49 : decode cX0_atom 49 = .ok (.iload 4, 2) := by decide +kernel
theorem dX0_atom_51 : decode cX0_atom 51 = .ok (.baload, 1) := by decide +kernel
theorem dX0_atom_52 : decode cX0_atom 52 = .ok (.iconst 3, 1) := by decide +kernel
theorem dX0_atom_53 : decode cX0_atom 53 = .ok (.if_icmp .lt 6, 3) := by decide +kernel
theorem dX0_atom_56 : decode cX0_atom 56 = .ok (.bipush (-2), 2) := by decide +kernel
theorem dX0_atom_58 : decode cX0_atom 58 = .ok (.ireturn, 1) := by decide +kernel
theorem dX0_atom_59 : decode cX0_atom 59 = .ok (.iconst 3, 1) := by decide +kernel
theorem dX0_atom_60 : decode cX0_atom 60 = .ok (.iload 4, 2) := by decide +kernel
theorem dX0_atom_62 : decode cX0_atom 62 = .ok (.imul, 1) := by decide +kernel
theorem dX0_atom_63 : decode cX0_atom 63 = .ok (.aload_n 0, 1) := by decide +kernel
theorem dX0_atom_64 : decode cX0_atom 64 = .ok (.getfield 25, 3) := by decide +kernel
theorem dX0_atom_67 : decode cX0_atom 67 = .ok (.iload 4, 2) := by decide +kernel
theorem dX0_atom_69 : decode cX0_atom 69 = .ok (.baload, 1) := by decide +kernel
theorem dX0_atom_70 : decode cX0_atom 70 = .ok (.iadd, 1) := by decide +kernel
theorem dX0_atom_71 : decode cX0_atom 71 = .ok (.istore 5, 2) := by decide +kernel
theorem dX0_atom_73 : decode cX0_atom 73 = .ok (.aload_n 0, 1) := by decide +kernel
theorem dX0_atom_74 : decode cX0_atom 74 = .ok (.getfield 28, 3) := by decide +kernel
theorem dX0_atom_77 : decode cX0_atom 77 = .ok (.iload 5, 2) := by decide +kernel
theorem dX0_atom_79 : decode cX0_atom 79 = .ok (.iload_n 1, 1) := by decide +kernel
theorem dX0_atom_80 : decode cX0_atom 80 = .ok (.i2b, 1) := by decide +kernel
theorem dX0_atom_81 : decode cX0_atom 81 = .ok (.bastore, 1) := by decide +kernel
theorem dX0_atom_82 : decode cX0_atom 82 = .ok (.aload_n 0, 1) := by decide +kernel
theorem dX0_atom_83 : decode cX0_atom 83 = .ok (.getfield 31, 3) := by decide +kernel
theorem dX0_atom_86 : decode cX0_atom 86 = .ok (.iload 5, 2) := by decide +kernel
theorem dX0_atom_88 : decode cX0_atom 88 = .ok (.iload_n 2, 1) := by decide +kernel
theorem dX0_atom_89 : decode cX0_atom 89 = .ok (.i2b, 1) := by decide +kernel
theorem dX0_atom_90 : decode cX0_atom 90 = .ok (.bastore, 1) := by decide +kernel
theorem dX0_atom_91 : decode cX0_atom 91 = .ok (.aload_n 0, 1) := by decide +kernel
theorem dX0_atom_92 : decode cX0_atom 92 = .ok (.getfield 34, 3) := by decide +kernel
theorem dX0_atom_95 : decode cX0_atom 95 = .ok (.iload 5, 2) := by decide +kernel
theorem dX0_atom_97 : decode cX0_atom 97 = .ok (.iload_n 3, 1) := by decide +kernel
theorem dX0_atom_98 : decode cX0_atom 98 = .ok (.i2b, 1) := by decide +kernel
theorem dX0_atom_99 : decode cX0_atom 99 = .ok (.bastore, 1) := by decide +kernel
theorem dX0_atom_100 : decode cX0_atom 100 = .ok (.aload_n 0, 1) := by decide +kernel
theorem dX0_atom_101 : decode cX0_atom 101 = .ok (.getfield 25, 3) := by decide +kernel
theorem dX0_atom_104 : decode cX0_atom 104 = .ok (.iload 4, 2) := by decide +kernel
theorem dX0_atom_106 : decode cX0_atom 106 = .ok (.dup2, 1) := by decide +kernel
theorem dX0_atom_107 : decode cX0_atom 107 = .ok (.baload, 1) := by decide +kernel
theorem dX0_atom_108 : decode cX0_atom 108 = .ok (.iconst 1, 1) := by decide +kernel
theorem dX0_atom_109 : decode cX0_atom 109 = .ok (.iadd, 1) := by decide +kernel
theorem dX0_atom_110 : decode cX0_atom 110 = .ok (.i2b, 1) := by decide +kernel
theorem dX0_atom_111 : decode cX0_atom 111 = .ok (.bastore, 1) := by decide +kernel
theorem dX0_atom_112 : decode cX0_atom 112 = .ok (.aload_n 0, 1) := by decide +kernel
theorem dX0_atom_113 : decode cX0_atom 113 = .ok (.iconst 0, 1) := by decide +kernel
theorem dX0_atom_114 : decode cX0_atom 114 = .ok (.putfield 50, 3) := by decide +kernel
theorem dX0_atom_117 : decode cX0_atom 117 = .ok (.aload_n 0, 1) := by decide +kernel
theorem dX0_atom_118 : decode cX0_atom 118 = .ok (.getfield 25, 3) := by decide +kernel
theorem dX0_atom_121 : decode cX0_atom 121 = .ok (.iload 4, 2) := by decide +kernel
theorem dX0_atom_123 : decode cX0_atom 123 = .ok (.baload, 1) := by decide +kernel
theorem dX0_atom_124 : decode cX0_atom 124 = .ok (.ireturn, 1) := by decide +kernel
abbrev cX0_dropRules : ByteArray := prog_1_method_9_code
def yX0_dropRules : MethodName := ⟨RX0, "dropRules", "()I"⟩
theorem dX0_dropRules_0 : decode cX0_dropRules 0 = .ok (.aload_n 0, 1) := by decide +kernel
theorem dX0_dropRules_1 : decode cX0_dropRules 1 = .ok (.getfield 57, 3) := by decide +kernel
theorem dX0_dropRules_4 : decode cX0_dropRules 4 = .ok (.istore_n 1, 1) := by decide +kernel
theorem dX0_dropRules_5 : decode cX0_dropRules 5 = .ok (.aload_n 0, 1) := by decide +kernel
theorem dX0_dropRules_6 : decode cX0_dropRules 6 = .ok (.iconst 0, 1) := by decide +kernel
theorem dX0_dropRules_7 : decode cX0_dropRules 7 = .ok (.putfield 57, 3) := by decide +kernel
theorem dX0_dropRules_10 : decode cX0_dropRules 10 = .ok (.aload_n 0, 1) := by decide +kernel
theorem dX0_dropRules_11 : decode cX0_dropRules 11 = .ok (.iconst 0, 1) := by decide +kernel
theorem dX0_dropRules_12 : decode cX0_dropRules 12 = .ok (.putfield 50, 3) := by decide +kernel
theorem dX0_dropRules_15 : decode cX0_dropRules 15 = .ok (.iload_n 1, 1) := by decide +kernel
theorem dX0_dropRules_16 : decode cX0_dropRules 16 = .ok (.ireturn, 1) := by decide +kernel
abbrev cX0_certain : ByteArray := prog_1_method_12_code
def yX0_certain : MethodName := ⟨RX0, "certain", "(II)Z"⟩
theorem dX0_certain_0 : decode cX0_certain 0 = .ok (.iload_n 1, 1) := by decide +kernel
theorem dX0_certain_1 : decode cX0_certain 1 = .ok (.ifCond .lt 19, 3) := by decide +kernel
theorem dX0_certain_4 : decode cX0_certain 4 = .ok (.iload_n 1, 1) := by decide +kernel
theorem dX0_certain_5 : decode cX0_certain 5 = .ok (.bipush 6, 2) := by decide +kernel
theorem dX0_certain_7 : decode cX0_certain 7 = .ok (.if_icmp .gt 13, 3) := by decide +kernel
theorem dX0_certain_10 : decode cX0_certain 10 = .ok (.iload_n 2, 1) := by decide +kernel
theorem dX0_certain_11 : decode cX0_certain 11 = .ok (.ifCond .lt 9, 3) := by decide +kernel
theorem dX0_certain_14 : decode cX0_certain 14 = .ok (.iload_n 2, 1) := by decide +kernel
theorem dX0_certain_15 : decode cX0_certain 15 = .ok (.bipush 6, 2) := by decide +kernel
theorem dX0_certain_17 : decode cX0_certain 17 = .ok (.if_icmp .le 5, 3) := by decide +kernel
theorem dX0_certain_20 : decode cX0_certain 20 = .ok (.iconst 0, 1) := by decide +kernel
theorem dX0_certain_21 : decode cX0_certain 21 = .ok (.ireturn, 1) := by decide +kernel
theorem dX0_certain_22 : decode cX0_certain 22 = .ok (.aload_n 0, 1) := by decide +kernel
theorem dX0_certain_23 : decode cX0_certain 23 = .ok (.invokevirtual 65, 3) := by decide +kernel
theorem dX0_certain_26 : decode cX0_certain 26 = .ok (.aload_n 0, 1) := by decide +kernel
theorem dX0_certain_27 : decode cX0_certain 27 = .ok (.getfield 68, 3) := by decide +kernel
theorem dX0_certain_30 : decode cX0_certain 30 = .ok (.bipush 7, 2) := by decide +kernel
theorem dX0_certain_32 : decode cX0_certain 32 = .ok (.iload_n 1, 1) := by decide +kernel
theorem dX0_certain_33 : decode cX0_certain 33 = .ok (.imul, 1) := by decide +kernel
theorem dX0_certain_34 : decode cX0_certain 34 = .ok (.iload_n 2, 1) := by decide +kernel
theorem dX0_certain_35 : decode cX0_certain 35 = .ok (.iadd, 1) := by decide +kernel
theorem dX0_certain_36 : decode cX0_certain 36 = .ok (.lushr, 1) := by decide +kernel
theorem dX0_certain_37 : decode cX0_certain 37 = .ok (.lconst 1, 1) := by decide +kernel
theorem dX0_certain_38 : decode cX0_certain 38 = .ok (.land, 1) := by decide +kernel
theorem dX0_certain_39 : decode cX0_certain 39 = .ok (.lconst 0, 1) := by decide +kernel
theorem dX0_certain_40 : decode cX0_certain 40 = .ok (.lcmp, 1) := by decide +kernel
theorem dX0_certain_41 : decode cX0_certain 41 = .ok (.ifCond .eq 7, 3) := by decide +kernel
theorem dX0_certain_44 : decode cX0_certain 44 = .ok (.iconst 1, 1) := by decide +kernel
theorem dX0_certain_45 : decode cX0_certain 45 = .ok (.goto 4, 3) := by decide +kernel
theorem dX0_certain_48 : decode cX0_certain 48 = .ok (.iconst 0, 1) := by decide +kernel
theorem dX0_certain_49 : decode cX0_certain 49 = .ok (.ireturn, 1) := by decide +kernel
abbrev cX0_evaluate : ByteArray := prog_1_method_16_code
def yX0_evaluate : MethodName := ⟨RX0, "evaluate", "()V"⟩
theorem dX0_evaluate_0 : decode cX0_evaluate 0 = .ok (.aload_n 0, 1) := by decide +kernel
theorem dX0_evaluate_1 : decode cX0_evaluate 1 = .ok (.getfield 50, 3) := by decide +kernel
theorem dX0_evaluate_4 : decode cX0_evaluate 4 = .ok (.ifCond .eq 4, 3) := by decide +kernel
theorem dX0_evaluate_7 : decode cX0_evaluate 7 = .ok (.return_, 1) := by decide +kernel
theorem dX0_evaluate_8 : decode cX0_evaluate 8 = .ok (.aload_n 0, 1) := by decide +kernel
theorem dX0_evaluate_9 : decode cX0_evaluate 9 = .ok (.iconst 1, 1) := by decide +kernel
theorem dX0_evaluate_10 : decode cX0_evaluate 10 = .ok (.putfield 50, 3) := by decide +kernel
theorem dX0_evaluate_13 : decode cX0_evaluate 13 = .ok (.aload_n 0, 1) := by decide +kernel
theorem dX0_evaluate_14 : decode cX0_evaluate 14 = .ok (.iconst 1, 1) := by decide +kernel
theorem dX0_evaluate_15 : decode cX0_evaluate 15 = .ok (.putfield 72, 3) := by decide +kernel
theorem dX0_evaluate_18 : decode cX0_evaluate 18 = .ok (.aload_n 0, 1) := by decide +kernel
theorem dX0_evaluate_19 : decode cX0_evaluate 19 = .ok (.lconst 0, 1) := by decide +kernel
theorem dX0_evaluate_20 : decode cX0_evaluate 20 = .ok (.putfield 68, 3) := by decide +kernel
theorem dX0_evaluate_23 : decode cX0_evaluate 23 = .ok (.aload_n 0, 1) := by decide +kernel
theorem dX0_evaluate_24 : decode cX0_evaluate 24 = .ok (.iconst 0, 1) := by decide +kernel
theorem dX0_evaluate_25 : decode cX0_evaluate 25 = .ok (.putfield 91, 3) := by decide +kernel
theorem dX0_evaluate_28 : decode cX0_evaluate 28 = .ok (.aload_n 0, 1) := by decide +kernel
theorem dX0_evaluate_29 : decode cX0_evaluate 29 = .ok (.iconst 0, 1) := by decide +kernel
theorem dX0_evaluate_30 : decode cX0_evaluate 30 = .ok (.putfield 81, 3) := by decide +kernel
theorem dX0_evaluate_33 : decode cX0_evaluate 33 = .ok (.iconst 0, 1) := by decide +kernel
theorem dX0_evaluate_34 : decode cX0_evaluate 34 = .ok (.istore_n 1, 1) := by decide +kernel
theorem dX0_evaluate_35 : decode cX0_evaluate 35 = .ok (.iload_n 1, 1) := by decide +kernel
theorem dX0_evaluate_36 : decode cX0_evaluate 36 = .ok (.aload_n 0, 1) := by decide +kernel
theorem dX0_evaluate_37 : decode cX0_evaluate 37 = .ok (.getfield 57, 3) := by decide +kernel
theorem dX0_evaluate_40 : decode cX0_evaluate 40 = .ok (.if_icmp .ge 22, 3) := by decide +kernel
theorem dX0_evaluate_43 : decode cX0_evaluate 43 = .ok (.aload_n 0, 1) := by decide +kernel
theorem dX0_evaluate_44 : decode cX0_evaluate 44 = .ok (.iload_n 1, 1) := by decide +kernel
theorem dX0_evaluate_45 : decode cX0_evaluate 45 = .ok (.invokevirtual 84, 3) := by decide +kernel
theorem dX0_evaluate_48 : decode cX0_evaluate 48 = .ok (.ifCond .eq 8, 3) := by decide +kernel
theorem dX0_evaluate_51 : decode cX0_evaluate 51 = .ok (.aload_n 0, 1) := by decide +kernel
theorem dX0_evaluate_52 : decode cX0_evaluate 52 = .ok (.iload_n 1, 1) := by decide +kernel
theorem dX0_evaluate_53 : decode cX0_evaluate 53 = .ok (.invokevirtual 87, 3) := by decide +kernel
theorem dX0_evaluate_56 : decode cX0_evaluate 56 = .ok (.iinc 1 1, 3) := by decide +kernel
theorem dX0_evaluate_59 : decode cX0_evaluate 59 = .ok (.goto (-24), 3) := by decide +kernel
theorem dX0_evaluate_62 : decode cX0_evaluate 62 = .ok (.return_, 1) := by decide +kernel
abbrev cX0_isSafe : ByteArray := prog_1_method_11_code
def yX0_isSafe : MethodName := ⟨RX0, "isSafe", "(I)Z"⟩
theorem dX0_isSafe_0 : decode cX0_isSafe 0 = .ok (.aload_n 0, 1) := by decide +kernel
theorem dX0_isSafe_1 : decode cX0_isSafe 1 = .ok (.iload_n 1, 1) := by decide +kernel
theorem dX0_isSafe_2 : decode cX0_isSafe 2 = .ok (.aload_n 0, 1) := by decide +kernel
theorem dX0_isSafe_3 : decode cX0_isSafe 3 = .ok (.getfield 19, 3) := by decide +kernel
theorem dX0_isSafe_6 : decode cX0_isSafe 6 = .ok (.iload_n 1, 1) := by decide +kernel
theorem dX0_isSafe_7 : decode cX0_isSafe 7 = .ok (.baload, 1) := by decide +kernel
theorem dX0_isSafe_8 : decode cX0_isSafe 8 = .ok (.invokevirtual 61, 3) := by decide +kernel
theorem dX0_isSafe_11 : decode cX0_isSafe 11 = .ok (.ifCond .eq 21, 3) := by decide +kernel
theorem dX0_isSafe_14 : decode cX0_isSafe 14 = .ok (.aload_n 0, 1) := by decide +kernel
theorem dX0_isSafe_15 : decode cX0_isSafe 15 = .ok (.iload_n 1, 1) := by decide +kernel
theorem dX0_isSafe_16 : decode cX0_isSafe 16 = .ok (.aload_n 0, 1) := by decide +kernel
theorem dX0_isSafe_17 : decode cX0_isSafe 17 = .ok (.getfield 22, 3) := by decide +kernel
theorem dX0_isSafe_20 : decode cX0_isSafe 20 = .ok (.iload_n 1, 1) := by decide +kernel
theorem dX0_isSafe_21 : decode cX0_isSafe 21 = .ok (.baload, 1) := by decide +kernel
theorem dX0_isSafe_22 : decode cX0_isSafe 22 = .ok (.invokevirtual 61, 3) := by decide +kernel
theorem dX0_isSafe_25 : decode cX0_isSafe 25 = .ok (.ifCond .eq 7, 3) := by decide +kernel
theorem dX0_isSafe_28 : decode cX0_isSafe 28 = .ok (.iconst 1, 1) := by decide +kernel
theorem dX0_isSafe_29 : decode cX0_isSafe 29 = .ok (.goto 4, 3) := by decide +kernel
theorem dX0_isSafe_32 : decode cX0_isSafe 32 = .ok (.iconst 0, 1) := by decide +kernel
theorem dX0_isSafe_33 : decode cX0_isSafe 33 = .ok (.ireturn, 1) := by decide +kernel
abbrev cX0_inBody : ByteArray := prog_1_method_10_code
def yX0_inBody : MethodName := ⟨RX0, "inBody", "(II)Z"⟩
theorem dX0_inBody_0 : decode cX0_inBody 0 = .ok (.iload_n 2, 1) := by decide +kernel
theorem dX0_inBody_1 : decode cX0_inBody 1 = .ok (.bipush 20, 2) := by decide +kernel
theorem dX0_inBody_3 : decode cX0_inBody 3 = .ok (.if_icmp .ge 5, 3) := by decide +kernel
theorem dX0_inBody_6 : decode cX0_inBody 6 = .ok (.iconst 1, 1) := by decide +kernel
theorem dX0_inBody_7 : decode cX0_inBody 7 = .ok (.ireturn, 1) := by decide +kernel
theorem dX0_inBody_8 : decode cX0_inBody 8 = .ok (.iconst 3, 1) := by decide +kernel
theorem dX0_inBody_9 : decode cX0_inBody 9 = .ok (.iload_n 1, 1) := by decide +kernel
theorem dX0_inBody_10 : decode cX0_inBody 10 = .ok (.imul, 1) := by decide +kernel
theorem dX0_inBody_11 : decode cX0_inBody 11 = .ok (.istore_n 3, 1) := by decide +kernel
theorem dX0_inBody_12 : decode cX0_inBody 12 = .ok (.iload_n 3, 1) := by decide +kernel
theorem dX0_inBody_13 : decode cX0_inBody 13 = .ok (.iconst 3, 1) := by decide +kernel
theorem dX0_inBody_14 : decode cX0_inBody 14 = .ok (.iload_n 1, 1) := by decide +kernel
theorem dX0_inBody_15 : decode cX0_inBody 15 = .ok (.imul, 1) := by decide +kernel
theorem dX0_inBody_16 : decode cX0_inBody 16 = .ok (.aload_n 0, 1) := by decide +kernel
theorem dX0_inBody_17 : decode cX0_inBody 17 = .ok (.getfield 25, 3) := by decide +kernel
theorem dX0_inBody_20 : decode cX0_inBody 20 = .ok (.iload_n 1, 1) := by decide +kernel
theorem dX0_inBody_21 : decode cX0_inBody 21 = .ok (.baload, 1) := by decide +kernel
theorem dX0_inBody_22 : decode cX0_inBody 22 = .ok (.iadd, 1) := by decide +kernel
theorem dX0_inBody_23 : decode cX0_inBody 23 = .ok (.if_icmp .ge 31, 3) := by decide +kernel
theorem dX0_inBody_26 : decode cX0_inBody 26 = .ok (.aload_n 0, 1) := by decide +kernel
theorem dX0_inBody_27 : decode cX0_inBody 27 = .ok (.getfield 31, 3) := by decide +kernel
theorem dX0_inBody_30 : decode cX0_inBody 30 = .ok (.iload_n 3, 1) := by decide +kernel
theorem dX0_inBody_31 : decode cX0_inBody 31 = .ok (.baload, 1) := by decide +kernel
theorem dX0_inBody_32 : decode cX0_inBody 32 = .ok (.iload_n 2, 1) := by decide +kernel
theorem dX0_inBody_33 : decode cX0_inBody 33 = .ok (.if_icmp .eq 13, 3) := by decide +kernel
theorem dX0_inBody_36 : decode cX0_inBody 36 = .ok (.aload_n 0, 1) := by decide +kernel
theorem dX0_inBody_37 : decode cX0_inBody 37 = .ok (.getfield 34, 3) := by decide +kernel
theorem dX0_inBody_40 : decode cX0_inBody 40 = .ok (.iload_n 3, 1) := by decide +kernel
theorem dX0_inBody_41 : decode cX0_inBody 41 = .ok (.baload, 1) := by decide +kernel
theorem dX0_inBody_42 : decode cX0_inBody 42 = .ok (.iload_n 2, 1) := by decide +kernel
theorem dX0_inBody_43 : decode cX0_inBody 43 = .ok (.if_icmp .ne 5, 3) := by decide +kernel
theorem dX0_inBody_46 : decode cX0_inBody 46 = .ok (.iconst 1, 1) := by decide +kernel
theorem dX0_inBody_47 : decode cX0_inBody 47 = .ok (.ireturn, 1) := by decide +kernel
theorem dX0_inBody_48 : decode cX0_inBody 48 = .ok (.iinc 3 1, 3) := by decide +kernel
theorem dX0_inBody_51 : decode cX0_inBody 51 = .ok (.goto (-39), 3) := by decide +kernel
theorem dX0_inBody_54 : decode cX0_inBody 54 = .ok (.iconst 0, 1) := by decide +kernel
theorem dX0_inBody_55 : decode cX0_inBody 55 = .ok (.ireturn, 1) := by decide +kernel
abbrev cX0_matchRule : ByteArray := prog_1_method_22_code
def yX0_matchRule : MethodName := ⟨RX0, "matchRule", "(I)V"⟩
theorem dX0_matchRule_0 : decode cX0_matchRule 0 = .ok (.iconst 0, 1) := by decide +kernel
theorem dX0_matchRule_1 : decode cX0_matchRule 1 = .ok (.istore_n 2, 1) := by decide +kernel
theorem dX0_matchRule_2 : decode cX0_matchRule 2 = .ok (.iload_n 2, 1) := by decide +kernel
theorem dX0_matchRule_3 : decode cX0_matchRule 3 = .ok (.bipush 7, 2) := by decide +kernel
theorem dX0_matchRule_5 : decode cX0_matchRule 5 = .ok (.if_icmp .ge 16, 3) := by decide +kernel
theorem dX0_matchRule_8 : decode cX0_matchRule 8 = .ok (.aload_n 0, 1) := by decide +kernel
theorem dX0_matchRule_9 : decode cX0_matchRule 9 = .ok (.getfield 37, 3) := by decide +kernel
theorem dX0_matchRule_12 : decode cX0_matchRule 12 = .ok (.iload_n 2, 1) := by decide +kernel
theorem dX0_matchRule_13 : decode cX0_matchRule 13 = .ok (.iconst (-1), 1) := by decide +kernel
theorem dX0_matchRule_14 : decode cX0_matchRule 14 = .ok (.bastore, 1) := by decide +kernel
theorem dX0_matchRule_15 : decode cX0_matchRule 15 = .ok (.iinc 2 1, 3) := by decide +kernel
theorem dX0_matchRule_18 : decode cX0_matchRule 18 = .ok (.goto (-16), 3) := by decide +kernel
theorem dX0_matchRule_21 : decode cX0_matchRule 21 = .ok (.iconst 0, 1) := by decide +kernel
theorem dX0_matchRule_22 : decode cX0_matchRule 22 = .ok (.istore_n 2, 1) := by decide +kernel
theorem dX0_matchRule_23 : decode cX0_matchRule 23 = .ok (.aload_n 0, 1) := by decide +kernel
theorem dX0_matchRule_24 : decode cX0_matchRule 24 = .ok (.iconst 0, 1) := by decide +kernel
theorem dX0_matchRule_25 : decode cX0_matchRule 25 = .ok (.invokevirtual 101, 3) := by decide +kernel
theorem dX0_matchRule_28 : decode cX0_matchRule 28 = .ok (.aload_n 0, 1) := by decide +kernel
theorem dX0_matchRule_29 : decode cX0_matchRule 29 = .ok (.getfield 40, 3) := by decide +kernel
theorem dX0_matchRule_32 : decode cX0_matchRule 32 = .ok (.iconst 0, 1) := by decide +kernel
theorem dX0_matchRule_33 : decode cX0_matchRule 33 = .ok (.iconst 0, 1) := by decide +kernel
theorem dX0_matchRule_34 : decode cX0_matchRule 34 = .ok (.bastore, 1) := by decide +kernel
theorem dX0_matchRule_35 : decode cX0_matchRule 35 = .ok (.iload_n 2, 1) := by decide +kernel
theorem dX0_matchRule_36 : decode cX0_matchRule 36 = .ok (.ifCond .lt 160, 3) := by decide +kernel
theorem dX0_matchRule_39 : decode cX0_matchRule 39 = .ok (.aload_n 0, 1) := by decide +kernel
theorem dX0_matchRule_40 : decode cX0_matchRule 40 = .ok (.getfield 81, 3) := by decide +kernel
theorem dX0_matchRule_43 : decode cX0_matchRule 43 = .ok (.ifCond .ne 153, 3) := by decide +kernel
theorem dX0_matchRule_46 : decode cX0_matchRule 46 = .ok (.aload_n 0, 1) := by decide +kernel
theorem dX0_matchRule_47 : decode cX0_matchRule 47 = .ok (.iload_n 2, 1) := by decide +kernel
theorem dX0_matchRule_48 : decode cX0_matchRule 48 = .ok (.invokevirtual 104, 3) := by decide +kernel
theorem dX0_matchRule_51 : decode cX0_matchRule 51 = .ok (.iload_n 2, 1) := by decide +kernel
theorem dX0_matchRule_52 : decode cX0_matchRule 52 = .ok (.aload_n 0, 1) := by decide +kernel
theorem dX0_matchRule_53 : decode cX0_matchRule 53 = .ok (.getfield 25, 3) := by decide +kernel
theorem dX0_matchRule_56 : decode cX0_matchRule 56 = .ok (.iload_n 1, 1) := by decide +kernel
theorem dX0_matchRule_57 : decode cX0_matchRule 57 = .ok (.baload, 1) := by decide +kernel
theorem dX0_matchRule_58 : decode cX0_matchRule 58 = .ok (.if_icmp .ne 14, 3) := by decide +kernel
theorem dX0_matchRule_61 : decode cX0_matchRule 61 = .ok (.aload_n 0, 1) := by decide +kernel
theorem dX0_matchRule_62 : decode cX0_matchRule 62 = .ok (.iload_n 1, 1) := by decide +kernel
theorem dX0_matchRule_63 : decode cX0_matchRule 63 = .ok (.invokevirtual 107, 3) := by decide +kernel
theorem dX0_matchRule_66 : decode cX0_matchRule 66 = .ok (.iinc 2 (-1), 3) := by decide +kernel
theorem dX0_matchRule_69 : decode cX0_matchRule 69 = .ok (.goto (-34), 3) := by decide +kernel
theorem dX0_matchRule_72 : decode cX0_matchRule 72 = .ok (.iconst 3, 1) := by decide +kernel
theorem dX0_matchRule_73 : decode cX0_matchRule 73 = .ok (.iload_n 1, 1) := by decide +kernel
theorem dX0_matchRule_74 : decode cX0_matchRule 74 = .ok (.imul, 1) := by decide +kernel
theorem dX0_matchRule_75 : decode cX0_matchRule 75 = .ok (.iload_n 2, 1) := by decide +kernel
theorem dX0_matchRule_76 : decode cX0_matchRule 76 = .ok (.iadd, 1) := by decide +kernel
theorem dX0_matchRule_77 : decode cX0_matchRule 77 = .ok (.istore_n 3, 1) := by decide +kernel
theorem dX0_matchRule_78 : decode cX0_matchRule 78 = .ok (.aload_n 0, 1) := by decide +kernel
theorem dX0_matchRule_79 : decode cX0_matchRule 79 = .ok (.getfield 28, 3) := by decide +kernel
theorem dX0_matchRule_82 : decode cX0_matchRule 82 = .ok (.iload_n 3, 1) := by decide +kernel
theorem dX0_matchRule_83 : decode cX0_matchRule 83 = .ok (.baload, 1) := by decide +kernel
theorem dX0_matchRule_84 : decode cX0_matchRule 84 = .ok (.istore 4, 2) := by decide +kernel
theorem dX0_matchRule_86 : decode cX0_matchRule 86 = .ok (.aload_n 0, 1) := by decide +kernel
theorem dX0_matchRule_87 : decode cX0_matchRule 87 = .ok (.getfield 40, 3) := by decide +kernel
theorem dX0_matchRule_90 : decode cX0_matchRule 90 = .ok (.iload_n 2, 1) := by decide +kernel
theorem dX0_matchRule_91 : decode cX0_matchRule 91 = .ok (.baload, 1) := by decide +kernel
theorem dX0_matchRule_92 : decode cX0_matchRule 92 = .ok (.istore 5, 2) := by decide +kernel
theorem dX0_matchRule_94 : decode cX0_matchRule 94 = .ok (.iload 5, 2) := by decide +kernel
theorem dX0_matchRule_96 : decode cX0_matchRule 96 = .ok (.aload_n 0, 1) := by decide +kernel
theorem dX0_matchRule_97 : decode cX0_matchRule 97 = .ok (.getfield 7, 3) := by decide +kernel
theorem dX0_matchRule_100 : decode cX0_matchRule 100 = .ok (.iload 4, 2) := by decide +kernel
theorem dX0_matchRule_102 : decode cX0_matchRule 102 = .ok (.baload, 1) := by decide +kernel
theorem dX0_matchRule_103 : decode cX0_matchRule 103 = .ok (.if_icmp .ne 9, 3) := by decide +kernel
theorem dX0_matchRule_106 : decode cX0_matchRule 106 = .ok (.iinc 2 (-1), 3) := by decide +kernel
theorem dX0_matchRule_109 : decode cX0_matchRule 109 = .ok (.goto (-74), 3) := by decide +kernel
theorem dX0_matchRule_112 : decode cX0_matchRule 112 = .ok (.aload_n 0, 1) := by decide +kernel
theorem dX0_matchRule_113 : decode cX0_matchRule 113 = .ok (.getfield 40, 3) := by decide +kernel
theorem dX0_matchRule_116 : decode cX0_matchRule 116 = .ok (.iload_n 2, 1) := by decide +kernel
theorem dX0_matchRule_117 : decode cX0_matchRule 117 = .ok (.dup2, 1) := by decide +kernel
theorem dX0_matchRule_118 : decode cX0_matchRule 118 = .ok (.baload, 1) := by decide +kernel
theorem dX0_matchRule_119 : decode cX0_matchRule 119 = .ok (.iconst 1, 1) := by decide +kernel
theorem dX0_matchRule_120 : decode cX0_matchRule 120 = .ok (.iadd, 1) := by decide +kernel
theorem dX0_matchRule_121 : decode cX0_matchRule 121 = .ok (.i2b, 1) := by decide +kernel
theorem dX0_matchRule_122 : decode cX0_matchRule 122 = .ok (.bastore, 1) := by decide +kernel
theorem dX0_matchRule_123 : decode cX0_matchRule 123 = .ok (.aload_n 0, 1) := by decide +kernel
theorem dX0_matchRule_124 : decode cX0_matchRule 124 = .ok (.aload_n 0, 1) := by decide +kernel
theorem dX0_matchRule_125 : decode cX0_matchRule 125 = .ok (.getfield 31, 3) := by decide +kernel
theorem dX0_matchRule_128 : decode cX0_matchRule 128 = .ok (.iload_n 3, 1) := by decide +kernel
theorem dX0_matchRule_129 : decode cX0_matchRule 129 = .ok (.baload, 1) := by decide +kernel
theorem dX0_matchRule_130 : decode cX0_matchRule 130 = .ok (.aload_n 0, 1) := by decide +kernel
theorem dX0_matchRule_131 : decode cX0_matchRule 131 = .ok (.getfield 13, 3) := by decide +kernel
theorem dX0_matchRule_134 : decode cX0_matchRule 134 = .ok (.iconst 5, 1) := by decide +kernel
theorem dX0_matchRule_135 : decode cX0_matchRule 135 = .ok (.iload 4, 2) := by decide +kernel
theorem dX0_matchRule_137 : decode cX0_matchRule 137 = .ok (.imul, 1) := by decide +kernel
theorem dX0_matchRule_138 : decode cX0_matchRule 138 = .ok (.iload 5, 2) := by decide +kernel
theorem dX0_matchRule_140 : decode cX0_matchRule 140 = .ok (.iadd, 1) := by decide +kernel
theorem dX0_matchRule_141 : decode cX0_matchRule 141 = .ok (.baload, 1) := by decide +kernel
theorem dX0_matchRule_142 : decode cX0_matchRule 142 = .ok (.invokevirtual 110, 3) := by decide +kernel
theorem dX0_matchRule_145 : decode cX0_matchRule 145 = .ok (.ifCond .eq 48, 3) := by decide +kernel
theorem dX0_matchRule_148 : decode cX0_matchRule 148 = .ok (.aload_n 0, 1) := by decide +kernel
theorem dX0_matchRule_149 : decode cX0_matchRule 149 = .ok (.aload_n 0, 1) := by decide +kernel
theorem dX0_matchRule_150 : decode cX0_matchRule 150 = .ok (.getfield 34, 3) := by decide +kernel
theorem dX0_matchRule_153 : decode cX0_matchRule 153 = .ok (.iload_n 3, 1) := by decide +kernel
theorem dX0_matchRule_154 : decode cX0_matchRule 154 = .ok (.baload, 1) := by decide +kernel
theorem dX0_matchRule_155 : decode cX0_matchRule 155 = .ok (.aload_n 0, 1) := by decide +kernel
theorem dX0_matchRule_156 : decode cX0_matchRule 156 = .ok (.getfield 16, 3) := by decide +kernel
theorem dX0_matchRule_159 : decode cX0_matchRule 159 = .ok (.iconst 5, 1) := by decide +kernel
theorem dX0_matchRule_160 : decode cX0_matchRule 160 = .ok (.iload 4, 2) := by decide +kernel
theorem dX0_matchRule_162 : decode cX0_matchRule 162 = .ok (.imul, 1) := by decide +kernel
theorem dX0_matchRule_163 : decode cX0_matchRule 163 = .ok (.iload 5, 2) := by decide +kernel
theorem dX0_matchRule_165 : decode cX0_matchRule 165 = .ok (.iadd, 1) := by decide +kernel
theorem dX0_matchRule_166 : decode cX0_matchRule 166 = .ok (.baload, 1) := by decide +kernel
theorem dX0_matchRule_167 : decode cX0_matchRule 167 = .ok (.invokevirtual 110, 3) := by decide +kernel
theorem dX0_matchRule_170 : decode cX0_matchRule 170 = .ok (.ifCond .eq 23, 3) := by decide +kernel
theorem dX0_matchRule_173 : decode cX0_matchRule 173 = .ok (.iinc 2 1, 3) := by decide +kernel
theorem dX0_matchRule_176 : decode cX0_matchRule 176 = .ok (.aload_n 0, 1) := by decide +kernel
theorem dX0_matchRule_177 : decode cX0_matchRule 177 = .ok (.iload_n 2, 1) := by decide +kernel
theorem dX0_matchRule_178 : decode cX0_matchRule 178 = .ok (.invokevirtual 101, 3) := by decide +kernel
theorem dX0_matchRule_181 : decode cX0_matchRule 181 = .ok (.iload_n 2, 1) := by decide +kernel
theorem dX0_matchRule_182 : decode cX0_matchRule 182 = .ok (.iconst 4, 1) := by decide +kernel
theorem dX0_matchRule_183 : decode cX0_matchRule 183 = .ok (.if_icmp .ge 10, 3) := by decide +kernel
theorem dX0_matchRule_186 : decode cX0_matchRule 186 = .ok (.aload_n 0, 1) := by decide +kernel
theorem dX0_matchRule_187 : decode cX0_matchRule 187 = .ok (.getfield 40, 3) := by decide +kernel
theorem dX0_matchRule_190 : decode cX0_matchRule 190 = .ok (.iload_n 2, 1) := by decide +kernel
theorem dX0_matchRule_191 : decode cX0_matchRule 191 = .ok (.iconst 0, 1) := by decide +kernel
theorem dX0_matchRule_192 : decode cX0_matchRule 192 = .ok (.bastore, 1) := by decide +kernel
theorem dX0_matchRule_193 : decode cX0_matchRule 193 = .ok (.goto (-158), 3) := by decide +kernel
theorem dX0_matchRule_196 : decode cX0_matchRule 196 = .ok (.return_, 1) := by decide +kernel
end
section
set_option maxRecDepth 100000
abbrev cX0_save : ByteArray := prog_1_method_20_code
def yX0_save : MethodName := ⟨RX0, "save", "(I)V"⟩
theorem dX0_save_0 : decode cX0_save 0 = .ok (.iconst 0, 1) := by decide +kernel
theorem dX0_save_1 : decode cX0_save 1 = .ok (.istore_n 2, 1) := by decide +kernel
theorem dX0_save_2 : decode cX0_save 2 = .ok (.iload_n 2, 1) := by decide +kernel
theorem dX0_save_3 : decode cX0_save 3 = .ok (.bipush 7, 2) := by decide +kernel
theorem dX0_save_5 : decode cX0_save 5 = .ok (.if_icmp .ge 26, 3) := by decide +kernel
theorem dX0_save_8 : decode cX0_save 8 = .ok (.aload_n 0, 1) := by decide +kernel
theorem dX0_save_9 : decode cX0_save 9 = .ok (.getfield 43, 3) := by decide +kernel
theorem dX0_save_12 : decode cX0_save 12 = .ok (.bipush 7, 2) := by decide +kernel
theorem dX0_save_14 : decode cX0_save 14 = .ok (.iload_n 1, 1) := by decide +kernel
theorem dX0_save_15 : decode cX0_save 15 = .ok (.imul, 1) := by decide +kernel
theorem dX0_save_16 : decode cX0_save 16 = .ok (.iload_n 2, 1) := by decide +kernel
theorem dX0_save_17 : decode cX0_save 17 = .ok (.iadd, 1) := by decide +kernel
theorem dX0_save_18 : decode cX0_save 18 = .ok (.aload_n 0, 1) := by decide +kernel
theorem dX0_save_19 : decode cX0_save 19 = .ok (.getfield 37, 3) := by decide +kernel
theorem dX0_save_22 : decode cX0_save 22 = .ok (.iload_n 2, 1) := by decide +kernel
theorem dX0_save_23 : decode cX0_save 23 = .ok (.baload, 1) := by decide +kernel
theorem dX0_save_24 : decode cX0_save 24 = .ok (.bastore, 1) := by decide +kernel
theorem dX0_save_25 : decode cX0_save 25 = .ok (.iinc 2 1, 3) := by decide +kernel
theorem dX0_save_28 : decode cX0_save 28 = .ok (.goto (-26), 3) := by decide +kernel
theorem dX0_save_31 : decode cX0_save 31 = .ok (.return_, 1) := by decide +kernel
abbrev cX0_restore : ByteArray := prog_1_method_21_code
def yX0_restore : MethodName := ⟨RX0, "restore", "(I)V"⟩
theorem dX0_restore_0 : decode cX0_restore 0 = .ok (.iconst 0, 1) := by decide +kernel
theorem dX0_restore_1 : decode cX0_restore 1 = .ok (.istore_n 2, 1) := by decide +kernel
theorem dX0_restore_2 : decode cX0_restore 2 = .ok (.iload_n 2, 1) := by decide +kernel
theorem dX0_restore_3 : decode cX0_restore 3 = .ok (.bipush 7, 2) := by decide +kernel
theorem dX0_restore_5 : decode cX0_restore 5 = .ok (.if_icmp .ge 26, 3) := by decide +kernel
theorem dX0_restore_8 : decode cX0_restore 8 = .ok (.aload_n 0, 1) := by decide +kernel
theorem dX0_restore_9 : decode cX0_restore 9 = .ok (.getfield 37, 3) := by decide +kernel
theorem dX0_restore_12 : decode cX0_restore 12 = .ok (.iload_n 2, 1) := by decide +kernel
theorem dX0_restore_13 : decode cX0_restore 13 = .ok (.aload_n 0, 1) := by decide +kernel
theorem dX0_restore_14 : decode cX0_restore 14 = .ok (.getfield 43, 3) := by decide +kernel
theorem dX0_restore_17 : decode cX0_restore 17 = .ok (.bipush 7, 2) := by decide +kernel
theorem dX0_restore_19 : decode cX0_restore 19 = .ok (.iload_n 1, 1) := by decide +kernel
theorem dX0_restore_20 : decode cX0_restore 20 = .ok (.imul, 1) := by decide +kernel
theorem dX0_restore_21 : decode cX0_restore 21 = .ok (.iload_n 2, 1) := by decide +kernel
theorem dX0_restore_22 : decode cX0_restore 22 = .ok (.iadd, 1) := by decide +kernel
theorem dX0_restore_23 : decode cX0_restore 23 = .ok (.baload, 1) := by decide +kernel
theorem dX0_restore_24 : decode cX0_restore 24 = .ok (.bastore, 1) := by decide +kernel
theorem dX0_restore_25 : decode cX0_restore 25 = .ok (.iinc 2 1, 3) := by decide +kernel
theorem dX0_restore_28 : decode cX0_restore 28 = .ok (.goto (-26), 3) := by decide +kernel
theorem dX0_restore_31 : decode cX0_restore 31 = .ok (.return_, 1) := by decide +kernel
abbrev cX0_finish : ByteArray := prog_1_method_23_code
def yX0_finish : MethodName := ⟨RX0, "finish", "(I)V"⟩
theorem dX0_finish_0 : decode cX0_finish 0 = .ok (.aload_n 0, 1) := by decide +kernel
theorem dX0_finish_1 : decode cX0_finish 1 = .ok (.getfield 72, 3) := by decide +kernel
theorem dX0_finish_4 : decode cX0_finish 4 = .ok (.ifCond .ne 47, 3) := by decide +kernel
theorem dX0_finish_7 : decode cX0_finish 7 = .ok (.aload_n 0, 1) := by decide +kernel
theorem dX0_finish_8 : decode cX0_finish 8 = .ok (.aload_n 0, 1) := by decide +kernel
theorem dX0_finish_9 : decode cX0_finish 9 = .ok (.aload_n 0, 1) := by decide +kernel
theorem dX0_finish_10 : decode cX0_finish 10 = .ok (.getfield 19, 3) := by decide +kernel
theorem dX0_finish_13 : decode cX0_finish 13 = .ok (.iload_n 1, 1) := by decide +kernel
theorem dX0_finish_14 : decode cX0_finish 14 = .ok (.baload, 1) := by decide +kernel
theorem dX0_finish_15 : decode cX0_finish 15 = .ok (.aload_n 0, 1) := by decide +kernel
theorem dX0_finish_16 : decode cX0_finish 16 = .ok (.getfield 75, 3) := by decide +kernel
theorem dX0_finish_19 : decode cX0_finish 19 = .ok (.invokevirtual 110, 3) := by decide +kernel
theorem dX0_finish_22 : decode cX0_finish 22 = .ok (.ifCond .eq 24, 3) := by decide +kernel
theorem dX0_finish_25 : decode cX0_finish 25 = .ok (.aload_n 0, 1) := by decide +kernel
theorem dX0_finish_26 : decode cX0_finish 26 = .ok (.aload_n 0, 1) := by decide +kernel
theorem dX0_finish_27 : decode cX0_finish 27 = .ok (.getfield 22, 3) := by decide +kernel
theorem dX0_finish_30 : decode cX0_finish 30 = .ok (.iload_n 1, 1) := by decide +kernel
theorem dX0_finish_31 : decode cX0_finish 31 = .ok (.baload, 1) := by decide +kernel
theorem dX0_finish_32 : decode cX0_finish 32 = .ok (.aload_n 0, 1) := by decide +kernel
theorem dX0_finish_33 : decode cX0_finish 33 = .ok (.getfield 78, 3) := by decide +kernel
theorem dX0_finish_36 : decode cX0_finish 36 = .ok (.invokevirtual 110, 3) := by decide +kernel
theorem dX0_finish_39 : decode cX0_finish 39 = .ok (.ifCond .eq 7, 3) := by decide +kernel
theorem dX0_finish_42 : decode cX0_finish 42 = .ok (.iconst 1, 1) := by decide +kernel
theorem dX0_finish_43 : decode cX0_finish 43 = .ok (.goto 4, 3) := by decide +kernel
theorem dX0_finish_46 : decode cX0_finish 46 = .ok (.iconst 0, 1) := by decide +kernel
theorem dX0_finish_47 : decode cX0_finish 47 = .ok (.putfield 81, 3) := by decide +kernel
theorem dX0_finish_50 : decode cX0_finish 50 = .ok (.return_, 1) := by decide +kernel
theorem dX0_finish_51 : decode cX0_finish 51 = .ok (.aload_n 0, 1) := by decide +kernel
theorem dX0_finish_52 : decode cX0_finish 52 = .ok (.iconst 1, 1) := by decide +kernel
theorem dX0_finish_53 : decode cX0_finish 53 = .ok (.putfield 91, 3) := by decide +kernel
theorem dX0_finish_56 : decode cX0_finish 56 = .ok (.aload_n 0, 1) := by decide +kernel
theorem dX0_finish_57 : decode cX0_finish 57 = .ok (.aload_n 0, 1) := by decide +kernel
theorem dX0_finish_58 : decode cX0_finish 58 = .ok (.getfield 19, 3) := by decide +kernel
theorem dX0_finish_61 : decode cX0_finish 61 = .ok (.iload_n 1, 1) := by decide +kernel
theorem dX0_finish_62 : decode cX0_finish 62 = .ok (.baload, 1) := by decide +kernel
theorem dX0_finish_63 : decode cX0_finish 63 = .ok (.invokevirtual 98, 3) := by decide +kernel
theorem dX0_finish_66 : decode cX0_finish 66 = .ok (.istore_n 2, 1) := by decide +kernel
theorem dX0_finish_67 : decode cX0_finish 67 = .ok (.aload_n 0, 1) := by decide +kernel
theorem dX0_finish_68 : decode cX0_finish 68 = .ok (.aload_n 0, 1) := by decide +kernel
theorem dX0_finish_69 : decode cX0_finish 69 = .ok (.getfield 22, 3) := by decide +kernel
theorem dX0_finish_72 : decode cX0_finish 72 = .ok (.iload_n 1, 1) := by decide +kernel
theorem dX0_finish_73 : decode cX0_finish 73 = .ok (.baload, 1) := by decide +kernel
theorem dX0_finish_74 : decode cX0_finish 74 = .ok (.invokevirtual 98, 3) := by decide +kernel
theorem dX0_finish_77 : decode cX0_finish 77 = .ok (.istore_n 3, 1) := by decide +kernel
theorem dX0_finish_78 : decode cX0_finish 78 = .ok (.iload_n 2, 1) := by decide +kernel
theorem dX0_finish_79 : decode cX0_finish 79 = .ok (.bipush 10, 2) := by decide +kernel
theorem dX0_finish_81 : decode cX0_finish 81 = .ok (.if_icmp .ge 26, 3) := by decide +kernel
theorem dX0_finish_84 : decode cX0_finish 84 = .ok (.iload_n 3, 1) := by decide +kernel
theorem dX0_finish_85 : decode cX0_finish 85 = .ok (.bipush 10, 2) := by decide +kernel
theorem dX0_finish_87 : decode cX0_finish 87 = .ok (.if_icmp .ge 20, 3) := by decide +kernel
theorem dX0_finish_90 : decode cX0_finish 90 = .ok (.aload_n 0, 1) := by decide +kernel
theorem dX0_finish_91 : decode cX0_finish 91 = .ok (.dup, 1) := by decide +kernel
theorem dX0_finish_92 : decode cX0_finish 92 = .ok (.getfield 68, 3) := by decide +kernel
theorem dX0_finish_95 : decode cX0_finish 95 = .ok (.lconst 1, 1) := by decide +kernel
theorem dX0_finish_96 : decode cX0_finish 96 = .ok (.bipush 7, 2) := by decide +kernel
theorem dX0_finish_98 : decode cX0_finish 98 = .ok (.iload_n 2, 1) := by decide +kernel
theorem dX0_finish_99 : decode cX0_finish 99 = .ok (.imul, 1) := by decide +kernel
theorem dX0_finish_100 : decode cX0_finish 100 = .ok (.iload_n 3, 1) := by decide +kernel
theorem dX0_finish_101 : decode cX0_finish 101 = .ok (.iadd, 1) := by decide +kernel
theorem dX0_finish_102 : decode cX0_finish 102 = .ok (.lshl, 1) := by decide +kernel
theorem dX0_finish_103 : decode cX0_finish 103 = .ok (.lor, 1) := by decide +kernel
theorem dX0_finish_104 : decode cX0_finish 104 = .ok (.putfield 68, 3) := by decide +kernel
theorem dX0_finish_107 : decode cX0_finish 107 = .ok (.return_, 1) := by decide +kernel
abbrev cX0_unify : ByteArray := prog_1_method_19_code
def yX0_unify : MethodName := ⟨RX0, "unify", "(II)Z"⟩
theorem dX0_unify_0 : decode cX0_unify 0 = .ok (.aload_n 0, 1) := by decide +kernel
theorem dX0_unify_1 : decode cX0_unify 1 = .ok (.iload_n 1, 1) := by decide +kernel
theorem dX0_unify_2 : decode cX0_unify 2 = .ok (.invokevirtual 98, 3) := by decide +kernel
theorem dX0_unify_5 : decode cX0_unify 5 = .ok (.istore_n 3, 1) := by decide +kernel
theorem dX0_unify_6 : decode cX0_unify 6 = .ok (.aload_n 0, 1) := by decide +kernel
theorem dX0_unify_7 : decode cX0_unify 7 = .ok (.iload_n 2, 1) := by decide +kernel
theorem dX0_unify_8 : decode cX0_unify 8 = .ok (.invokevirtual 98, 3) := by decide +kernel
theorem dX0_unify_11 : decode cX0_unify 11 = .ok (.istore 4, 2) := by decide +kernel
theorem dX0_unify_13 : decode cX0_unify 13 = .ok (.iload_n 3, 1) := by decide +kernel
theorem dX0_unify_14 : decode cX0_unify 14 = .ok (.iload 4, 2) := by decide +kernel
theorem dX0_unify_16 : decode cX0_unify 16 = .ok (.if_icmp .ne 5, 3) := by decide +kernel
theorem dX0_unify_19 : decode cX0_unify 19 = .ok (.iconst 1, 1) := by decide +kernel
theorem dX0_unify_20 : decode cX0_unify 20 = .ok (.ireturn, 1) := by decide +kernel
theorem dX0_unify_21 : decode cX0_unify 21 = .ok (.aload_n 0, 1) := by decide +kernel
theorem dX0_unify_22 : decode cX0_unify 22 = .ok (.getfield 72, 3) := by decide +kernel
theorem dX0_unify_25 : decode cX0_unify 25 = .ok (.ifCond .eq 8, 3) := by decide +kernel
theorem dX0_unify_28 : decode cX0_unify 28 = .ok (.bipush 20, 2) := by decide +kernel
theorem dX0_unify_30 : decode cX0_unify 30 = .ok (.goto 5, 3) := by decide +kernel
theorem dX0_unify_33 : decode cX0_unify 33 = .ok (.bipush 10, 2) := by decide +kernel
theorem dX0_unify_35 : decode cX0_unify 35 = .ok (.istore 5, 2) := by decide +kernel
theorem dX0_unify_37 : decode cX0_unify 37 = .ok (.iload_n 3, 1) := by decide +kernel
theorem dX0_unify_38 : decode cX0_unify 38 = .ok (.iload 5, 2) := by decide +kernel
theorem dX0_unify_40 : decode cX0_unify 40 = .ok (.if_icmp .lt 24, 3) := by decide +kernel
theorem dX0_unify_43 : decode cX0_unify 43 = .ok (.iload_n 3, 1) := by decide +kernel
theorem dX0_unify_44 : decode cX0_unify 44 = .ok (.iload 4, 2) := by decide +kernel
theorem dX0_unify_46 : decode cX0_unify 46 = .ok (.if_icmp .lt 18, 3) := by decide +kernel
theorem dX0_unify_49 : decode cX0_unify 49 = .ok (.aload_n 0, 1) := by decide +kernel
theorem dX0_unify_50 : decode cX0_unify 50 = .ok (.getfield 37, 3) := by decide +kernel
theorem dX0_unify_53 : decode cX0_unify 53 = .ok (.aload_n 0, 1) := by decide +kernel
theorem dX0_unify_54 : decode cX0_unify 54 = .ok (.iload_n 3, 1) := by decide +kernel
theorem dX0_unify_55 : decode cX0_unify 55 = .ok (.invokevirtual 94, 3) := by decide +kernel
theorem dX0_unify_58 : decode cX0_unify 58 = .ok (.iload 4, 2) := by decide +kernel
theorem dX0_unify_60 : decode cX0_unify 60 = .ok (.i2b, 1) := by decide +kernel
theorem dX0_unify_61 : decode cX0_unify 61 = .ok (.bastore, 1) := by decide +kernel
theorem dX0_unify_62 : decode cX0_unify 62 = .ok (.iconst 1, 1) := by decide +kernel
theorem dX0_unify_63 : decode cX0_unify 63 = .ok (.ireturn, 1) := by decide +kernel
theorem dX0_unify_64 : decode cX0_unify 64 = .ok (.iload 4, 2) := by decide +kernel
theorem dX0_unify_66 : decode cX0_unify 66 = .ok (.iload 5, 2) := by decide +kernel
theorem dX0_unify_68 : decode cX0_unify 68 = .ok (.if_icmp .ge 5, 3) := by decide +kernel
theorem dX0_unify_71 : decode cX0_unify 71 = .ok (.iconst 0, 1) := by decide +kernel
theorem dX0_unify_72 : decode cX0_unify 72 = .ok (.ireturn, 1) := by decide +kernel
theorem dX0_unify_73 : decode cX0_unify 73 = .ok (.aload_n 0, 1) := by decide +kernel
theorem dX0_unify_74 : decode cX0_unify 74 = .ok (.getfield 37, 3) := by decide +kernel
theorem dX0_unify_77 : decode cX0_unify 77 = .ok (.aload_n 0, 1) := by decide +kernel
theorem dX0_unify_78 : decode cX0_unify 78 = .ok (.iload 4, 2) := by decide +kernel
theorem dX0_unify_80 : decode cX0_unify 80 = .ok (.invokevirtual 94, 3) := by decide +kernel
theorem dX0_unify_83 : decode cX0_unify 83 = .ok (.iload_n 3, 1) := by decide +kernel
theorem dX0_unify_84 : decode cX0_unify 84 = .ok (.i2b, 1) := by decide +kernel
theorem dX0_unify_85 : decode cX0_unify 85 = .ok (.bastore, 1) := by decide +kernel
theorem dX0_unify_86 : decode cX0_unify 86 = .ok (.iconst 1, 1) := by decide +kernel
theorem dX0_unify_87 : decode cX0_unify 87 = .ok (.ireturn, 1) := by decide +kernel
abbrev cX0_valueOf : ByteArray := prog_1_method_18_code
def yX0_valueOf : MethodName := ⟨RX0, "valueOf", "(I)I"⟩
theorem dX0_valueOf_0 : decode cX0_valueOf 0 = .ok (.iload_n 1, 1) := by decide +kernel
theorem dX0_valueOf_1 : decode cX0_valueOf 1 = .ok (.istore_n 2, 1) := by decide +kernel
theorem dX0_valueOf_2 : decode cX0_valueOf 2 = .ok (.iconst 0, 1) := by decide +kernel
theorem dX0_valueOf_3 : decode cX0_valueOf 3 = .ok (.istore_n 3, 1) := by decide +kernel
theorem dX0_valueOf_4 : decode cX0_valueOf 4 = .ok (.iload_n 3, 1) := by decide +kernel
theorem dX0_valueOf_5 : decode cX0_valueOf 5 = .ok (.bipush 8, 2) := by decide +kernel
theorem dX0_valueOf_7 : decode cX0_valueOf 7 = .ok (.if_icmp .ge 41, 3) := by decide +kernel
theorem dX0_valueOf_10 : decode cX0_valueOf 10 = .ok (.aload_n 0, 1) := by decide +kernel
theorem dX0_valueOf_11 : decode cX0_valueOf 11 = .ok (.iload_n 2, 1) := by decide +kernel
theorem dX0_valueOf_12 : decode cX0_valueOf 12 = .ok (.invokevirtual 94, 3) := by decide +kernel
theorem dX0_valueOf_15 : decode cX0_valueOf 15 = .ok (.istore 4, 2) := by decide +kernel
theorem dX0_valueOf_17 : decode cX0_valueOf 17 = .ok (.iload 4, 2) := by decide +kernel
theorem dX0_valueOf_19 : decode cX0_valueOf 19 = .ok (.ifCond .lt 13, 3) := by decide +kernel
theorem dX0_valueOf_22 : decode cX0_valueOf 22 = .ok (.aload_n 0, 1) := by decide +kernel
theorem dX0_valueOf_23 : decode cX0_valueOf 23 = .ok (.getfield 37, 3) := by decide +kernel
theorem dX0_valueOf_26 : decode cX0_valueOf 26 = .ok (.iload 4, 2) := by decide +kernel
theorem dX0_valueOf_28 : decode cX0_valueOf 28 = .ok (.baload, 1) := by decide +kernel
theorem dX0_valueOf_29 : decode cX0_valueOf 29 = .ok (.ifCond .ge 5, 3) := by decide +kernel
theorem dX0_valueOf_32 : decode cX0_valueOf 32 = .ok (.iload_n 2, 1) := by decide +kernel
theorem dX0_valueOf_33 : decode cX0_valueOf 33 = .ok (.ireturn, 1) := by decide +kernel
theorem dX0_valueOf_34 : decode cX0_valueOf 34 = .ok (.aload_n 0, 1) := by decide +kernel
theorem dX0_valueOf_35 : decode cX0_valueOf 35 = .ok (.getfield 37, 3) := by decide +kernel
theorem dX0_valueOf_38 : decode cX0_valueOf 38 = .ok (.iload 4, 2) := by decide +kernel
theorem dX0_valueOf_40 : decode cX0_valueOf 40 = .ok (.baload, 1) := by decide +kernel
theorem dX0_valueOf_41 : decode cX0_valueOf 41 = .ok (.istore_n 2, 1) := by decide +kernel
theorem dX0_valueOf_42 : decode cX0_valueOf 42 = .ok (.iinc 3 1, 3) := by decide +kernel
theorem dX0_valueOf_45 : decode cX0_valueOf 45 = .ok (.goto (-41), 3) := by decide +kernel
theorem dX0_valueOf_48 : decode cX0_valueOf 48 = .ok (.iload_n 2, 1) := by decide +kernel
theorem dX0_valueOf_49 : decode cX0_valueOf 49 = .ok (.ireturn, 1) := by decide +kernel
abbrev cX0_slotOf : ByteArray := prog_1_method_17_code
def yX0_slotOf : MethodName := ⟨RX0, "slotOf", "(I)I"⟩
theorem dX0_slotOf_0 : decode cX0_slotOf 0 = .ok (.iload_n 1, 1) := by decide +kernel
theorem dX0_slotOf_1 : decode cX0_slotOf 1 = .ok (.bipush 20, 2) := by decide +kernel
theorem dX0_slotOf_3 : decode cX0_slotOf 3 = .ok (.if_icmp .lt 8, 3) := by decide +kernel
theorem dX0_slotOf_6 : decode cX0_slotOf 6 = .ok (.iload_n 1, 1) := by decide +kernel
theorem dX0_slotOf_7 : decode cX0_slotOf 7 = .ok (.bipush 20, 2) := by decide +kernel
theorem dX0_slotOf_9 : decode cX0_slotOf 9 = .ok (.isub, 1) := by decide +kernel
theorem dX0_slotOf_10 : decode cX0_slotOf 10 = .ok (.ireturn, 1) := by decide +kernel
theorem dX0_slotOf_11 : decode cX0_slotOf 11 = .ok (.iload_n 1, 1) := by decide +kernel
theorem dX0_slotOf_12 : decode cX0_slotOf 12 = .ok (.bipush 10, 2) := by decide +kernel
theorem dX0_slotOf_14 : decode cX0_slotOf 14 = .ok (.if_icmp .lt 12, 3) := by decide +kernel
theorem dX0_slotOf_17 : decode cX0_slotOf 17 = .ok (.iconst 4, 1) := by decide +kernel
theorem dX0_slotOf_18 : decode cX0_slotOf 18 = .ok (.iload_n 1, 1) := by decide +kernel
theorem dX0_slotOf_19 : decode cX0_slotOf 19 = .ok (.iadd, 1) := by decide +kernel
theorem dX0_slotOf_20 : decode cX0_slotOf 20 = .ok (.bipush 10, 2) := by decide +kernel
theorem dX0_slotOf_22 : decode cX0_slotOf 22 = .ok (.isub, 1) := by decide +kernel
theorem dX0_slotOf_23 : decode cX0_slotOf 23 = .ok (.goto 4, 3) := by decide +kernel
theorem dX0_slotOf_26 : decode cX0_slotOf 26 = .ok (.iconst (-1), 1) := by decide +kernel
theorem dX0_slotOf_27 : decode cX0_slotOf 27 = .ok (.ireturn, 1) := by decide +kernel
abbrev cX0_possible : ByteArray := prog_1_method_13_code
def yX0_possible : MethodName := ⟨RX0, "possible", "(II)Z"⟩
theorem dX0_possible_0 : decode cX0_possible 0 = .ok (.iload_n 1, 1) := by decide +kernel
theorem dX0_possible_1 : decode cX0_possible 1 = .ok (.ifCond .lt 19, 3) := by decide +kernel
theorem dX0_possible_4 : decode cX0_possible 4 = .ok (.iload_n 1, 1) := by decide +kernel
theorem dX0_possible_5 : decode cX0_possible 5 = .ok (.bipush 6, 2) := by decide +kernel
theorem dX0_possible_7 : decode cX0_possible 7 = .ok (.if_icmp .gt 13, 3) := by decide +kernel
theorem dX0_possible_10 : decode cX0_possible 10 = .ok (.iload_n 2, 1) := by decide +kernel
theorem dX0_possible_11 : decode cX0_possible 11 = .ok (.ifCond .lt 9, 3) := by decide +kernel
theorem dX0_possible_14 : decode cX0_possible 14 = .ok (.iload_n 2, 1) := by decide +kernel
theorem dX0_possible_15 : decode cX0_possible 15 = .ok (.bipush 6, 2) := by decide +kernel
theorem dX0_possible_17 : decode cX0_possible 17 = .ok (.if_icmp .le 5, 3) := by decide +kernel
theorem dX0_possible_20 : decode cX0_possible 20 = .ok (.iconst 0, 1) := by decide +kernel
theorem dX0_possible_21 : decode cX0_possible 21 = .ok (.ireturn, 1) := by decide +kernel
theorem dX0_possible_22 : decode cX0_possible 22 = .ok (.aload_n 0, 1) := by decide +kernel
theorem dX0_possible_23 : decode cX0_possible 23 = .ok (.iconst 0, 1) := by decide +kernel
theorem dX0_possible_24 : decode cX0_possible 24 = .ok (.putfield 72, 3) := by decide +kernel
theorem dX0_possible_27 : decode cX0_possible 27 = .ok (.aload_n 0, 1) := by decide +kernel
theorem dX0_possible_28 : decode cX0_possible 28 = .ok (.iload_n 1, 1) := by decide +kernel
theorem dX0_possible_29 : decode cX0_possible 29 = .ok (.putfield 75, 3) := by decide +kernel
theorem dX0_possible_32 : decode cX0_possible 32 = .ok (.aload_n 0, 1) := by decide +kernel
theorem dX0_possible_33 : decode cX0_possible 33 = .ok (.iload_n 2, 1) := by decide +kernel
theorem dX0_possible_34 : decode cX0_possible 34 = .ok (.putfield 78, 3) := by decide +kernel
theorem dX0_possible_37 : decode cX0_possible 37 = .ok (.aload_n 0, 1) := by decide +kernel
theorem dX0_possible_38 : decode cX0_possible 38 = .ok (.iconst 0, 1) := by decide +kernel
theorem dX0_possible_39 : decode cX0_possible 39 = .ok (.putfield 81, 3) := by decide +kernel
theorem dX0_possible_42 : decode cX0_possible 42 = .ok (.iconst 0, 1) := by decide +kernel
theorem dX0_possible_43 : decode cX0_possible 43 = .ok (.istore_n 3, 1) := by decide +kernel
theorem dX0_possible_44 : decode cX0_possible 44 = .ok (.iload_n 3, 1) := by decide +kernel
theorem dX0_possible_45 : decode cX0_possible 45 = .ok (.aload_n 0, 1) := by decide +kernel
theorem dX0_possible_46 : decode cX0_possible 46 = .ok (.getfield 57, 3) := by decide +kernel
theorem dX0_possible_49 : decode cX0_possible 49 = .ok (.if_icmp .ge 29, 3) := by decide +kernel
theorem dX0_possible_52 : decode cX0_possible 52 = .ok (.aload_n 0, 1) := by decide +kernel
theorem dX0_possible_53 : decode cX0_possible 53 = .ok (.getfield 81, 3) := by decide +kernel
theorem dX0_possible_56 : decode cX0_possible 56 = .ok (.ifCond .ne 16, 3) := by decide +kernel
theorem dX0_possible_59 : decode cX0_possible 59 = .ok (.aload_n 0, 1) := by decide +kernel
theorem dX0_possible_60 : decode cX0_possible 60 = .ok (.iload_n 3, 1) := by decide +kernel
theorem dX0_possible_61 : decode cX0_possible 61 = .ok (.invokevirtual 84, 3) := by decide +kernel
theorem dX0_possible_64 : decode cX0_possible 64 = .ok (.ifCond .eq 8, 3) := by decide +kernel
theorem dX0_possible_67 : decode cX0_possible 67 = .ok (.aload_n 0, 1) := by decide +kernel
theorem dX0_possible_68 : decode cX0_possible 68 = .ok (.iload_n 3, 1) := by decide +kernel
theorem dX0_possible_69 : decode cX0_possible 69 = .ok (.invokevirtual 87, 3) := by decide +kernel
theorem dX0_possible_72 : decode cX0_possible 72 = .ok (.iinc 3 1, 3) := by decide +kernel
theorem dX0_possible_75 : decode cX0_possible 75 = .ok (.goto (-31), 3) := by decide +kernel
theorem dX0_possible_78 : decode cX0_possible 78 = .ok (.aload_n 0, 1) := by decide +kernel
theorem dX0_possible_79 : decode cX0_possible 79 = .ok (.getfield 81, 3) := by decide +kernel
theorem dX0_possible_82 : decode cX0_possible 82 = .ok (.ireturn, 1) := by decide +kernel
abbrev cX0_certainCount : ByteArray := prog_1_method_14_code
def yX0_certainCount : MethodName := ⟨RX0, "certainCount", "()I"⟩
theorem dX0_certainCount_0 : decode cX0_certainCount 0 = .ok (.aload_n 0, 1) := by decide +kernel
theorem dX0_certainCount_1 : decode cX0_certainCount 1 = .ok (.invokevirtual 65, 3) := by decide +kernel
theorem dX0_certainCount_4 : decode cX0_certainCount 4 = .ok (.iconst 0, 1) := by decide +kernel
theorem dX0_certainCount_5 : decode cX0_certainCount 5 = .ok (.istore_n 1, 1) := by decide +kernel
theorem dX0_certainCount_6 : decode cX0_certainCount 6 = .ok (.iconst 0, 1) := by decide +kernel
theorem dX0_certainCount_7 : decode cX0_certainCount 7 = .ok (.istore_n 2, 1) := by decide +kernel
theorem dX0_certainCount_8 : decode cX0_certainCount 8 = .ok (.iload_n 2, 1) := by decide +kernel
theorem dX0_certainCount_9 : decode cX0_certainCount 9 = .ok (.bipush 49, 2) := by decide +kernel
theorem dX0_certainCount_11 : decode cX0_certainCount 11 = .ok (.if_icmp .ge 21, 3) := by decide +kernel
theorem dX0_certainCount_14 : decode cX0_certainCount 14 = .ok (.iload_n 1, 1) := by decide +kernel
theorem dX0_certainCount_15 : decode cX0_certainCount 15 = .ok (.aload_n 0, 1) := by decide +kernel
theorem dX0_certainCount_16 : decode cX0_certainCount 16 = .ok (.getfield 68, 3) := by decide +kernel
theorem dX0_certainCount_19 : decode cX0_certainCount 19 = .ok (.iload_n 2, 1) := by decide +kernel
theorem dX0_certainCount_20 : decode cX0_certainCount 20 = .ok (.lushr, 1) := by decide +kernel
theorem dX0_certainCount_21 : decode cX0_certainCount 21 = .ok (.lconst 1, 1) := by decide +kernel
theorem dX0_certainCount_22 : decode cX0_certainCount 22 = .ok (.land, 1) := by decide +kernel
theorem dX0_certainCount_23 : decode cX0_certainCount 23 = .ok (.l2i, 1) := by decide +kernel
theorem dX0_certainCount_24 : decode cX0_certainCount 24 = .ok (.iadd, 1) := by decide +kernel
theorem dX0_certainCount_25 : decode cX0_certainCount 25 = .ok (.istore_n 1, 1) := by decide +kernel
theorem dX0_certainCount_26 : decode cX0_certainCount 26 = .ok (.iinc 2 1, 3) := by decide +kernel
theorem dX0_certainCount_29 : decode cX0_certainCount 29 = .ok (.goto (-21), 3) := by decide +kernel
theorem dX0_certainCount_32 : decode cX0_certainCount 32 = .ok (.iload_n 1, 1) := by decide +kernel
theorem dX0_certainCount_33 : decode cX0_certainCount 33 = .ok (.ireturn, 1) := by decide +kernel
abbrev cX0_alwaysSome : ByteArray := prog_1_method_15_code
def yX0_alwaysSome : MethodName := ⟨RX0, "alwaysSome", "()Z"⟩
theorem dX0_alwaysSome_0 : decode cX0_alwaysSome 0 = .ok (.aload_n 0, 1) := by decide +kernel
theorem dX0_alwaysSome_1 : decode cX0_alwaysSome 1 = .ok (.invokevirtual 65, 3) := by decide +kernel
theorem dX0_alwaysSome_4 : decode cX0_alwaysSome 4 = .ok (.aload_n 0, 1) := by decide +kernel
theorem dX0_alwaysSome_5 : decode cX0_alwaysSome 5 = .ok (.getfield 91, 3) := by decide +kernel
theorem dX0_alwaysSome_8 : decode cX0_alwaysSome 8 = .ok (.ireturn, 1) := by decide +kernel
theorem q24 : (Jvm.Cond.initialized "NaiveNulls") ∈ lw_all := lw_g (lw_at lw_m1 1 rfl) rfl
theorem q27 : (Jvm.Cond.instantiable "NaiveNulls" (20 : Nat)) ∈ lw_all := lw_g (lw_at lw_m1 4 rfl) rfl
theorem q29 : (Jvm.Cond.instanceMethod ({ cls := "NaiveNulls", name := "<init>", desc := "()V" } : Jvm.MethodName)) ∈ lw_all := lw_g (lw_at lw_m1 6 rfl) rfl
theorem q30 : (Jvm.Cond.code ({ cls := "NaiveNulls", name := "<init>", desc := "()V" } : Jvm.MethodName) prog_1_method_1_code (1 : Nat) (Option.none : Option Jvm.ClassFile.FieldType)) ∈ lw_all := lw_g (lw_at lw_m1 7 rfl) rfl
theorem q31 : (Jvm.Cond.methodLink "NaiveNulls" (1 : Nat) ({ cls := "java/lang/Object", name := "<init>", desc := "()V" } : Jvm.MethodName)) ∈ lw_all := lw_g (lw_at lw_m1 8 rfl) rfl
theorem q34 : (Jvm.Cond.fieldLink "NaiveNulls" (7 : Nat) "NaiveNulls" "rowCount" "[B") ∈ lw_all := lw_g (lw_at lw_m1 11 rfl) rfl
theorem q35 : (Jvm.Cond.fieldLink "NaiveNulls" (13 : Nat) "NaiveNulls" "rowX" "[B") ∈ lw_all := lw_g (lw_at lw_m1 12 rfl) rfl
theorem q36 : (Jvm.Cond.fieldLink "NaiveNulls" (16 : Nat) "NaiveNulls" "rowY" "[B") ∈ lw_all := lw_g (lw_at lw_m1 13 rfl) rfl
theorem q37 : (Jvm.Cond.fieldLink "NaiveNulls" (57 : Nat) "NaiveNulls" "ruleCount" "I") ∈ lw_all := lw_g (lw_at lw_m1 14 rfl) rfl
theorem q38 : (Jvm.Cond.fieldLink "NaiveNulls" (19 : Nat) "NaiveNulls" "headX" "[B") ∈ lw_all := lw_g (lw_at lw_m1 15 rfl) rfl
theorem q39 : (Jvm.Cond.fieldLink "NaiveNulls" (22 : Nat) "NaiveNulls" "headY" "[B") ∈ lw_all := lw_g (lw_at lw_m1 16 rfl) rfl
theorem q40 : (Jvm.Cond.fieldLink "NaiveNulls" (25 : Nat) "NaiveNulls" "atomCount" "[B") ∈ lw_all := lw_g (lw_at lw_m1 17 rfl) rfl
theorem q41 : (Jvm.Cond.fieldLink "NaiveNulls" (28 : Nat) "NaiveNulls" "atomTable" "[B") ∈ lw_all := lw_g (lw_at lw_m1 18 rfl) rfl
theorem q42 : (Jvm.Cond.fieldLink "NaiveNulls" (31 : Nat) "NaiveNulls" "atomX" "[B") ∈ lw_all := lw_g (lw_at lw_m1 19 rfl) rfl
theorem q43 : (Jvm.Cond.fieldLink "NaiveNulls" (34 : Nat) "NaiveNulls" "atomY" "[B") ∈ lw_all := lw_g (lw_at lw_m1 20 rfl) rfl
theorem q44 : (Jvm.Cond.fieldLink "NaiveNulls" (37 : Nat) "NaiveNulls" "bound" "[B") ∈ lw_all := lw_g (lw_at lw_m1 21 rfl) rfl
theorem q45 : (Jvm.Cond.fieldLink "NaiveNulls" (40 : Nat) "NaiveNulls" "frameRow" "[B") ∈ lw_all := lw_g (lw_at lw_m1 22 rfl) rfl
theorem q46 : (Jvm.Cond.fieldLink "NaiveNulls" (43 : Nat) "NaiveNulls" "frameBound" "[B") ∈ lw_all := lw_g (lw_at lw_m1 23 rfl) rfl
theorem q47 : (Jvm.Cond.fieldLink "NaiveNulls" (72 : Nat) "NaiveNulls" "strict" "Z") ∈ lw_all := lw_g (lw_at lw_m1 24 rfl) rfl
theorem q48 : (Jvm.Cond.fieldLink "NaiveNulls" (75 : Nat) "NaiveNulls" "goalX" "I") ∈ lw_all := lw_g (lw_at lw_m1 25 rfl) rfl
theorem q49 : (Jvm.Cond.fieldLink "NaiveNulls" (78 : Nat) "NaiveNulls" "goalY" "I") ∈ lw_all := lw_g (lw_at lw_m1 26 rfl) rfl
theorem q50 : (Jvm.Cond.fieldLink "NaiveNulls" (81 : Nat) "NaiveNulls" "goalMet" "Z") ∈ lw_all := lw_g (lw_at lw_m1 27 rfl) rfl
theorem q51 : (Jvm.Cond.fieldLink "NaiveNulls" (50 : Nat) "NaiveNulls" "evaluated" "Z") ∈ lw_all := lw_g (lw_at lw_m1 28 rfl) rfl
theorem q52 : (Jvm.Cond.fieldLink "NaiveNulls" (68 : Nat) "NaiveNulls" "certainSet" "J") ∈ lw_all := lw_g (lw_at lw_m1 29 rfl) rfl
theorem q53 : (Jvm.Cond.fieldLink "NaiveNulls" (91 : Nat) "NaiveNulls" "anyAnswer" "Z") ∈ lw_all := lw_g (lw_at lw_m1 30 rfl) rfl
theorem q54 : (Jvm.Cond.laysFinal "NaiveNulls" "NaiveNulls" "rowCount" "[B") ∈ lw_all := lw_g (lw_at lw_m1 31 rfl) rfl
theorem q55 : (Jvm.Cond.soleField "NaiveNulls" "rowCount") ∈ lw_all := lw_g (lw_at lw_m1 32 rfl) rfl
theorem q56 : (Jvm.Cond.laysFinal "NaiveNulls" "NaiveNulls" "rowX" "[B") ∈ lw_all := lw_g (lw_at lw_m1 33 rfl) rfl
theorem q57 : (Jvm.Cond.soleField "NaiveNulls" "rowX") ∈ lw_all := lw_g (lw_at lw_m1 34 rfl) rfl
theorem q58 : (Jvm.Cond.laysFinal "NaiveNulls" "NaiveNulls" "rowY" "[B") ∈ lw_all := lw_g (lw_at lw_m1 35 rfl) rfl
theorem q59 : (Jvm.Cond.soleField "NaiveNulls" "rowY") ∈ lw_all := lw_g (lw_at lw_m1 36 rfl) rfl
theorem q60 : (Jvm.Cond.lays "NaiveNulls" "NaiveNulls" "ruleCount" "I") ∈ lw_all := lw_g (lw_at lw_m1 37 rfl) rfl
theorem q61 : (Jvm.Cond.soleField "NaiveNulls" "ruleCount") ∈ lw_all := lw_g (lw_at lw_m1 38 rfl) rfl
theorem q62 : (Jvm.Cond.laysFinal "NaiveNulls" "NaiveNulls" "headX" "[B") ∈ lw_all := lw_g (lw_at lw_m1 39 rfl) rfl
theorem q63 : (Jvm.Cond.soleField "NaiveNulls" "headX") ∈ lw_all := lw_g (lw_at lw_m1 40 rfl) rfl
theorem q64 : (Jvm.Cond.laysFinal "NaiveNulls" "NaiveNulls" "headY" "[B") ∈ lw_all := lw_g (lw_at lw_m1 41 rfl) rfl
theorem q65 : (Jvm.Cond.soleField "NaiveNulls" "headY") ∈ lw_all := lw_g (lw_at lw_m1 42 rfl) rfl
theorem q66 : (Jvm.Cond.laysFinal "NaiveNulls" "NaiveNulls" "atomCount" "[B") ∈ lw_all := lw_g (lw_at lw_m1 43 rfl) rfl
theorem q67 : (Jvm.Cond.soleField "NaiveNulls" "atomCount") ∈ lw_all := lw_g (lw_at lw_m1 44 rfl) rfl
theorem q68 : (Jvm.Cond.laysFinal "NaiveNulls" "NaiveNulls" "atomTable" "[B") ∈ lw_all := lw_g (lw_at lw_m1 45 rfl) rfl
theorem q69 : (Jvm.Cond.soleField "NaiveNulls" "atomTable") ∈ lw_all := lw_g (lw_at lw_m1 46 rfl) rfl
theorem q70 : (Jvm.Cond.laysFinal "NaiveNulls" "NaiveNulls" "atomX" "[B") ∈ lw_all := lw_g (lw_at lw_m1 47 rfl) rfl
theorem q71 : (Jvm.Cond.soleField "NaiveNulls" "atomX") ∈ lw_all := lw_g (lw_at lw_m1 48 rfl) rfl
theorem q72 : (Jvm.Cond.laysFinal "NaiveNulls" "NaiveNulls" "atomY" "[B") ∈ lw_all := lw_g (lw_at lw_m1 49 rfl) rfl
theorem q73 : (Jvm.Cond.soleField "NaiveNulls" "atomY") ∈ lw_all := lw_g (lw_at lw_m1 50 rfl) rfl
theorem q74 : (Jvm.Cond.laysFinal "NaiveNulls" "NaiveNulls" "bound" "[B") ∈ lw_all := lw_g (lw_at lw_m1 51 rfl) rfl
theorem q75 : (Jvm.Cond.soleField "NaiveNulls" "bound") ∈ lw_all := lw_g (lw_at lw_m1 52 rfl) rfl
theorem q76 : (Jvm.Cond.laysFinal "NaiveNulls" "NaiveNulls" "frameRow" "[B") ∈ lw_all := lw_g (lw_at lw_m1 53 rfl) rfl
theorem q77 : (Jvm.Cond.soleField "NaiveNulls" "frameRow") ∈ lw_all := lw_g (lw_at lw_m1 54 rfl) rfl
theorem q78 : (Jvm.Cond.laysFinal "NaiveNulls" "NaiveNulls" "frameBound" "[B") ∈ lw_all := lw_g (lw_at lw_m1 55 rfl) rfl
theorem q79 : (Jvm.Cond.soleField "NaiveNulls" "frameBound") ∈ lw_all := lw_g (lw_at lw_m1 56 rfl) rfl
theorem q80 : (Jvm.Cond.lays "NaiveNulls" "NaiveNulls" "strict" "Z") ∈ lw_all := lw_g (lw_at lw_m1 57 rfl) rfl
theorem q81 : (Jvm.Cond.soleField "NaiveNulls" "strict") ∈ lw_all := lw_g (lw_at lw_m1 58 rfl) rfl
theorem q82 : (Jvm.Cond.lays "NaiveNulls" "NaiveNulls" "goalX" "I") ∈ lw_all := lw_g (lw_at lw_m1 59 rfl) rfl
theorem q83 : (Jvm.Cond.soleField "NaiveNulls" "goalX") ∈ lw_all := lw_g (lw_at lw_m1 60 rfl) rfl
theorem q84 : (Jvm.Cond.lays "NaiveNulls" "NaiveNulls" "goalY" "I") ∈ lw_all := lw_g (lw_at lw_m1 61 rfl) rfl
theorem q85 : (Jvm.Cond.soleField "NaiveNulls" "goalY") ∈ lw_all := lw_g (lw_at lw_m1 62 rfl) rfl
theorem q86 : (Jvm.Cond.lays "NaiveNulls" "NaiveNulls" "goalMet" "Z") ∈ lw_all := lw_g (lw_at lw_m1 63 rfl) rfl
theorem q87 : (Jvm.Cond.soleField "NaiveNulls" "goalMet") ∈ lw_all := lw_g (lw_at lw_m1 64 rfl) rfl
theorem q88 : (Jvm.Cond.lays "NaiveNulls" "NaiveNulls" "evaluated" "Z") ∈ lw_all := lw_g (lw_at lw_m1 65 rfl) rfl
theorem q89 : (Jvm.Cond.soleField "NaiveNulls" "evaluated") ∈ lw_all := lw_g (lw_at lw_m1 66 rfl) rfl
theorem q90 : (Jvm.Cond.lays "NaiveNulls" "NaiveNulls" "certainSet" "J") ∈ lw_all := lw_g (lw_at lw_m1 67 rfl) rfl
theorem q91 : (Jvm.Cond.soleField "NaiveNulls" "certainSet") ∈ lw_all := lw_g (lw_at lw_m1 68 rfl) rfl
theorem q92 : (Jvm.Cond.lays "NaiveNulls" "NaiveNulls" "anyAnswer" "Z") ∈ lw_all := lw_g (lw_at lw_m1 69 rfl) rfl
theorem q93 : (Jvm.Cond.soleField "NaiveNulls" "anyAnswer") ∈ lw_all := lw_g (lw_at lw_m1 70 rfl) rfl
theorem q94 : (Jvm.Cond.superclass "NaiveNulls" "java/lang/Object") ∈ lw_all := lw_g (lw_at lw_m1 71 rfl) rfl
theorem q97 : (Jvm.Cond.instanceMethod ({ cls := "NaiveNulls", name := "addRow", desc := "(III)I" } : Jvm.MethodName)) ∈ lw_all := lw_g (lw_at lw_m1 74 rfl) rfl
theorem q98 : (Jvm.Cond.selects "NaiveNulls" ({ cls := "NaiveNulls", name := "addRow", desc := "(III)I" } : Jvm.MethodName) ({ cls := "NaiveNulls", name := "addRow", desc := "(III)I" } : Jvm.MethodName)) ∈ lw_all := lw_g (lw_at lw_m1 75 rfl) rfl
theorem q99 : (Jvm.Cond.code ({ cls := "NaiveNulls", name := "addRow", desc := "(III)I" } : Jvm.MethodName) prog_1_method_2_code (5 : Nat) (Option.some Jvm.ClassFile.FieldType.int)) ∈ lw_all := lw_g (lw_at lw_m1 76 rfl) rfl
theorem q100 : (Jvm.Cond.methodLink "NaiveNulls" (46 : Nat) ({ cls := "NaiveNulls", name := "isCellValue", desc := "(I)Z" } : Jvm.MethodName)) ∈ lw_all := lw_g (lw_at lw_m1 77 rfl) rfl
theorem q101 : (Jvm.Cond.privateMethod ({ cls := "NaiveNulls", name := "isCellValue", desc := "(I)Z" } : Jvm.MethodName)) ∈ lw_tbl := lw_at lw_m1 78 rfl
theorem q102 : (Jvm.Cond.instanceMethod ({ cls := "NaiveNulls", name := "isCellValue", desc := "(I)Z" } : Jvm.MethodName)) ∈ lw_all := lw_g (lw_at lw_m1 79 rfl) rfl
theorem q103 : (Jvm.Cond.code ({ cls := "NaiveNulls", name := "isCellValue", desc := "(I)Z" } : Jvm.MethodName) prog_1_method_5_code (2 : Nat) (Option.some Jvm.ClassFile.FieldType.boolean)) ∈ lw_all := lw_g (lw_at lw_m1 80 rfl) rfl
theorem q105 : (Jvm.Cond.instanceMethod ({ cls := "NaiveNulls", name := "dropRow", desc := "(I)I" } : Jvm.MethodName)) ∈ lw_all := lw_g (lw_at lw_m1 82 rfl) rfl
theorem q106 : (Jvm.Cond.selects "NaiveNulls" ({ cls := "NaiveNulls", name := "dropRow", desc := "(I)I" } : Jvm.MethodName) ({ cls := "NaiveNulls", name := "dropRow", desc := "(I)I" } : Jvm.MethodName)) ∈ lw_all := lw_g (lw_at lw_m1 83 rfl) rfl
theorem q107 : (Jvm.Cond.code ({ cls := "NaiveNulls", name := "dropRow", desc := "(I)I" } : Jvm.MethodName) prog_1_method_3_code (3 : Nat) (Option.some Jvm.ClassFile.FieldType.int)) ∈ lw_all := lw_g (lw_at lw_m1 84 rfl) rfl
theorem q109 : (Jvm.Cond.instanceMethod ({ cls := "NaiveNulls", name := "learn", desc := "(II)I" } : Jvm.MethodName)) ∈ lw_all := lw_g (lw_at lw_m1 86 rfl) rfl
theorem q110 : (Jvm.Cond.selects "NaiveNulls" ({ cls := "NaiveNulls", name := "learn", desc := "(II)I" } : Jvm.MethodName) ({ cls := "NaiveNulls", name := "learn", desc := "(II)I" } : Jvm.MethodName)) ∈ lw_all := lw_g (lw_at lw_m1 87 rfl) rfl
theorem q111 : (Jvm.Cond.code ({ cls := "NaiveNulls", name := "learn", desc := "(II)I" } : Jvm.MethodName) prog_1_method_4_code (5 : Nat) (Option.some Jvm.ClassFile.FieldType.int)) ∈ lw_all := lw_g (lw_at lw_m1 88 rfl) rfl
theorem q113 : (Jvm.Cond.instanceMethod ({ cls := "NaiveNulls", name := "rule", desc := "(II)I" } : Jvm.MethodName)) ∈ lw_all := lw_g (lw_at lw_m1 90 rfl) rfl
theorem q114 : (Jvm.Cond.selects "NaiveNulls" ({ cls := "NaiveNulls", name := "rule", desc := "(II)I" } : Jvm.MethodName) ({ cls := "NaiveNulls", name := "rule", desc := "(II)I" } : Jvm.MethodName)) ∈ lw_all := lw_g (lw_at lw_m1 91 rfl) rfl
theorem q115 : (Jvm.Cond.code ({ cls := "NaiveNulls", name := "rule", desc := "(II)I" } : Jvm.MethodName) prog_1_method_7_code (3 : Nat) (Option.some Jvm.ClassFile.FieldType.int)) ∈ lw_all := lw_g (lw_at lw_m1 92 rfl) rfl
theorem q116 : (Jvm.Cond.methodLink "NaiveNulls" (54 : Nat) ({ cls := "NaiveNulls", name := "isTerm", desc := "(I)Z" } : Jvm.MethodName)) ∈ lw_all := lw_g (lw_at lw_m1 93 rfl) rfl
theorem q117 : (Jvm.Cond.privateMethod ({ cls := "NaiveNulls", name := "isTerm", desc := "(I)Z" } : Jvm.MethodName)) ∈ lw_tbl := lw_at lw_m1 94 rfl
theorem q118 : (Jvm.Cond.instanceMethod ({ cls := "NaiveNulls", name := "isTerm", desc := "(I)Z" } : Jvm.MethodName)) ∈ lw_all := lw_g (lw_at lw_m1 95 rfl) rfl
theorem q119 : (Jvm.Cond.code ({ cls := "NaiveNulls", name := "isTerm", desc := "(I)Z" } : Jvm.MethodName) prog_1_method_6_code (2 : Nat) (Option.some Jvm.ClassFile.FieldType.boolean)) ∈ lw_all := lw_g (lw_at lw_m1 96 rfl) rfl
theorem q121 : (Jvm.Cond.instanceMethod ({ cls := "NaiveNulls", name := "atom", desc := "(III)I" } : Jvm.MethodName)) ∈ lw_all := lw_g (lw_at lw_m1 98 rfl) rfl
theorem q122 : (Jvm.Cond.selects "NaiveNulls" ({ cls := "NaiveNulls", name := "atom", desc := "(III)I" } : Jvm.MethodName) ({ cls := "NaiveNulls", name := "atom", desc := "(III)I" } : Jvm.MethodName)) ∈ lw_all := lw_g (lw_at lw_m1 99 rfl) rfl
theorem q123 : (Jvm.Cond.code ({ cls := "NaiveNulls", name := "atom", desc := "(III)I" } : Jvm.MethodName) prog_1_method_8_code (6 : Nat) (Option.some Jvm.ClassFile.FieldType.int)) ∈ lw_all := lw_g (lw_at lw_m1 100 rfl) rfl
theorem q125 : (Jvm.Cond.instanceMethod ({ cls := "NaiveNulls", name := "dropRules", desc := "()I" } : Jvm.MethodName)) ∈ lw_all := lw_g (lw_at lw_m1 102 rfl) rfl
theorem q126 : (Jvm.Cond.selects "NaiveNulls" ({ cls := "NaiveNulls", name := "dropRules", desc := "()I" } : Jvm.MethodName) ({ cls := "NaiveNulls", name := "dropRules", desc := "()I" } : Jvm.MethodName)) ∈ lw_all := lw_g (lw_at lw_m1 103 rfl) rfl
theorem q127 : (Jvm.Cond.code ({ cls := "NaiveNulls", name := "dropRules", desc := "()I" } : Jvm.MethodName) prog_1_method_9_code (2 : Nat) (Option.some Jvm.ClassFile.FieldType.int)) ∈ lw_all := lw_g (lw_at lw_m1 104 rfl) rfl
theorem q129 : (Jvm.Cond.instanceMethod ({ cls := "NaiveNulls", name := "certain", desc := "(II)Z" } : Jvm.MethodName)) ∈ lw_all := lw_g (lw_at lw_m1 106 rfl) rfl
theorem q130 : (Jvm.Cond.selects "NaiveNulls" ({ cls := "NaiveNulls", name := "certain", desc := "(II)Z" } : Jvm.MethodName) ({ cls := "NaiveNulls", name := "certain", desc := "(II)Z" } : Jvm.MethodName)) ∈ lw_all := lw_g (lw_at lw_m1 107 rfl) rfl
theorem q131 : (Jvm.Cond.code ({ cls := "NaiveNulls", name := "certain", desc := "(II)Z" } : Jvm.MethodName) prog_1_method_12_code (3 : Nat) (Option.some Jvm.ClassFile.FieldType.boolean)) ∈ lw_all := lw_g (lw_at lw_m1 108 rfl) rfl
theorem q132 : (Jvm.Cond.methodLink "NaiveNulls" (65 : Nat) ({ cls := "NaiveNulls", name := "evaluate", desc := "()V" } : Jvm.MethodName)) ∈ lw_all := lw_g (lw_at lw_m1 109 rfl) rfl
theorem q133 : (Jvm.Cond.privateMethod ({ cls := "NaiveNulls", name := "evaluate", desc := "()V" } : Jvm.MethodName)) ∈ lw_tbl := lw_at lw_m1 110 rfl
theorem q134 : (Jvm.Cond.instanceMethod ({ cls := "NaiveNulls", name := "evaluate", desc := "()V" } : Jvm.MethodName)) ∈ lw_all := lw_g (lw_at lw_m1 111 rfl) rfl
theorem q135 : (Jvm.Cond.code ({ cls := "NaiveNulls", name := "evaluate", desc := "()V" } : Jvm.MethodName) prog_1_method_16_code (2 : Nat) (Option.none : Option Jvm.ClassFile.FieldType)) ∈ lw_all := lw_g (lw_at lw_m1 112 rfl) rfl
theorem q136 : (Jvm.Cond.methodLink "NaiveNulls" (84 : Nat) ({ cls := "NaiveNulls", name := "isSafe", desc := "(I)Z" } : Jvm.MethodName)) ∈ lw_all := lw_g (lw_at lw_m1 113 rfl) rfl
theorem q137 : (Jvm.Cond.privateMethod ({ cls := "NaiveNulls", name := "isSafe", desc := "(I)Z" } : Jvm.MethodName)) ∈ lw_tbl := lw_at lw_m1 114 rfl
theorem q138 : (Jvm.Cond.instanceMethod ({ cls := "NaiveNulls", name := "isSafe", desc := "(I)Z" } : Jvm.MethodName)) ∈ lw_all := lw_g (lw_at lw_m1 115 rfl) rfl
theorem q139 : (Jvm.Cond.code ({ cls := "NaiveNulls", name := "isSafe", desc := "(I)Z" } : Jvm.MethodName) prog_1_method_11_code (2 : Nat) (Option.some Jvm.ClassFile.FieldType.boolean)) ∈ lw_all := lw_g (lw_at lw_m1 116 rfl) rfl
theorem q140 : (Jvm.Cond.methodLink "NaiveNulls" (61 : Nat) ({ cls := "NaiveNulls", name := "inBody", desc := "(II)Z" } : Jvm.MethodName)) ∈ lw_all := lw_g (lw_at lw_m1 117 rfl) rfl
theorem q141 : (Jvm.Cond.privateMethod ({ cls := "NaiveNulls", name := "inBody", desc := "(II)Z" } : Jvm.MethodName)) ∈ lw_tbl := lw_at lw_m1 118 rfl
theorem q142 : (Jvm.Cond.instanceMethod ({ cls := "NaiveNulls", name := "inBody", desc := "(II)Z" } : Jvm.MethodName)) ∈ lw_all := lw_g (lw_at lw_m1 119 rfl) rfl
theorem q143 : (Jvm.Cond.code ({ cls := "NaiveNulls", name := "inBody", desc := "(II)Z" } : Jvm.MethodName) prog_1_method_10_code (4 : Nat) (Option.some Jvm.ClassFile.FieldType.boolean)) ∈ lw_all := lw_g (lw_at lw_m1 120 rfl) rfl
theorem q144 : (Jvm.Cond.methodLink "NaiveNulls" (87 : Nat) ({ cls := "NaiveNulls", name := "matchRule", desc := "(I)V" } : Jvm.MethodName)) ∈ lw_all := lw_g (lw_at lw_m1 121 rfl) rfl
theorem q145 : (Jvm.Cond.privateMethod ({ cls := "NaiveNulls", name := "matchRule", desc := "(I)V" } : Jvm.MethodName)) ∈ lw_tbl := lw_at lw_m1 122 rfl
theorem q146 : (Jvm.Cond.instanceMethod ({ cls := "NaiveNulls", name := "matchRule", desc := "(I)V" } : Jvm.MethodName)) ∈ lw_all := lw_g (lw_at lw_m1 123 rfl) rfl
theorem q147 : (Jvm.Cond.code ({ cls := "NaiveNulls", name := "matchRule", desc := "(I)V" } : Jvm.MethodName) prog_1_method_22_code (6 : Nat) (Option.none : Option Jvm.ClassFile.FieldType)) ∈ lw_all := lw_g (lw_at lw_m1 124 rfl) rfl
theorem q148 : (Jvm.Cond.methodLink "NaiveNulls" (101 : Nat) ({ cls := "NaiveNulls", name := "save", desc := "(I)V" } : Jvm.MethodName)) ∈ lw_all := lw_g (lw_at lw_m1 125 rfl) rfl
theorem q149 : (Jvm.Cond.privateMethod ({ cls := "NaiveNulls", name := "save", desc := "(I)V" } : Jvm.MethodName)) ∈ lw_tbl := lw_at lw_m1 126 rfl
theorem q150 : (Jvm.Cond.instanceMethod ({ cls := "NaiveNulls", name := "save", desc := "(I)V" } : Jvm.MethodName)) ∈ lw_all := lw_g (lw_at lw_m1 127 rfl) rfl
theorem q151 : (Jvm.Cond.code ({ cls := "NaiveNulls", name := "save", desc := "(I)V" } : Jvm.MethodName) prog_1_method_20_code (3 : Nat) (Option.none : Option Jvm.ClassFile.FieldType)) ∈ lw_all := lw_g (lw_at lw_m1 128 rfl) rfl
theorem q152 : (Jvm.Cond.methodLink "NaiveNulls" (104 : Nat) ({ cls := "NaiveNulls", name := "restore", desc := "(I)V" } : Jvm.MethodName)) ∈ lw_all := lw_g (lw_at lw_m1 129 rfl) rfl
theorem q153 : (Jvm.Cond.privateMethod ({ cls := "NaiveNulls", name := "restore", desc := "(I)V" } : Jvm.MethodName)) ∈ lw_tbl := lw_at lw_m1 130 rfl
theorem q154 : (Jvm.Cond.instanceMethod ({ cls := "NaiveNulls", name := "restore", desc := "(I)V" } : Jvm.MethodName)) ∈ lw_all := lw_g (lw_at lw_m1 131 rfl) rfl
theorem q155 : (Jvm.Cond.code ({ cls := "NaiveNulls", name := "restore", desc := "(I)V" } : Jvm.MethodName) prog_1_method_21_code (3 : Nat) (Option.none : Option Jvm.ClassFile.FieldType)) ∈ lw_all := lw_g (lw_at lw_m1 132 rfl) rfl
theorem q156 : (Jvm.Cond.methodLink "NaiveNulls" (107 : Nat) ({ cls := "NaiveNulls", name := "finish", desc := "(I)V" } : Jvm.MethodName)) ∈ lw_all := lw_g (lw_at lw_m1 133 rfl) rfl
theorem q157 : (Jvm.Cond.privateMethod ({ cls := "NaiveNulls", name := "finish", desc := "(I)V" } : Jvm.MethodName)) ∈ lw_tbl := lw_at lw_m1 134 rfl
theorem q158 : (Jvm.Cond.instanceMethod ({ cls := "NaiveNulls", name := "finish", desc := "(I)V" } : Jvm.MethodName)) ∈ lw_all := lw_g (lw_at lw_m1 135 rfl) rfl
theorem q159 : (Jvm.Cond.code ({ cls := "NaiveNulls", name := "finish", desc := "(I)V" } : Jvm.MethodName) prog_1_method_23_code (4 : Nat) (Option.none : Option Jvm.ClassFile.FieldType)) ∈ lw_all := lw_g (lw_at lw_m1 136 rfl) rfl
theorem q160 : (Jvm.Cond.methodLink "NaiveNulls" (110 : Nat) ({ cls := "NaiveNulls", name := "unify", desc := "(II)Z" } : Jvm.MethodName)) ∈ lw_all := lw_g (lw_at lw_m1 137 rfl) rfl
theorem q161 : (Jvm.Cond.privateMethod ({ cls := "NaiveNulls", name := "unify", desc := "(II)Z" } : Jvm.MethodName)) ∈ lw_tbl := lw_at lw_m1 138 rfl
theorem q162 : (Jvm.Cond.instanceMethod ({ cls := "NaiveNulls", name := "unify", desc := "(II)Z" } : Jvm.MethodName)) ∈ lw_all := lw_g (lw_at lw_m1 139 rfl) rfl
theorem q163 : (Jvm.Cond.code ({ cls := "NaiveNulls", name := "unify", desc := "(II)Z" } : Jvm.MethodName) prog_1_method_19_code (6 : Nat) (Option.some Jvm.ClassFile.FieldType.boolean)) ∈ lw_all := lw_g (lw_at lw_m1 140 rfl) rfl
theorem q164 : (Jvm.Cond.methodLink "NaiveNulls" (98 : Nat) ({ cls := "NaiveNulls", name := "valueOf", desc := "(I)I" } : Jvm.MethodName)) ∈ lw_all := lw_g (lw_at lw_m1 141 rfl) rfl
theorem q165 : (Jvm.Cond.privateMethod ({ cls := "NaiveNulls", name := "valueOf", desc := "(I)I" } : Jvm.MethodName)) ∈ lw_tbl := lw_at lw_m1 142 rfl
theorem q166 : (Jvm.Cond.instanceMethod ({ cls := "NaiveNulls", name := "valueOf", desc := "(I)I" } : Jvm.MethodName)) ∈ lw_all := lw_g (lw_at lw_m1 143 rfl) rfl
theorem q167 : (Jvm.Cond.code ({ cls := "NaiveNulls", name := "valueOf", desc := "(I)I" } : Jvm.MethodName) prog_1_method_18_code (5 : Nat) (Option.some Jvm.ClassFile.FieldType.int)) ∈ lw_all := lw_g (lw_at lw_m1 144 rfl) rfl
theorem q168 : (Jvm.Cond.methodLink "NaiveNulls" (94 : Nat) ({ cls := "NaiveNulls", name := "slotOf", desc := "(I)I" } : Jvm.MethodName)) ∈ lw_all := lw_g (lw_at lw_m1 145 rfl) rfl
theorem q169 : (Jvm.Cond.privateMethod ({ cls := "NaiveNulls", name := "slotOf", desc := "(I)I" } : Jvm.MethodName)) ∈ lw_tbl := lw_at lw_m1 146 rfl
theorem q170 : (Jvm.Cond.instanceMethod ({ cls := "NaiveNulls", name := "slotOf", desc := "(I)I" } : Jvm.MethodName)) ∈ lw_all := lw_g (lw_at lw_m1 147 rfl) rfl
theorem q171 : (Jvm.Cond.code ({ cls := "NaiveNulls", name := "slotOf", desc := "(I)I" } : Jvm.MethodName) prog_1_method_17_code (2 : Nat) (Option.some Jvm.ClassFile.FieldType.int)) ∈ lw_all := lw_g (lw_at lw_m1 148 rfl) rfl
theorem q173 : (Jvm.Cond.instanceMethod ({ cls := "NaiveNulls", name := "possible", desc := "(II)Z" } : Jvm.MethodName)) ∈ lw_all := lw_g (lw_at lw_m1 150 rfl) rfl
theorem q174 : (Jvm.Cond.selects "NaiveNulls" ({ cls := "NaiveNulls", name := "possible", desc := "(II)Z" } : Jvm.MethodName) ({ cls := "NaiveNulls", name := "possible", desc := "(II)Z" } : Jvm.MethodName)) ∈ lw_all := lw_g (lw_at lw_m1 151 rfl) rfl
theorem q175 : (Jvm.Cond.code ({ cls := "NaiveNulls", name := "possible", desc := "(II)Z" } : Jvm.MethodName) prog_1_method_13_code (4 : Nat) (Option.some Jvm.ClassFile.FieldType.boolean)) ∈ lw_all := lw_g (lw_at lw_m1 152 rfl) rfl
theorem q177 : (Jvm.Cond.instanceMethod ({ cls := "NaiveNulls", name := "certainCount", desc := "()I" } : Jvm.MethodName)) ∈ lw_all := lw_g (lw_at lw_m1 154 rfl) rfl
theorem q178 : (Jvm.Cond.selects "NaiveNulls" ({ cls := "NaiveNulls", name := "certainCount", desc := "()I" } : Jvm.MethodName) ({ cls := "NaiveNulls", name := "certainCount", desc := "()I" } : Jvm.MethodName)) ∈ lw_all := lw_g (lw_at lw_m1 155 rfl) rfl
theorem q179 : (Jvm.Cond.code ({ cls := "NaiveNulls", name := "certainCount", desc := "()I" } : Jvm.MethodName) prog_1_method_14_code (3 : Nat) (Option.some Jvm.ClassFile.FieldType.int)) ∈ lw_all := lw_g (lw_at lw_m1 156 rfl) rfl
theorem q181 : (Jvm.Cond.instanceMethod ({ cls := "NaiveNulls", name := "alwaysSome", desc := "()Z" } : Jvm.MethodName)) ∈ lw_all := lw_g (lw_at lw_m1 158 rfl) rfl
theorem q182 : (Jvm.Cond.selects "NaiveNulls" ({ cls := "NaiveNulls", name := "alwaysSome", desc := "()Z" } : Jvm.MethodName) ({ cls := "NaiveNulls", name := "alwaysSome", desc := "()Z" } : Jvm.MethodName)) ∈ lw_all := lw_g (lw_at lw_m1 159 rfl) rfl
theorem q183 : (Jvm.Cond.code ({ cls := "NaiveNulls", name := "alwaysSome", desc := "()Z" } : Jvm.MethodName) prog_1_method_15_code (1 : Nat) (Option.some Jvm.ClassFile.FieldType.boolean)) ∈ lw_all := lw_g (lw_at lw_m1 160 rfl) rfl
theorem in_X0 : ∀ w ∈ wsX00, w ∈ lw_all := lw_in wsX00 [54, 56, 58, 60, 62, 64, 66, 68, 70, 72, 74, 76, 78, 80, 82, 84, 86, 88, 90, 92] (by decide +kernel) (by decide +kernel)
end
section
/-! NaiveNullsModel -/
set_option maxRecDepth 100000
def RX1 : String := "NaiveNullsModel"
def TX1 : u_T := fun k => match k with
  | 0 => ("NaiveNullsModel", "rows", "[I", false)
  | 1 => ("NaiveNullsModel", "value", "[I", false)
  | 2 => ("NaiveNullsModel", "rules", "I", false)
  | 3 => ("NaiveNullsModel", "head", "[I", false)
  | 4 => ("NaiveNullsModel", "atoms", "[I", false)
  | 5 => ("NaiveNullsModel", "table", "[I", false)
  | 6 => ("NaiveNullsModel", "term", "[I", false)
  | 7 => ("NaiveNullsModel", "known", "[I", false)
  | 8 => ("NaiveNullsModel", "bound", "[I", false)
  | 9 => ("NaiveNullsModel", "here", "[Z", false)
  | 10 => ("NaiveNullsModel", "always", "[Z", false)
  | 11 => ("NaiveNullsModel", "once", "[Z", false)
  | _ => ("NaiveNullsModel", "some", "Z", false)
def tyX1 : Nat → FieldType := fun k => match k with
  | 0 => .array .int
  | 1 => .array .int
  | 2 => .int
  | 3 => .array .int
  | 4 => .array .int
  | 5 => .array .int
  | 6 => .array .int
  | 7 => .array .int
  | 8 => .array .int
  | 9 => .array .boolean
  | 10 => .array .boolean
  | 11 => .array .boolean
  | _ => .boolean
abbrev wsX10 : List Cond := u_ws RX1 TX1 13
set_option maxRecDepth 100000 in
theorem nmX1 : ∀ a, a < 13 → ∀ b, b < 13 → a ≠ b → (TX1 a).2.1 ≠ (TX1 b).2.1 := by decide +kernel
set_option maxRecDepth 100000 in
theorem tyX1_ok : ∀ k, k < 13 → parseFieldDescriptor (TX1 k).2.2.1 = some (tyX1 k) := by decide +kernel
abbrev cX1_init : ByteArray := prog_3_method_1_code
def yX1_init : MethodName := ⟨RX1, "<init>", "()V"⟩
theorem dX1_init_0 : decode cX1_init 0 = .ok (.aload_n 0, 1) := by decide +kernel
theorem dX1_init_1 : decode cX1_init 1 = .ok (.invokespecial 1, 3) := by decide +kernel
theorem dX1_init_4 : decode cX1_init 4 = .ok (.aload_n 0, 1) := by decide +kernel
theorem dX1_init_5 : decode cX1_init 5 = .ok (.iconst 2, 1) := by decide +kernel
theorem dX1_init_6 : decode cX1_init 6 = .ok (.newarray .int, 2) := by decide +kernel
theorem dX1_init_8 : decode cX1_init 8 = .ok (.putfield 7, 3) := by decide +kernel
theorem dX1_init_11 : decode cX1_init 11 = .ok (.aload_n 0, 1) := by decide +kernel
theorem dX1_init_12 : decode cX1_init 12 = .ok (.bipush 20, 2) := by decide +kernel
theorem dX1_init_14 : decode cX1_init 14 = .ok (.newarray .int, 2) := by decide +kernel
theorem dX1_init_16 : decode cX1_init 16 = .ok (.putfield 13, 3) := by decide +kernel
theorem dX1_init_19 : decode cX1_init 19 = .ok (.aload_n 0, 1) := by decide +kernel
theorem dX1_init_20 : decode cX1_init 20 = .ok (.iconst 0, 1) := by decide +kernel
theorem dX1_init_21 : decode cX1_init 21 = .ok (.putfield 16, 3) := by decide +kernel
theorem dX1_init_24 : decode cX1_init 24 = .ok (.aload_n 0, 1) := by decide +kernel
theorem dX1_init_25 : decode cX1_init 25 = .ok (.iconst 4, 1) := by decide +kernel
theorem dX1_init_26 : decode cX1_init 26 = .ok (.newarray .int, 2) := by decide +kernel
theorem dX1_init_28 : decode cX1_init 28 = .ok (.putfield 20, 3) := by decide +kernel
theorem dX1_init_31 : decode cX1_init 31 = .ok (.aload_n 0, 1) := by decide +kernel
theorem dX1_init_32 : decode cX1_init 32 = .ok (.iconst 2, 1) := by decide +kernel
theorem dX1_init_33 : decode cX1_init 33 = .ok (.newarray .int, 2) := by decide +kernel
theorem dX1_init_35 : decode cX1_init 35 = .ok (.putfield 23, 3) := by decide +kernel
theorem dX1_init_38 : decode cX1_init 38 = .ok (.aload_n 0, 1) := by decide +kernel
theorem dX1_init_39 : decode cX1_init 39 = .ok (.bipush 6, 2) := by decide +kernel
theorem dX1_init_41 : decode cX1_init 41 = .ok (.newarray .int, 2) := by decide +kernel
theorem dX1_init_43 : decode cX1_init 43 = .ok (.putfield 26, 3) := by decide +kernel
theorem dX1_init_46 : decode cX1_init 46 = .ok (.aload_n 0, 1) := by decide +kernel
theorem dX1_init_47 : decode cX1_init 47 = .ok (.bipush 12, 2) := by decide +kernel
theorem dX1_init_49 : decode cX1_init 49 = .ok (.newarray .int, 2) := by decide +kernel
theorem dX1_init_51 : decode cX1_init 51 = .ok (.putfield 29, 3) := by decide +kernel
theorem dX1_init_54 : decode cX1_init 54 = .ok (.aload_n 0, 1) := by decide +kernel
theorem dX1_init_55 : decode cX1_init 55 = .ok (.iconst 3, 1) := by decide +kernel
theorem dX1_init_56 : decode cX1_init 56 = .ok (.newarray .int, 2) := by decide +kernel
theorem dX1_init_58 : decode cX1_init 58 = .ok (.putfield 32, 3) := by decide +kernel
theorem dX1_init_61 : decode cX1_init 61 = .ok (.aload_n 0, 1) := by decide +kernel
theorem dX1_init_62 : decode cX1_init 62 = .ok (.iconst 4, 1) := by decide +kernel
theorem dX1_init_63 : decode cX1_init 63 = .ok (.newarray .int, 2) := by decide +kernel
theorem dX1_init_65 : decode cX1_init 65 = .ok (.putfield 35, 3) := by decide +kernel
theorem dX1_init_68 : decode cX1_init 68 = .ok (.aload_n 0, 1) := by decide +kernel
theorem dX1_init_69 : decode cX1_init 69 = .ok (.bipush 49, 2) := by decide +kernel
theorem dX1_init_71 : decode cX1_init 71 = .ok (.newarray .boolean, 2) := by decide +kernel
theorem dX1_init_73 : decode cX1_init 73 = .ok (.putfield 38, 3) := by decide +kernel
theorem dX1_init_76 : decode cX1_init 76 = .ok (.aload_n 0, 1) := by decide +kernel
theorem dX1_init_77 : decode cX1_init 77 = .ok (.bipush 49, 2) := by decide +kernel
theorem dX1_init_79 : decode cX1_init 79 = .ok (.newarray .boolean, 2) := by decide +kernel
theorem dX1_init_81 : decode cX1_init 81 = .ok (.putfield 42, 3) := by decide +kernel
theorem dX1_init_84 : decode cX1_init 84 = .ok (.aload_n 0, 1) := by decide +kernel
theorem dX1_init_85 : decode cX1_init 85 = .ok (.bipush 49, 2) := by decide +kernel
theorem dX1_init_87 : decode cX1_init 87 = .ok (.newarray .boolean, 2) := by decide +kernel
theorem dX1_init_89 : decode cX1_init 89 = .ok (.putfield 45, 3) := by decide +kernel
theorem dX1_init_92 : decode cX1_init 92 = .ok (.return_, 1) := by decide +kernel
abbrev cX1_addRow : ByteArray := prog_3_method_5_code
def yX1_addRow : MethodName := ⟨RX1, "addRow", "(III)I"⟩
theorem dX1_addRow_0 : decode cX1_addRow 0 = .ok (.aload_n 0, 1) := by decide +kernel
theorem dX1_addRow_1 : decode cX1_addRow 1 = .ok (.iload_n 1, 1) := by decide +kernel
theorem dX1_addRow_2 : decode cX1_addRow 2 = .ok (.invokevirtual 48, 3) := by decide +kernel
theorem dX1_addRow_5 : decode cX1_addRow 5 = .ok (.ifCond .eq 19, 3) := by decide +kernel
theorem dX1_addRow_8 : decode cX1_addRow 8 = .ok (.aload_n 0, 1) := by decide +kernel
theorem dX1_addRow_9 : decode cX1_addRow 9 = .ok (.iload_n 2, 1) := by decide +kernel
theorem dX1_addRow_10 : decode cX1_addRow 10 = .ok (.invokevirtual 52, 3) := by decide +kernel
theorem dX1_addRow_13 : decode cX1_addRow 13 = .ok (.ifCond .eq 11, 3) := by decide +kernel
theorem dX1_addRow_16 : decode cX1_addRow 16 = .ok (.aload_n 0, 1) := by decide +kernel
theorem dX1_addRow_17 : decode cX1_addRow 17 = .ok (.iload_n 3, 1) := by decide +kernel
theorem dX1_addRow_18 : decode cX1_addRow 18 = .ok (.invokevirtual 52, 3) := by decide +kernel
theorem dX1_addRow_21 : decode cX1_addRow 21 = .ok (.ifCond .ne 5, 3) := by decide +kernel
theorem dX1_addRow_24 : decode cX1_addRow 24 = .ok (.iconst (-1), 1) := by decide +kernel
theorem dX1_addRow_25 : decode cX1_addRow 25 = .ok (.ireturn, 1) := by decide +kernel
theorem dX1_addRow_26 : decode cX1_addRow 26 = .ok (.aload_n 0, 1) := by decide +kernel
theorem dX1_addRow_27 : decode cX1_addRow 27 = .ok (.getfield 7, 3) := by decide +kernel
theorem dX1_addRow_30 : decode cX1_addRow 30 = .ok (.iload_n 1, 1) := by decide +kernel
theorem dX1_addRow_31 : decode cX1_addRow 31 = .ok (.iaload, 1) := by decide +kernel
theorem dX1_addRow_32 : decode cX1_addRow 32 = .ok (.iconst 5, 1) := by decide +kernel
theorem dX1_addRow_33 : decode cX1_addRow 33 = .ok (.if_icmp .ne 6, 3) := by decide +kernel
theorem dX1_addRow_36 : decode cX1_addRow 36 = .ok (.bipush (-2), 2) := by decide +kernel
theorem dX1_addRow_38 : decode cX1_addRow 38 = .ok (.ireturn, 1) := by decide +kernel
theorem dX1_addRow_39 : decode cX1_addRow 39 = .ok (.bipush 10, 2) := by decide +kernel
theorem dX1_addRow_41 : decode cX1_addRow 41 = .ok (.iload_n 1, 1) := by decide +kernel
theorem dX1_addRow_42 : decode cX1_addRow 42 = .ok (.imul, 1) := by decide +kernel
theorem dX1_addRow_43 : decode cX1_addRow 43 = .ok (.iconst 2, 1) := by decide +kernel
theorem dX1_addRow_44 : decode cX1_addRow 44 = .ok (.aload_n 0, 1) := by decide +kernel
theorem dX1_addRow_45 : decode cX1_addRow 45 = .ok (.getfield 7, 3) := by decide +kernel
theorem dX1_addRow_48 : decode cX1_addRow 48 = .ok (.iload_n 1, 1) := by decide +kernel
theorem dX1_addRow_49 : decode cX1_addRow 49 = .ok (.iaload, 1) := by decide +kernel
theorem dX1_addRow_50 : decode cX1_addRow 50 = .ok (.imul, 1) := by decide +kernel
theorem dX1_addRow_51 : decode cX1_addRow 51 = .ok (.iadd, 1) := by decide +kernel
theorem dX1_addRow_52 : decode cX1_addRow 52 = .ok (.istore 4, 2) := by decide +kernel
theorem dX1_addRow_54 : decode cX1_addRow 54 = .ok (.aload_n 0, 1) := by decide +kernel
theorem dX1_addRow_55 : decode cX1_addRow 55 = .ok (.getfield 13, 3) := by decide +kernel
theorem dX1_addRow_58 : decode cX1_addRow 58 = .ok (.iload 4, 2) := by decide +kernel
theorem dX1_addRow_60 : decode cX1_addRow 60 = .ok (.iload_n 2, 1) := by decide +kernel
theorem dX1_addRow_61 : decode cX1_addRow 61 = .ok (.iastore, 1) := by decide +kernel
theorem dX1_addRow_62 : decode cX1_addRow 62 = .ok (.aload_n 0, 1) := by decide +kernel
theorem dX1_addRow_63 : decode cX1_addRow 63 = .ok (.getfield 13, 3) := by decide +kernel
theorem dX1_addRow_66 : decode cX1_addRow 66 = .ok (.iload 4, 2) := by decide +kernel
theorem dX1_addRow_68 : decode cX1_addRow 68 = .ok (.iconst 1, 1) := by decide +kernel
theorem dX1_addRow_69 : decode cX1_addRow 69 = .ok (.iadd, 1) := by decide +kernel
theorem dX1_addRow_70 : decode cX1_addRow 70 = .ok (.iload_n 3, 1) := by decide +kernel
theorem dX1_addRow_71 : decode cX1_addRow 71 = .ok (.iastore, 1) := by decide +kernel
theorem dX1_addRow_72 : decode cX1_addRow 72 = .ok (.aload_n 0, 1) := by decide +kernel
theorem dX1_addRow_73 : decode cX1_addRow 73 = .ok (.getfield 7, 3) := by decide +kernel
theorem dX1_addRow_76 : decode cX1_addRow 76 = .ok (.iload_n 1, 1) := by decide +kernel
theorem dX1_addRow_77 : decode cX1_addRow 77 = .ok (.dup2, 1) := by decide +kernel
theorem dX1_addRow_78 : decode cX1_addRow 78 = .ok (.iaload, 1) := by decide +kernel
theorem dX1_addRow_79 : decode cX1_addRow 79 = .ok (.iconst 1, 1) := by decide +kernel
theorem dX1_addRow_80 : decode cX1_addRow 80 = .ok (.iadd, 1) := by decide +kernel
theorem dX1_addRow_81 : decode cX1_addRow 81 = .ok (.iastore, 1) := by decide +kernel
theorem dX1_addRow_82 : decode cX1_addRow 82 = .ok (.aload_n 0, 1) := by decide +kernel
theorem dX1_addRow_83 : decode cX1_addRow 83 = .ok (.getfield 7, 3) := by decide +kernel
theorem dX1_addRow_86 : decode cX1_addRow 86 = .ok (.iload_n 1, 1) := by decide +kernel
theorem dX1_addRow_87 : decode cX1_addRow 87 = .ok (.iaload, 1) := by decide +kernel
theorem dX1_addRow_88 : decode cX1_addRow 88 = .ok (.ireturn, 1) := by decide +kernel
abbrev cX1_isTable : ByteArray := prog_3_method_2_code
def yX1_isTable : MethodName := ⟨RX1, "isTable", "(I)Z"⟩
theorem dX1_isTable_0 : decode cX1_isTable 0 = .ok (.iload_n 1, 1) := by decide +kernel
theorem dX1_isTable_1 : decode cX1_isTable 1 = .ok (.ifCond .eq 8, 3) := by decide +kernel
theorem dX1_isTable_4 : decode cX1_isTable 4 = .ok (.iload_n 1, 1) := by decide +kernel
theorem dX1_isTable_5 : decode cX1_isTable 5 = .ok (.iconst 1, 1) := by decide +kernel
theorem dX1_isTable_6 : decode cX1_isTable 6 = .ok (.if_icmp .ne 7, 3) := by decide +kernel
theorem dX1_isTable_9 : decode cX1_isTable 9 = .ok (.iconst 1, 1) := by decide +kernel
theorem dX1_isTable_10 : decode cX1_isTable 10 = .ok (.goto 4, 3) := by decide +kernel
theorem dX1_isTable_13 : decode cX1_isTable 13 = .ok (.iconst 0, 1) := by decide +kernel
theorem dX1_isTable_14 : decode cX1_isTable 14 = .ok (.ireturn, 1) := by decide +kernel
abbrev cX1_isValue : ByteArray := prog_3_method_3_code
def yX1_isValue : MethodName := ⟨RX1, "isValue", "(I)Z"⟩
theorem dX1_isValue_0 : decode cX1_isValue 0 = .ok (.iload_n 1, 1) := by decide +kernel
theorem dX1_isValue_1 : decode cX1_isValue 1 = .ok (.ifCond .lt 8, 3) := by decide +kernel
theorem dX1_isValue_4 : decode cX1_isValue 4 = .ok (.iload_n 1, 1) := by decide +kernel
theorem dX1_isValue_5 : decode cX1_isValue 5 = .ok (.iconst 3, 1) := by decide +kernel
theorem dX1_isValue_6 : decode cX1_isValue 6 = .ok (.if_icmp .le 15, 3) := by decide +kernel
theorem dX1_isValue_9 : decode cX1_isValue 9 = .ok (.iload_n 1, 1) := by decide +kernel
theorem dX1_isValue_10 : decode cX1_isValue 10 = .ok (.bipush 10, 2) := by decide +kernel
theorem dX1_isValue_12 : decode cX1_isValue 12 = .ok (.if_icmp .lt 13, 3) := by decide +kernel
theorem dX1_isValue_15 : decode cX1_isValue 15 = .ok (.iload_n 1, 1) := by decide +kernel
theorem dX1_isValue_16 : decode cX1_isValue 16 = .ok (.bipush 12, 2) := by decide +kernel
theorem dX1_isValue_18 : decode cX1_isValue 18 = .ok (.if_icmp .gt 7, 3) := by decide +kernel
theorem dX1_isValue_21 : decode cX1_isValue 21 = .ok (.iconst 1, 1) := by decide +kernel
theorem dX1_isValue_22 : decode cX1_isValue 22 = .ok (.goto 4, 3) := by decide +kernel
theorem dX1_isValue_25 : decode cX1_isValue 25 = .ok (.iconst 0, 1) := by decide +kernel
theorem dX1_isValue_26 : decode cX1_isValue 26 = .ok (.ireturn, 1) := by decide +kernel
abbrev cX1_dropRow : ByteArray := prog_3_method_6_code
def yX1_dropRow : MethodName := ⟨RX1, "dropRow", "(I)I"⟩
theorem dX1_dropRow_0 : decode cX1_dropRow 0 = .ok (.aload_n 0, 1) := by decide +kernel
theorem dX1_dropRow_1 : decode cX1_dropRow 1 = .ok (.iload_n 1, 1) := by decide +kernel
theorem dX1_dropRow_2 : decode cX1_dropRow 2 = .ok (.invokevirtual 48, 3) := by decide +kernel
theorem dX1_dropRow_5 : decode cX1_dropRow 5 = .ok (.ifCond .eq 12, 3) := by decide +kernel
theorem dX1_dropRow_8 : decode cX1_dropRow 8 = .ok (.aload_n 0, 1) := by decide +kernel
theorem dX1_dropRow_9 : decode cX1_dropRow 9 = .ok (.getfield 7, 3) := by decide +kernel
theorem dX1_dropRow_12 : decode cX1_dropRow 12 = .ok (.iload_n 1, 1) := by decide +kernel
theorem dX1_dropRow_13 : decode cX1_dropRow 13 = .ok (.iaload, 1) := by decide +kernel
theorem dX1_dropRow_14 : decode cX1_dropRow 14 = .ok (.ifCond .ne 5, 3) := by decide +kernel
theorem dX1_dropRow_17 : decode cX1_dropRow 17 = .ok (.iconst (-1), 1) := by decide +kernel
theorem dX1_dropRow_18 : decode cX1_dropRow 18 = .ok (.ireturn, 1) := by decide +kernel
theorem dX1_dropRow_19 : decode cX1_dropRow 19 = .ok (.iconst 0, 1) := by decide +kernel
theorem dX1_dropRow_20 : decode cX1_dropRow 20 = .ok (.istore_n 2, 1) := by decide +kernel
theorem dX1_dropRow_21 : decode cX1_dropRow 21 = .ok (.iload_n 2, 1) := by decide +kernel
theorem dX1_dropRow_22 : decode cX1_dropRow 22 = .ok (.bipush 8, 2) := by decide +kernel
theorem dX1_dropRow_24 : decode cX1_dropRow 24 = .ok (.if_icmp .ge 33, 3) := by decide +kernel
theorem dX1_dropRow_27 : decode cX1_dropRow 27 = .ok (.aload_n 0, 1) := by decide +kernel
theorem dX1_dropRow_28 : decode cX1_dropRow 28 = .ok (.getfield 13, 3) := by decide +kernel
theorem dX1_dropRow_31 : decode cX1_dropRow 31 = .ok (.bipush 10, 2) := by decide +kernel
theorem dX1_dropRow_33 : decode cX1_dropRow 33 = .ok (.iload_n 1, 1) := by decide +kernel
theorem dX1_dropRow_34 : decode cX1_dropRow 34 = .ok (.imul, 1) := by decide +kernel
theorem dX1_dropRow_35 : decode cX1_dropRow 35 = .ok (.iload_n 2, 1) := by decide +kernel
theorem dX1_dropRow_36 : decode cX1_dropRow 36 = .ok (.iadd, 1) := by decide +kernel
theorem dX1_dropRow_37 : decode cX1_dropRow 37 = .ok (.aload_n 0, 1) := by decide +kernel
theorem dX1_dropRow_38 : decode cX1_dropRow 38 = .ok (.getfield 13, 3) := by decide +kernel
theorem dX1_dropRow_41 : decode cX1_dropRow 41 = .ok (.bipush 10, 2) := by decide +kernel
theorem dX1_dropRow_43 : decode cX1_dropRow 43 = .ok (.iload_n 1, 1) := by decide +kernel
theorem dX1_dropRow_44 : decode cX1_dropRow 44 = .ok (.imul, 1) := by decide +kernel
theorem dX1_dropRow_45 : decode cX1_dropRow 45 = .ok (.iload_n 2, 1) := by decide +kernel
theorem dX1_dropRow_46 : decode cX1_dropRow 46 = .ok (.iadd, 1) := by decide +kernel
theorem dX1_dropRow_47 : decode cX1_dropRow 47 = .ok (.iconst 2, 1) := by decide +kernel
theorem dX1_dropRow_48 : decode cX1_dropRow 48 = .ok (.iadd, 1) := by decide +kernel
theorem dX1_dropRow_49 : decode cX1_dropRow 49 = .ok (.iaload, 1) := by decide +kernel
theorem dX1_dropRow_50 : decode cX1_dropRow 50 = .ok (.iastore, 1) := by decide +kernel
theorem dX1_dropRow_51 : decode cX1_dropRow 51 = .ok (.iinc 2 1, 3) := by decide +kernel
theorem dX1_dropRow_54 : decode cX1_dropRow 54 = .ok (.goto (-33), 3) := by decide +kernel
theorem dX1_dropRow_57 : decode cX1_dropRow 57 = .ok (.aload_n 0, 1) := by decide +kernel
theorem dX1_dropRow_58 : decode cX1_dropRow 58 = .ok (.getfield 7, 3) := by decide +kernel
theorem dX1_dropRow_61 : decode cX1_dropRow 61 = .ok (.iload_n 1, 1) := by decide +kernel
theorem dX1_dropRow_62 : decode cX1_dropRow 62 = .ok (.dup2, 1) := by decide +kernel
theorem dX1_dropRow_63 : decode cX1_dropRow 63 = .ok (.iaload, 1) := by decide +kernel
theorem dX1_dropRow_64 : decode cX1_dropRow 64 = .ok (.iconst 1, 1) := by decide +kernel
theorem dX1_dropRow_65 : decode cX1_dropRow 65 = .ok (.isub, 1) := by decide +kernel
theorem dX1_dropRow_66 : decode cX1_dropRow 66 = .ok (.iastore, 1) := by decide +kernel
theorem dX1_dropRow_67 : decode cX1_dropRow 67 = .ok (.aload_n 0, 1) := by decide +kernel
theorem dX1_dropRow_68 : decode cX1_dropRow 68 = .ok (.getfield 7, 3) := by decide +kernel
theorem dX1_dropRow_71 : decode cX1_dropRow 71 = .ok (.iload_n 1, 1) := by decide +kernel
theorem dX1_dropRow_72 : decode cX1_dropRow 72 = .ok (.iaload, 1) := by decide +kernel
theorem dX1_dropRow_73 : decode cX1_dropRow 73 = .ok (.ireturn, 1) := by decide +kernel
abbrev cX1_learn : ByteArray := prog_3_method_7_code
def yX1_learn : MethodName := ⟨RX1, "learn", "(II)I"⟩
theorem dX1_learn_0 : decode cX1_learn 0 = .ok (.iload_n 1, 1) := by decide +kernel
theorem dX1_learn_1 : decode cX1_learn 1 = .ok (.bipush 10, 2) := by decide +kernel
theorem dX1_learn_3 : decode cX1_learn 3 = .ok (.if_icmp .lt 18, 3) := by decide +kernel
theorem dX1_learn_6 : decode cX1_learn 6 = .ok (.iload_n 1, 1) := by decide +kernel
theorem dX1_learn_7 : decode cX1_learn 7 = .ok (.bipush 12, 2) := by decide +kernel
theorem dX1_learn_9 : decode cX1_learn 9 = .ok (.if_icmp .gt 12, 3) := by decide +kernel
theorem dX1_learn_12 : decode cX1_learn 12 = .ok (.iload_n 2, 1) := by decide +kernel
theorem dX1_learn_13 : decode cX1_learn 13 = .ok (.ifCond .lt 8, 3) := by decide +kernel
theorem dX1_learn_16 : decode cX1_learn 16 = .ok (.iload_n 2, 1) := by decide +kernel
theorem dX1_learn_17 : decode cX1_learn 17 = .ok (.iconst 3, 1) := by decide +kernel
theorem dX1_learn_18 : decode cX1_learn 18 = .ok (.if_icmp .le 5, 3) := by decide +kernel
theorem dX1_learn_21 : decode cX1_learn 21 = .ok (.iconst (-1), 1) := by decide +kernel
theorem dX1_learn_22 : decode cX1_learn 22 = .ok (.ireturn, 1) := by decide +kernel
theorem dX1_learn_23 : decode cX1_learn 23 = .ok (.iconst 0, 1) := by decide +kernel
theorem dX1_learn_24 : decode cX1_learn 24 = .ok (.istore_n 3, 1) := by decide +kernel
theorem dX1_learn_25 : decode cX1_learn 25 = .ok (.iconst 0, 1) := by decide +kernel
theorem dX1_learn_26 : decode cX1_learn 26 = .ok (.istore 4, 2) := by decide +kernel
theorem dX1_learn_28 : decode cX1_learn 28 = .ok (.iload 4, 2) := by decide +kernel
theorem dX1_learn_30 : decode cX1_learn 30 = .ok (.bipush 20, 2) := by decide +kernel
theorem dX1_learn_32 : decode cX1_learn 32 = .ok (.if_icmp .ge 63, 3) := by decide +kernel
theorem dX1_learn_35 : decode cX1_learn 35 = .ok (.iload 4, 2) := by decide +kernel
theorem dX1_learn_37 : decode cX1_learn 37 = .ok (.bipush 10, 2) := by decide +kernel
theorem dX1_learn_39 : decode cX1_learn 39 = .ok (.irem, 1) := by decide +kernel
theorem dX1_learn_40 : decode cX1_learn 40 = .ok (.iconst 2, 1) := by decide +kernel
theorem dX1_learn_41 : decode cX1_learn 41 = .ok (.aload_n 0, 1) := by decide +kernel
theorem dX1_learn_42 : decode cX1_learn 42 = .ok (.getfield 7, 3) := by decide +kernel
theorem dX1_learn_45 : decode cX1_learn 45 = .ok (.iload 4, 2) := by decide +kernel
theorem dX1_learn_47 : decode cX1_learn 47 = .ok (.bipush 10, 2) := by decide +kernel
theorem dX1_learn_49 : decode cX1_learn 49 = .ok (.idiv, 1) := by decide +kernel
theorem dX1_learn_50 : decode cX1_learn 50 = .ok (.iaload, 1) := by decide +kernel
theorem dX1_learn_51 : decode cX1_learn 51 = .ok (.imul, 1) := by decide +kernel
theorem dX1_learn_52 : decode cX1_learn 52 = .ok (.if_icmp .ge 7, 3) := by decide +kernel
theorem dX1_learn_55 : decode cX1_learn 55 = .ok (.iconst 1, 1) := by decide +kernel
theorem dX1_learn_56 : decode cX1_learn 56 = .ok (.goto 4, 3) := by decide +kernel
theorem dX1_learn_59 : decode cX1_learn 59 = .ok (.iconst 0, 1) := by decide +kernel
theorem dX1_learn_60 : decode cX1_learn 60 = .ok (.istore 5, 2) := by decide +kernel
theorem dX1_learn_62 : decode cX1_learn 62 = .ok (.iload 5, 2) := by decide +kernel
theorem dX1_learn_64 : decode cX1_learn 64 = .ok (.ifCond .eq 25, 3) := by decide +kernel
theorem dX1_learn_67 : decode cX1_learn 67 = .ok (.aload_n 0, 1) := by decide +kernel
theorem dX1_learn_68 : decode cX1_learn 68 = .ok (.getfield 13, 3) := by decide +kernel
theorem dX1_learn_71 : decode cX1_learn 71 = .ok (.iload 4, 2) := by decide +kernel
theorem dX1_learn_73 : decode cX1_learn 73 = .ok (.iaload, 1) := by decide +kernel
theorem dX1_learn_74 : decode cX1_learn 74 = .ok (.iload_n 1, 1) := by decide +kernel
theorem dX1_learn_75 : decode cX1_learn 75 = .ok (.if_icmp .ne 14, 3) := by decide +kernel
theorem dX1_learn_78 : decode cX1_learn 78 = .ok (.aload_n 0, 1) := by decide +kernel
theorem dX1_learn_79 : decode cX1_learn 79 = .ok (.getfield 13, 3) := by decide +kernel
theorem dX1_learn_82 : decode cX1_learn 82 = .ok (.iload 4, 2) := by decide +kernel
theorem dX1_learn_84 : decode cX1_learn 84 = .ok (.iload_n 2, 1) := by decide +kernel
theorem dX1_learn_85 : decode cX1_learn 85 = .ok (.iastore, 1) := by decide +kernel
theorem dX1_learn_86 : decode cX1_learn 86 = .ok (.iinc 3 1, 3) := by decide +kernel
theorem dX1_learn_89 : decode cX1_learn 89 = .ok (.iinc 4 1, 3) := by decide +kernel
theorem dX1_learn_92 : decode cX1_learn 92 = .ok (.goto (-64), 3) := by decide +kernel
theorem dX1_learn_95 : decode cX1_learn 95 = .ok (.iload_n 3, 1) := by decide +kernel
theorem dX1_learn_96 : decode cX1_learn 96 = .ok (.ireturn, 1) := by decide +kernel
end
section
set_option maxRecDepth 100000
abbrev cX1_rule : ByteArray := prog_3_method_8_code
def yX1_rule : MethodName := ⟨RX1, "rule", "(II)I"⟩
theorem dX1_rule_0 : decode cX1_rule 0 = .ok (.aload_n 0, 1) := by decide +kernel
theorem dX1_rule_1 : decode cX1_rule 1 = .ok (.iload_n 1, 1) := by decide +kernel
theorem dX1_rule_2 : decode cX1_rule 2 = .ok (.invokevirtual 55, 3) := by decide +kernel
theorem dX1_rule_5 : decode cX1_rule 5 = .ok (.ifCond .eq 11, 3) := by decide +kernel
theorem dX1_rule_8 : decode cX1_rule 8 = .ok (.aload_n 0, 1) := by decide +kernel
theorem dX1_rule_9 : decode cX1_rule 9 = .ok (.iload_n 2, 1) := by decide +kernel
theorem dX1_rule_10 : decode cX1_rule 10 = .ok (.invokevirtual 55, 3) := by decide +kernel
theorem dX1_rule_13 : decode cX1_rule 13 = .ok (.ifCond .ne 5, 3) := by decide +kernel
theorem dX1_rule_16 : decode cX1_rule 16 = .ok (.iconst (-1), 1) := by decide +kernel
theorem dX1_rule_17 : decode cX1_rule 17 = .ok (.ireturn, 1) := by decide +kernel
theorem dX1_rule_18 : decode cX1_rule 18 = .ok (.aload_n 0, 1) := by decide +kernel
theorem dX1_rule_19 : decode cX1_rule 19 = .ok (.getfield 16, 3) := by decide +kernel
theorem dX1_rule_22 : decode cX1_rule 22 = .ok (.iconst 2, 1) := by decide +kernel
theorem dX1_rule_23 : decode cX1_rule 23 = .ok (.if_icmp .ne 6, 3) := by decide +kernel
theorem dX1_rule_26 : decode cX1_rule 26 = .ok (.bipush (-2), 2) := by decide +kernel
theorem dX1_rule_28 : decode cX1_rule 28 = .ok (.ireturn, 1) := by decide +kernel
theorem dX1_rule_29 : decode cX1_rule 29 = .ok (.aload_n 0, 1) := by decide +kernel
theorem dX1_rule_30 : decode cX1_rule 30 = .ok (.getfield 20, 3) := by decide +kernel
theorem dX1_rule_33 : decode cX1_rule 33 = .ok (.iconst 2, 1) := by decide +kernel
theorem dX1_rule_34 : decode cX1_rule 34 = .ok (.aload_n 0, 1) := by decide +kernel
theorem dX1_rule_35 : decode cX1_rule 35 = .ok (.getfield 16, 3) := by decide +kernel
theorem dX1_rule_38 : decode cX1_rule 38 = .ok (.imul, 1) := by decide +kernel
theorem dX1_rule_39 : decode cX1_rule 39 = .ok (.iload_n 1, 1) := by decide +kernel
theorem dX1_rule_40 : decode cX1_rule 40 = .ok (.iastore, 1) := by decide +kernel
theorem dX1_rule_41 : decode cX1_rule 41 = .ok (.aload_n 0, 1) := by decide +kernel
theorem dX1_rule_42 : decode cX1_rule 42 = .ok (.getfield 20, 3) := by decide +kernel
theorem dX1_rule_45 : decode cX1_rule 45 = .ok (.iconst 2, 1) := by decide +kernel
theorem dX1_rule_46 : decode cX1_rule 46 = .ok (.aload_n 0, 1) := by decide +kernel
theorem dX1_rule_47 : decode cX1_rule 47 = .ok (.getfield 16, 3) := by decide +kernel
theorem dX1_rule_50 : decode cX1_rule 50 = .ok (.imul, 1) := by decide +kernel
theorem dX1_rule_51 : decode cX1_rule 51 = .ok (.iconst 1, 1) := by decide +kernel
theorem dX1_rule_52 : decode cX1_rule 52 = .ok (.iadd, 1) := by decide +kernel
theorem dX1_rule_53 : decode cX1_rule 53 = .ok (.iload_n 2, 1) := by decide +kernel
theorem dX1_rule_54 : decode cX1_rule 54 = .ok (.iastore, 1) := by decide +kernel
theorem dX1_rule_55 : decode cX1_rule 55 = .ok (.aload_n 0, 1) := by decide +kernel
theorem dX1_rule_56 : decode cX1_rule 56 = .ok (.getfield 23, 3) := by decide +kernel
theorem dX1_rule_59 : decode cX1_rule 59 = .ok (.aload_n 0, 1) := by decide +kernel
theorem dX1_rule_60 : decode cX1_rule 60 = .ok (.getfield 16, 3) := by decide +kernel
theorem dX1_rule_63 : decode cX1_rule 63 = .ok (.iconst 0, 1) := by decide +kernel
theorem dX1_rule_64 : decode cX1_rule 64 = .ok (.iastore, 1) := by decide +kernel
theorem dX1_rule_65 : decode cX1_rule 65 = .ok (.aload_n 0, 1) := by decide +kernel
theorem dX1_rule_66 : decode cX1_rule 66 = .ok (.dup, 1) := by decide +kernel
theorem dX1_rule_67 : decode cX1_rule 67 = .ok (.getfield 16, 3) := by decide +kernel
theorem dX1_rule_70 : decode cX1_rule 70 = .ok (.iconst 1, 1) := by decide +kernel
theorem dX1_rule_71 : decode cX1_rule 71 = .ok (.iadd, 1) := by decide +kernel
theorem dX1_rule_72 : decode cX1_rule 72 = .ok (.putfield 16, 3) := by decide +kernel
theorem dX1_rule_75 : decode cX1_rule 75 = .ok (.aload_n 0, 1) := by decide +kernel
theorem dX1_rule_76 : decode cX1_rule 76 = .ok (.getfield 16, 3) := by decide +kernel
theorem dX1_rule_79 : decode cX1_rule 79 = .ok (.ireturn, 1) := by decide +kernel
abbrev cX1_isTerm : ByteArray := prog_3_method_4_code
def yX1_isTerm : MethodName := ⟨RX1, "isTerm", "(I)Z"⟩
theorem dX1_isTerm_0 : decode cX1_isTerm 0 = .ok (.iload_n 1, 1) := by decide +kernel
theorem dX1_isTerm_1 : decode cX1_isTerm 1 = .ok (.ifCond .lt 8, 3) := by decide +kernel
theorem dX1_isTerm_4 : decode cX1_isTerm 4 = .ok (.iload_n 1, 1) := by decide +kernel
theorem dX1_isTerm_5 : decode cX1_isTerm 5 = .ok (.iconst 3, 1) := by decide +kernel
theorem dX1_isTerm_6 : decode cX1_isTerm 6 = .ok (.if_icmp .le 15, 3) := by decide +kernel
theorem dX1_isTerm_9 : decode cX1_isTerm 9 = .ok (.iload_n 1, 1) := by decide +kernel
theorem dX1_isTerm_10 : decode cX1_isTerm 10 = .ok (.bipush 20, 2) := by decide +kernel
theorem dX1_isTerm_12 : decode cX1_isTerm 12 = .ok (.if_icmp .lt 13, 3) := by decide +kernel
theorem dX1_isTerm_15 : decode cX1_isTerm 15 = .ok (.iload_n 1, 1) := by decide +kernel
theorem dX1_isTerm_16 : decode cX1_isTerm 16 = .ok (.bipush 23, 2) := by decide +kernel
theorem dX1_isTerm_18 : decode cX1_isTerm 18 = .ok (.if_icmp .gt 7, 3) := by decide +kernel
theorem dX1_isTerm_21 : decode cX1_isTerm 21 = .ok (.iconst 1, 1) := by decide +kernel
theorem dX1_isTerm_22 : decode cX1_isTerm 22 = .ok (.goto 4, 3) := by decide +kernel
theorem dX1_isTerm_25 : decode cX1_isTerm 25 = .ok (.iconst 0, 1) := by decide +kernel
theorem dX1_isTerm_26 : decode cX1_isTerm 26 = .ok (.ireturn, 1) := by decide +kernel
abbrev cX1_atom : ByteArray := prog_3_method_9_code
def yX1_atom : MethodName := ⟨RX1, "atom", "(III)I"⟩
theorem dX1_atom_0 : decode cX1_atom 0 = .ok (.aload_n 0, 1) := by decide +kernel
theorem dX1_atom_1 : decode cX1_atom 1 = .ok (.iload_n 1, 1) := by decide +kernel
theorem dX1_atom_2 : decode cX1_atom 2 = .ok (.invokevirtual 48, 3) := by decide +kernel
theorem dX1_atom_5 : decode cX1_atom 5 = .ok (.ifCond .eq 19, 3) := by decide +kernel
theorem dX1_atom_8 : decode cX1_atom 8 = .ok (.aload_n 0, 1) := by decide +kernel
theorem dX1_atom_9 : decode cX1_atom 9 = .ok (.iload_n 2, 1) := by decide +kernel
theorem dX1_atom_10 : decode cX1_atom 10 = .ok (.invokevirtual 55, 3) := by decide +kernel
theorem dX1_atom_13 : decode cX1_atom 13 = .ok (.ifCond .eq 11, 3) := by decide +kernel
theorem dX1_atom_16 : decode cX1_atom 16 = .ok (.aload_n 0, 1) := by decide +kernel
theorem dX1_atom_17 : decode cX1_atom 17 = .ok (.iload_n 3, 1) := by decide +kernel
theorem dX1_atom_18 : decode cX1_atom 18 = .ok (.invokevirtual 55, 3) := by decide +kernel
theorem dX1_atom_21 : decode cX1_atom 21 = .ok (.ifCond .ne 5, 3) := by decide +kernel
theorem dX1_atom_24 : decode cX1_atom 24 = .ok (.iconst (-1), 1) := by decide +kernel
theorem dX1_atom_25 : decode cX1_atom 25 = .ok (.ireturn, 1) := by decide +kernel
theorem dX1_atom_26 : decode cX1_atom 26 = .ok (.aload_n 0, 1) := by decide +kernel
theorem dX1_atom_27 : decode cX1_atom 27 = .ok (.getfield 16, 3) := by decide +kernel
theorem dX1_atom_30 : decode cX1_atom 30 = .ok (.ifCond .ne 6, 3) := by decide +kernel
theorem dX1_atom_33 : decode cX1_atom 33 = .ok (.bipush (-3), 2) := by decide +kernel
theorem dX1_atom_35 : decode cX1_atom 35 = .ok (.ireturn, 1) := by decide +kernel
theorem dX1_atom_36 : decode cX1_atom 36 = .ok (.aload_n 0, 1) := by decide +kernel
theorem dX1_atom_37 : decode cX1_atom 37 = .ok (.getfield 16, 3) := by decide +kernel
theorem dX1_atom_40 : decode cX1_atom 40 = .ok (.iconst 1, 1) := by decide +kernel
theorem dX1_atom_41 : decode cX1_atom 41 = .ok (.isub, 1) := by decide +kernel
theorem dX1_atom_42 : decode cX1_atom 42 = .ok (.istore 4, 2) := by decide +kernel
theorem dX1_atom_44 : decode cX1_atom 44 = .ok (.aload_n 0, 1) := by decide +kernel
theorem dX1_atom_45 : decode cX1_atom 45 = .ok (.getfield 23, 3) := by decide +kernel
theorem dX1_atom_48 : decode cX1_atom 48 = .ok (.iload 4, 2) := by decide +kernel
theorem dX1_atom_50 : decode cX1_atom 50 = .ok (.iaload, 1) := by decide +kernel
theorem dX1_atom_51 : decode cX1_atom 51 = .ok (.iconst 3, 1) := by decide +kernel
theorem dX1_atom_52 : decode cX1_atom 52 = .ok (.if_icmp .ne 6, 3) := by decide +kernel
theorem dX1_atom_55 : decode cX1_atom 55 = .ok (.bipush (-2), 2) := by decide +kernel
theorem dX1_atom_57 : decode cX1_atom 57 = .ok (.ireturn, 1) := by decide +kernel
theorem dX1_atom_58 : decode cX1_atom 58 = .ok (.iconst 3, 1) := by decide +kernel
theorem dX1_atom_59 : decode cX1_atom 59 = .ok (.iload 4, 2) := by decide +kernel
theorem dX1_atom_61 : decode cX1_atom 61 = .ok (.imul, 1) := by decide +kernel
theorem dX1_atom_62 : decode cX1_atom 62 = .ok (.aload_n 0, 1) := by decide +kernel
theorem dX1_atom_63 : decode cX1_atom 63 = .ok (.getfield 23, 3) := by decide +kernel
theorem dX1_atom_66 : decode cX1_atom 66 = .ok (.iload 4, 2) := by decide +kernel
theorem dX1_atom_68 : decode cX1_atom 68 = .ok (.iaload, 1) := by decide +kernel
theorem dX1_atom_69 : decode cX1_atom 69 = .ok (.iadd, 1) := by decide +kernel
theorem dX1_atom_70 : decode cX1_atom 70 = .ok (.istore 5, 2) := by decide +kernel
theorem dX1_atom_72 : decode cX1_atom 72 = .ok (.aload_n 0, 1) := by decide +kernel
theorem dX1_atom_73 : decode cX1_atom 73 = .ok (.getfield 26, 3) := by decide +kernel
theorem dX1_atom_76 : decode cX1_atom 76 = .ok (.iload 5, 2) := by decide +kernel
theorem dX1_atom_78 : decode cX1_atom 78 = .ok (.iload_n 1, 1) := by decide +kernel
theorem dX1_atom_79 : decode cX1_atom 79 = .ok (.iastore, 1) := by decide +kernel
theorem dX1_atom_80 : decode cX1_atom 80 = .ok (.aload_n 0, 1) := by decide +kernel
theorem dX1_atom_81 : decode cX1_atom 81 = .ok (.getfield 29, 3) := by decide +kernel
theorem dX1_atom_84 : decode cX1_atom 84 = .ok (.iconst 2, 1) := by decide +kernel
theorem dX1_atom_85 : decode cX1_atom 85 = .ok (.iload 5, 2) := by decide +kernel
theorem dX1_atom_87 : decode cX1_atom 87 = .ok (.imul, 1) := by decide +kernel
theorem dX1_atom_88 : decode cX1_atom 88 = .ok (.iload_n 2, 1) := by decide +kernel
theorem dX1_atom_89 : decode cX1_atom 89 = .ok (.iastore, 1) := by decide +kernel
theorem dX1_atom_90 : decode cX1_atom 90 = .ok (.aload_n 0, 1) := by decide +kernel
theorem dX1_atom_91 : decode cX1_atom 91 = .ok (.getfield 29, 3) := by decide +kernel
theorem dX1_atom_94 : decode cX1_atom 94 = .ok (.iconst 2, 1) := by decide +kernel
theorem dX1_atom_95 : decode cX1_atom 95 = .ok (.iload 5, 2) := by decide +kernel
theorem dX1_atom_97 : decode cX1_atom 97 = .ok (.imul, 1) := by decide +kernel
theorem dX1_atom_98 : decode cX1_atom 98 = .ok (.iconst 1, 1) := by decide +kernel
theorem dX1_atom_99 : decode cX1_atom 99 = .ok (.iadd, 1) := by decide +kernel
theorem dX1_atom_100 : decode cX1_atom 100 = .ok (.iload_n 3, 1) := by decide +kernel
theorem dX1_atom_101 : decode cX1_atom 101 = .ok (.iastore, 1) := by decide +kernel
theorem dX1_atom_102 : decode cX1_atom 102 = .ok (.aload_n 0, 1) := by decide +kernel
theorem dX1_atom_103 : decode cX1_atom 103 = .ok (.getfield 23, 3) := by decide +kernel
theorem dX1_atom_106 : decode cX1_atom 106 = .ok (.iload 4, 2) := by decide +kernel
theorem dX1_atom_108 : decode cX1_atom 108 = .ok (.dup2, 1) := by decide +kernel
theorem dX1_atom_109 : decode cX1_atom 109 = .ok (.iaload, 1) := by decide +kernel
theorem dX1_atom_110 : decode cX1_atom 110 = .ok (.iconst 1, 1) := by decide +kernel
theorem dX1_atom_111 : decode cX1_atom 111 = .ok (.iadd, 1) := by decide +kernel
theorem dX1_atom_112 : decode cX1_atom 112 = .ok (.iastore, 1) := by decide +kernel
theorem dX1_atom_113 : decode cX1_atom 113 = .ok (.aload_n 0, 1) := by decide +kernel
theorem dX1_atom_114 : decode cX1_atom 114 = .ok (.getfield 23, 3) := by decide +kernel
theorem dX1_atom_117 : decode cX1_atom 117 = .ok (.iload 4, 2) := by decide +kernel
theorem dX1_atom_119 : decode cX1_atom 119 = .ok (.iaload, 1) := by decide +kernel
theorem dX1_atom_120 : decode cX1_atom 120 = .ok (.ireturn, 1) := by decide +kernel
abbrev cX1_dropRules : ByteArray := prog_3_method_10_code
def yX1_dropRules : MethodName := ⟨RX1, "dropRules", "()I"⟩
theorem dX1_dropRules_0 : decode cX1_dropRules 0 = .ok (.aload_n 0, 1) := by decide +kernel
theorem dX1_dropRules_1 : decode cX1_dropRules 1 = .ok (.getfield 16, 3) := by decide +kernel
theorem dX1_dropRules_4 : decode cX1_dropRules 4 = .ok (.istore_n 1, 1) := by decide +kernel
theorem dX1_dropRules_5 : decode cX1_dropRules 5 = .ok (.aload_n 0, 1) := by decide +kernel
theorem dX1_dropRules_6 : decode cX1_dropRules 6 = .ok (.iconst 0, 1) := by decide +kernel
theorem dX1_dropRules_7 : decode cX1_dropRules 7 = .ok (.putfield 16, 3) := by decide +kernel
theorem dX1_dropRules_10 : decode cX1_dropRules 10 = .ok (.iload_n 1, 1) := by decide +kernel
theorem dX1_dropRules_11 : decode cX1_dropRules 11 = .ok (.ireturn, 1) := by decide +kernel
abbrev cX1_certain : ByteArray := prog_3_method_19_code
def yX1_certain : MethodName := ⟨RX1, "certain", "(II)Z"⟩
theorem dX1_certain_0 : decode cX1_certain 0 = .ok (.aload_n 0, 1) := by decide +kernel
theorem dX1_certain_1 : decode cX1_certain 1 = .ok (.iload_n 1, 1) := by decide +kernel
theorem dX1_certain_2 : decode cX1_certain 2 = .ok (.iload_n 2, 1) := by decide +kernel
theorem dX1_certain_3 : decode cX1_certain 3 = .ok (.invokevirtual 83, 3) := by decide +kernel
theorem dX1_certain_6 : decode cX1_certain 6 = .ok (.ifCond .ne 5, 3) := by decide +kernel
theorem dX1_certain_9 : decode cX1_certain 9 = .ok (.iconst 0, 1) := by decide +kernel
theorem dX1_certain_10 : decode cX1_certain 10 = .ok (.ireturn, 1) := by decide +kernel
theorem dX1_certain_11 : decode cX1_certain 11 = .ok (.aload_n 0, 1) := by decide +kernel
theorem dX1_certain_12 : decode cX1_certain 12 = .ok (.invokevirtual 86, 3) := by decide +kernel
theorem dX1_certain_15 : decode cX1_certain 15 = .ok (.aload_n 0, 1) := by decide +kernel
theorem dX1_certain_16 : decode cX1_certain 16 = .ok (.getfield 42, 3) := by decide +kernel
theorem dX1_certain_19 : decode cX1_certain 19 = .ok (.bipush 7, 2) := by decide +kernel
theorem dX1_certain_21 : decode cX1_certain 21 = .ok (.iload_n 1, 1) := by decide +kernel
theorem dX1_certain_22 : decode cX1_certain 22 = .ok (.imul, 1) := by decide +kernel
theorem dX1_certain_23 : decode cX1_certain 23 = .ok (.iload_n 2, 1) := by decide +kernel
theorem dX1_certain_24 : decode cX1_certain 24 = .ok (.iadd, 1) := by decide +kernel
theorem dX1_certain_25 : decode cX1_certain 25 = .ok (.baload, 1) := by decide +kernel
theorem dX1_certain_26 : decode cX1_certain 26 = .ok (.ireturn, 1) := by decide +kernel
abbrev cX1_isCouple : ByteArray := prog_3_method_18_code
def yX1_isCouple : MethodName := ⟨RX1, "isCouple", "(II)Z"⟩
theorem dX1_isCouple_0 : decode cX1_isCouple 0 = .ok (.iload_n 1, 1) := by decide +kernel
theorem dX1_isCouple_1 : decode cX1_isCouple 1 = .ok (.ifCond .lt 23, 3) := by decide +kernel
theorem dX1_isCouple_4 : decode cX1_isCouple 4 = .ok (.iload_n 1, 1) := by decide +kernel
theorem dX1_isCouple_5 : decode cX1_isCouple 5 = .ok (.bipush 6, 2) := by decide +kernel
theorem dX1_isCouple_7 : decode cX1_isCouple 7 = .ok (.if_icmp .gt 17, 3) := by decide +kernel
theorem dX1_isCouple_10 : decode cX1_isCouple 10 = .ok (.iload_n 2, 1) := by decide +kernel
theorem dX1_isCouple_11 : decode cX1_isCouple 11 = .ok (.ifCond .lt 13, 3) := by decide +kernel
theorem dX1_isCouple_14 : decode cX1_isCouple 14 = .ok (.iload_n 2, 1) := by decide +kernel
theorem dX1_isCouple_15 : decode cX1_isCouple 15 = .ok (.bipush 6, 2) := by decide +kernel
theorem dX1_isCouple_17 : decode cX1_isCouple 17 = .ok (.if_icmp .gt 7, 3) := by decide +kernel
theorem dX1_isCouple_20 : decode cX1_isCouple 20 = .ok (.iconst 1, 1) := by decide +kernel
theorem dX1_isCouple_21 : decode cX1_isCouple 21 = .ok (.goto 4, 3) := by decide +kernel
theorem dX1_isCouple_24 : decode cX1_isCouple 24 = .ok (.iconst 0, 1) := by decide +kernel
theorem dX1_isCouple_25 : decode cX1_isCouple 25 = .ok (.ireturn, 1) := by decide +kernel
abbrev cX1_evaluate : ByteArray := prog_3_method_17_code
def yX1_evaluate : MethodName := ⟨RX1, "evaluate", "()V"⟩
theorem dX1_evaluate_0 : decode cX1_evaluate 0 = .ok (.aload_n 0, 1) := by decide +kernel
theorem dX1_evaluate_1 : decode cX1_evaluate 1 = .ok (.iconst 1, 1) := by decide +kernel
theorem dX1_evaluate_2 : decode cX1_evaluate 2 = .ok (.putfield 76, 3) := by decide +kernel
theorem dX1_evaluate_5 : decode cX1_evaluate 5 = .ok (.iconst 0, 1) := by decide +kernel
theorem dX1_evaluate_6 : decode cX1_evaluate 6 = .ok (.istore_n 1, 1) := by decide +kernel
theorem dX1_evaluate_7 : decode cX1_evaluate 7 = .ok (.iload_n 1, 1) := by decide +kernel
theorem dX1_evaluate_8 : decode cX1_evaluate 8 = .ok (.bipush 49, 2) := by decide +kernel
theorem dX1_evaluate_10 : decode cX1_evaluate 10 = .ok (.if_icmp .ge 23, 3) := by decide +kernel
theorem dX1_evaluate_13 : decode cX1_evaluate 13 = .ok (.aload_n 0, 1) := by decide +kernel
theorem dX1_evaluate_14 : decode cX1_evaluate 14 = .ok (.getfield 42, 3) := by decide +kernel
theorem dX1_evaluate_17 : decode cX1_evaluate 17 = .ok (.iload_n 1, 1) := by decide +kernel
theorem dX1_evaluate_18 : decode cX1_evaluate 18 = .ok (.iconst 1, 1) := by decide +kernel
theorem dX1_evaluate_19 : decode cX1_evaluate 19 = .ok (.bastore, 1) := by decide +kernel
theorem dX1_evaluate_20 : decode cX1_evaluate 20 = .ok (.aload_n 0, 1) := by decide +kernel
theorem dX1_evaluate_21 : decode cX1_evaluate 21 = .ok (.getfield 45, 3) := by decide +kernel
theorem dX1_evaluate_24 : decode cX1_evaluate 24 = .ok (.iload_n 1, 1) := by decide +kernel
theorem dX1_evaluate_25 : decode cX1_evaluate 25 = .ok (.iconst 0, 1) := by decide +kernel
theorem dX1_evaluate_26 : decode cX1_evaluate 26 = .ok (.bastore, 1) := by decide +kernel
theorem dX1_evaluate_27 : decode cX1_evaluate 27 = .ok (.iinc 1 1, 3) := by decide +kernel
theorem dX1_evaluate_30 : decode cX1_evaluate 30 = .ok (.goto (-23), 3) := by decide +kernel
theorem dX1_evaluate_33 : decode cX1_evaluate 33 = .ok (.iconst 0, 1) := by decide +kernel
theorem dX1_evaluate_34 : decode cX1_evaluate 34 = .ok (.istore_n 1, 1) := by decide +kernel
theorem dX1_evaluate_35 : decode cX1_evaluate 35 = .ok (.iload_n 1, 1) := by decide +kernel
theorem dX1_evaluate_36 : decode cX1_evaluate 36 = .ok (.sipush 343, 3) := by decide +kernel
theorem dX1_evaluate_39 : decode cX1_evaluate 39 = .ok (.if_icmp .ge 22, 3) := by decide +kernel
theorem dX1_evaluate_42 : decode cX1_evaluate 42 = .ok (.aload_n 0, 1) := by decide +kernel
theorem dX1_evaluate_43 : decode cX1_evaluate 43 = .ok (.iload_n 1, 1) := by decide +kernel
theorem dX1_evaluate_44 : decode cX1_evaluate 44 = .ok (.invokevirtual 80, 3) := by decide +kernel
theorem dX1_evaluate_47 : decode cX1_evaluate 47 = .ok (.ifCond .ne 8, 3) := by decide +kernel
theorem dX1_evaluate_50 : decode cX1_evaluate 50 = .ok (.aload_n 0, 1) := by decide +kernel
theorem dX1_evaluate_51 : decode cX1_evaluate 51 = .ok (.iconst 0, 1) := by decide +kernel
theorem dX1_evaluate_52 : decode cX1_evaluate 52 = .ok (.putfield 76, 3) := by decide +kernel
theorem dX1_evaluate_55 : decode cX1_evaluate 55 = .ok (.iinc 1 1, 3) := by decide +kernel
theorem dX1_evaluate_58 : decode cX1_evaluate 58 = .ok (.goto (-23), 3) := by decide +kernel
theorem dX1_evaluate_61 : decode cX1_evaluate 61 = .ok (.return_, 1) := by decide +kernel
abbrev cX1_complete : ByteArray := prog_3_method_16_code
def yX1_complete : MethodName := ⟨RX1, "complete", "(I)Z"⟩
theorem dX1_complete_0 : decode cX1_complete 0 = .ok (.aload_n 0, 1) := by decide +kernel
theorem dX1_complete_1 : decode cX1_complete 1 = .ok (.getfield 32, 3) := by decide +kernel
theorem dX1_complete_4 : decode cX1_complete 4 = .ok (.iconst 0, 1) := by decide +kernel
theorem dX1_complete_5 : decode cX1_complete 5 = .ok (.iload_n 1, 1) := by decide +kernel
theorem dX1_complete_6 : decode cX1_complete 6 = .ok (.bipush 7, 2) := by decide +kernel
theorem dX1_complete_8 : decode cX1_complete 8 = .ok (.irem, 1) := by decide +kernel
theorem dX1_complete_9 : decode cX1_complete 9 = .ok (.iastore, 1) := by decide +kernel
theorem dX1_complete_10 : decode cX1_complete 10 = .ok (.aload_n 0, 1) := by decide +kernel
theorem dX1_complete_11 : decode cX1_complete 11 = .ok (.getfield 32, 3) := by decide +kernel
theorem dX1_complete_14 : decode cX1_complete 14 = .ok (.iconst 1, 1) := by decide +kernel
theorem dX1_complete_15 : decode cX1_complete 15 = .ok (.iload_n 1, 1) := by decide +kernel
theorem dX1_complete_16 : decode cX1_complete 16 = .ok (.bipush 7, 2) := by decide +kernel
theorem dX1_complete_18 : decode cX1_complete 18 = .ok (.idiv, 1) := by decide +kernel
theorem dX1_complete_19 : decode cX1_complete 19 = .ok (.bipush 7, 2) := by decide +kernel
theorem dX1_complete_21 : decode cX1_complete 21 = .ok (.irem, 1) := by decide +kernel
theorem dX1_complete_22 : decode cX1_complete 22 = .ok (.iastore, 1) := by decide +kernel
theorem dX1_complete_23 : decode cX1_complete 23 = .ok (.aload_n 0, 1) := by decide +kernel
theorem dX1_complete_24 : decode cX1_complete 24 = .ok (.getfield 32, 3) := by decide +kernel
theorem dX1_complete_27 : decode cX1_complete 27 = .ok (.iconst 2, 1) := by decide +kernel
theorem dX1_complete_28 : decode cX1_complete 28 = .ok (.iload_n 1, 1) := by decide +kernel
theorem dX1_complete_29 : decode cX1_complete 29 = .ok (.bipush 49, 2) := by decide +kernel
theorem dX1_complete_31 : decode cX1_complete 31 = .ok (.idiv, 1) := by decide +kernel
theorem dX1_complete_32 : decode cX1_complete 32 = .ok (.iastore, 1) := by decide +kernel
theorem dX1_complete_33 : decode cX1_complete 33 = .ok (.iconst 0, 1) := by decide +kernel
theorem dX1_complete_34 : decode cX1_complete 34 = .ok (.istore_n 2, 1) := by decide +kernel
theorem dX1_complete_35 : decode cX1_complete 35 = .ok (.iload_n 2, 1) := by decide +kernel
theorem dX1_complete_36 : decode cX1_complete 36 = .ok (.bipush 49, 2) := by decide +kernel
theorem dX1_complete_38 : decode cX1_complete 38 = .ok (.if_icmp .ge 16, 3) := by decide +kernel
theorem dX1_complete_41 : decode cX1_complete 41 = .ok (.aload_n 0, 1) := by decide +kernel
theorem dX1_complete_42 : decode cX1_complete 42 = .ok (.getfield 38, 3) := by decide +kernel
theorem dX1_complete_45 : decode cX1_complete 45 = .ok (.iload_n 2, 1) := by decide +kernel
theorem dX1_complete_46 : decode cX1_complete 46 = .ok (.iconst 0, 1) := by decide +kernel
theorem dX1_complete_47 : decode cX1_complete 47 = .ok (.bastore, 1) := by decide +kernel
theorem dX1_complete_48 : decode cX1_complete 48 = .ok (.iinc 2 1, 3) := by decide +kernel
theorem dX1_complete_51 : decode cX1_complete 51 = .ok (.goto (-16), 3) := by decide +kernel
theorem dX1_complete_54 : decode cX1_complete 54 = .ok (.iconst 0, 1) := by decide +kernel
theorem dX1_complete_55 : decode cX1_complete 55 = .ok (.istore_n 2, 1) := by decide +kernel
theorem dX1_complete_56 : decode cX1_complete 56 = .ok (.iload_n 2, 1) := by decide +kernel
theorem dX1_complete_57 : decode cX1_complete 57 = .ok (.aload_n 0, 1) := by decide +kernel
theorem dX1_complete_58 : decode cX1_complete 58 = .ok (.getfield 16, 3) := by decide +kernel
theorem dX1_complete_61 : decode cX1_complete 61 = .ok (.if_icmp .ge 14, 3) := by decide +kernel
theorem dX1_complete_64 : decode cX1_complete 64 = .ok (.aload_n 0, 1) := by decide +kernel
theorem dX1_complete_65 : decode cX1_complete 65 = .ok (.iload_n 2, 1) := by decide +kernel
theorem dX1_complete_66 : decode cX1_complete 66 = .ok (.invokevirtual 72, 3) := by decide +kernel
theorem dX1_complete_69 : decode cX1_complete 69 = .ok (.iinc 2 1, 3) := by decide +kernel
theorem dX1_complete_72 : decode cX1_complete 72 = .ok (.goto (-16), 3) := by decide +kernel
theorem dX1_complete_75 : decode cX1_complete 75 = .ok (.iconst 0, 1) := by decide +kernel
theorem dX1_complete_76 : decode cX1_complete 76 = .ok (.istore_n 2, 1) := by decide +kernel
theorem dX1_complete_77 : decode cX1_complete 77 = .ok (.iconst 0, 1) := by decide +kernel
theorem dX1_complete_78 : decode cX1_complete 78 = .ok (.istore_n 3, 1) := by decide +kernel
theorem dX1_complete_79 : decode cX1_complete 79 = .ok (.iload_n 3, 1) := by decide +kernel
theorem dX1_complete_80 : decode cX1_complete 80 = .ok (.bipush 49, 2) := by decide +kernel
theorem dX1_complete_82 : decode cX1_complete 82 = .ok (.if_icmp .ge 37, 3) := by decide +kernel
theorem dX1_complete_85 : decode cX1_complete 85 = .ok (.aload_n 0, 1) := by decide +kernel
theorem dX1_complete_86 : decode cX1_complete 86 = .ok (.getfield 38, 3) := by decide +kernel
theorem dX1_complete_89 : decode cX1_complete 89 = .ok (.iload_n 3, 1) := by decide +kernel
theorem dX1_complete_90 : decode cX1_complete 90 = .ok (.baload, 1) := by decide +kernel
theorem dX1_complete_91 : decode cX1_complete 91 = .ok (.ifCond .eq 15, 3) := by decide +kernel
theorem dX1_complete_94 : decode cX1_complete 94 = .ok (.aload_n 0, 1) := by decide +kernel
theorem dX1_complete_95 : decode cX1_complete 95 = .ok (.getfield 45, 3) := by decide +kernel
theorem dX1_complete_98 : decode cX1_complete 98 = .ok (.iload_n 3, 1) := by decide +kernel
theorem dX1_complete_99 : decode cX1_complete 99 = .ok (.iconst 1, 1) := by decide +kernel
theorem dX1_complete_100 : decode cX1_complete 100 = .ok (.bastore, 1) := by decide +kernel
theorem dX1_complete_101 : decode cX1_complete 101 = .ok (.iconst 1, 1) := by decide +kernel
theorem dX1_complete_102 : decode cX1_complete 102 = .ok (.istore_n 2, 1) := by decide +kernel
theorem dX1_complete_103 : decode cX1_complete 103 = .ok (.goto 10, 3) := by decide +kernel
theorem dX1_complete_106 : decode cX1_complete 106 = .ok (.aload_n 0, 1) := by decide +kernel
theorem dX1_complete_107 : decode cX1_complete 107 = .ok (.getfield 42, 3) := by decide +kernel
theorem dX1_complete_110 : decode cX1_complete 110 = .ok (.iload_n 3, 1) := by decide +kernel
theorem dX1_complete_111 : decode cX1_complete 111 = .ok (.iconst 0, 1) := by decide +kernel
theorem dX1_complete_112 : decode cX1_complete 112 = .ok (.bastore, 1) := by decide +kernel
theorem dX1_complete_113 : decode cX1_complete 113 = .ok (.iinc 3 1, 3) := by decide +kernel
theorem dX1_complete_116 : decode cX1_complete 116 = .ok (.goto (-37), 3) := by decide +kernel
theorem dX1_complete_119 : decode cX1_complete 119 = .ok (.iload_n 2, 1) := by decide +kernel
theorem dX1_complete_120 : decode cX1_complete 120 = .ok (.ireturn, 1) := by decide +kernel
end
section
set_option maxRecDepth 100000
abbrev cX1_apply : ByteArray := prog_3_method_15_code
def yX1_apply : MethodName := ⟨RX1, "apply", "(I)V"⟩
theorem dX1_apply_0 : decode cX1_apply 0 = .ok (.iconst 0, 1) := by decide +kernel
theorem dX1_apply_1 : decode cX1_apply 1 = .ok (.istore_n 2, 1) := by decide +kernel
theorem dX1_apply_2 : decode cX1_apply 2 = .ok (.iload_n 2, 1) := by decide +kernel
theorem dX1_apply_3 : decode cX1_apply 3 = .ok (.bipush 125, 2) := by decide +kernel
theorem dX1_apply_5 : decode cX1_apply 5 = .ok (.if_icmp .ge 69, 3) := by decide +kernel
theorem dX1_apply_8 : decode cX1_apply 8 = .ok (.aload_n 0, 1) := by decide +kernel
theorem dX1_apply_9 : decode cX1_apply 9 = .ok (.iload_n 1, 1) := by decide +kernel
theorem dX1_apply_10 : decode cX1_apply 10 = .ok (.iload_n 2, 1) := by decide +kernel
theorem dX1_apply_11 : decode cX1_apply 11 = .ok (.invokevirtual 66, 3) := by decide +kernel
theorem dX1_apply_14 : decode cX1_apply 14 = .ok (.ifCond .eq 54, 3) := by decide +kernel
theorem dX1_apply_17 : decode cX1_apply 17 = .ok (.aload_n 0, 1) := by decide +kernel
theorem dX1_apply_18 : decode cX1_apply 18 = .ok (.aload_n 0, 1) := by decide +kernel
theorem dX1_apply_19 : decode cX1_apply 19 = .ok (.getfield 20, 3) := by decide +kernel
theorem dX1_apply_22 : decode cX1_apply 22 = .ok (.iconst 2, 1) := by decide +kernel
theorem dX1_apply_23 : decode cX1_apply 23 = .ok (.iload_n 1, 1) := by decide +kernel
theorem dX1_apply_24 : decode cX1_apply 24 = .ok (.imul, 1) := by decide +kernel
theorem dX1_apply_25 : decode cX1_apply 25 = .ok (.iaload, 1) := by decide +kernel
theorem dX1_apply_26 : decode cX1_apply 26 = .ok (.invokevirtual 69, 3) := by decide +kernel
theorem dX1_apply_29 : decode cX1_apply 29 = .ok (.istore_n 3, 1) := by decide +kernel
theorem dX1_apply_30 : decode cX1_apply 30 = .ok (.aload_n 0, 1) := by decide +kernel
theorem dX1_apply_31 : decode cX1_apply 31 = .ok (.aload_n 0, 1) := by decide +kernel
theorem dX1_apply_32 : decode cX1_apply 32 = .ok (.getfield 20, 3) := by decide +kernel
theorem dX1_apply_35 : decode cX1_apply 35 = .ok (.iconst 2, 1) := by decide +kernel
theorem dX1_apply_36 : decode cX1_apply 36 = .ok (.iload_n 1, 1) := by decide +kernel
theorem dX1_apply_37 : decode cX1_apply 37 = .ok (.imul, 1) := by decide +kernel
theorem dX1_apply_38 : decode cX1_apply 38 = .ok (.iconst 1, 1) := by decide +kernel
theorem dX1_apply_39 : decode cX1_apply 39 = .ok (.iadd, 1) := by decide +kernel
theorem dX1_apply_40 : decode cX1_apply 40 = .ok (.iaload, 1) := by decide +kernel
theorem dX1_apply_41 : decode cX1_apply 41 = .ok (.invokevirtual 69, 3) := by decide +kernel
theorem dX1_apply_44 : decode cX1_apply 44 = .ok (.istore 4, 2) := by decide +kernel
theorem dX1_apply_46 : decode cX1_apply 46 = .ok (.iload_n 3, 1) := by decide +kernel
theorem dX1_apply_47 : decode cX1_apply 47 = .ok (.ifCond .lt 21, 3) := by decide +kernel
theorem dX1_apply_50 : decode cX1_apply 50 = .ok (.iload 4, 2) := by decide +kernel
theorem dX1_apply_52 : decode cX1_apply 52 = .ok (.ifCond .lt 16, 3) := by decide +kernel
theorem dX1_apply_55 : decode cX1_apply 55 = .ok (.aload_n 0, 1) := by decide +kernel
theorem dX1_apply_56 : decode cX1_apply 56 = .ok (.getfield 38, 3) := by decide +kernel
theorem dX1_apply_59 : decode cX1_apply 59 = .ok (.bipush 7, 2) := by decide +kernel
theorem dX1_apply_61 : decode cX1_apply 61 = .ok (.iload_n 3, 1) := by decide +kernel
theorem dX1_apply_62 : decode cX1_apply 62 = .ok (.imul, 1) := by decide +kernel
theorem dX1_apply_63 : decode cX1_apply 63 = .ok (.iload 4, 2) := by decide +kernel
theorem dX1_apply_65 : decode cX1_apply 65 = .ok (.iadd, 1) := by decide +kernel
theorem dX1_apply_66 : decode cX1_apply 66 = .ok (.iconst 1, 1) := by decide +kernel
theorem dX1_apply_67 : decode cX1_apply 67 = .ok (.bastore, 1) := by decide +kernel
theorem dX1_apply_68 : decode cX1_apply 68 = .ok (.iinc 2 1, 3) := by decide +kernel
theorem dX1_apply_71 : decode cX1_apply 71 = .ok (.goto (-69), 3) := by decide +kernel
theorem dX1_apply_74 : decode cX1_apply 74 = .ok (.return_, 1) := by decide +kernel
abbrev cX1_fits : ByteArray := prog_3_method_13_code
def yX1_fits : MethodName := ⟨RX1, "fits", "(II)Z"⟩
theorem dX1_fits_0 : decode cX1_fits 0 = .ok (.iload_n 2, 1) := by decide +kernel
theorem dX1_fits_1 : decode cX1_fits 1 = .ok (.istore_n 3, 1) := by decide +kernel
theorem dX1_fits_2 : decode cX1_fits 2 = .ok (.iconst 0, 1) := by decide +kernel
theorem dX1_fits_3 : decode cX1_fits 3 = .ok (.istore 4, 2) := by decide +kernel
theorem dX1_fits_5 : decode cX1_fits 5 = .ok (.iload 4, 2) := by decide +kernel
theorem dX1_fits_7 : decode cX1_fits 7 = .ok (.iconst 4, 1) := by decide +kernel
theorem dX1_fits_8 : decode cX1_fits 8 = .ok (.if_icmp .ge 17, 3) := by decide +kernel
theorem dX1_fits_11 : decode cX1_fits 11 = .ok (.aload_n 0, 1) := by decide +kernel
theorem dX1_fits_12 : decode cX1_fits 12 = .ok (.getfield 35, 3) := by decide +kernel
theorem dX1_fits_15 : decode cX1_fits 15 = .ok (.iload 4, 2) := by decide +kernel
theorem dX1_fits_17 : decode cX1_fits 17 = .ok (.iconst (-1), 1) := by decide +kernel
theorem dX1_fits_18 : decode cX1_fits 18 = .ok (.iastore, 1) := by decide +kernel
theorem dX1_fits_19 : decode cX1_fits 19 = .ok (.iinc 4 1, 3) := by decide +kernel
theorem dX1_fits_22 : decode cX1_fits 22 = .ok (.goto (-17), 3) := by decide +kernel
theorem dX1_fits_25 : decode cX1_fits 25 = .ok (.iconst 0, 1) := by decide +kernel
theorem dX1_fits_26 : decode cX1_fits 26 = .ok (.istore 4, 2) := by decide +kernel
theorem dX1_fits_28 : decode cX1_fits 28 = .ok (.iload 4, 2) := by decide +kernel
theorem dX1_fits_30 : decode cX1_fits 30 = .ok (.aload_n 0, 1) := by decide +kernel
theorem dX1_fits_31 : decode cX1_fits 31 = .ok (.getfield 23, 3) := by decide +kernel
theorem dX1_fits_34 : decode cX1_fits 34 = .ok (.iload_n 1, 1) := by decide +kernel
theorem dX1_fits_35 : decode cX1_fits 35 = .ok (.iaload, 1) := by decide +kernel
theorem dX1_fits_36 : decode cX1_fits 36 = .ok (.if_icmp .ge 120, 3) := by decide +kernel
theorem dX1_fits_39 : decode cX1_fits 39 = .ok (.iconst 3, 1) := by decide +kernel
theorem dX1_fits_40 : decode cX1_fits 40 = .ok (.iload_n 1, 1) := by decide +kernel
theorem dX1_fits_41 : decode cX1_fits 41 = .ok (.imul, 1) := by decide +kernel
theorem dX1_fits_42 : decode cX1_fits 42 = .ok (.iload 4, 2) := by decide +kernel
theorem dX1_fits_44 : decode cX1_fits 44 = .ok (.iadd, 1) := by decide +kernel
theorem dX1_fits_45 : decode cX1_fits 45 = .ok (.istore 5, 2) := by decide +kernel
theorem dX1_fits_47 : decode cX1_fits 47 = .ok (.iload_n 3, 1) := by decide +kernel
theorem dX1_fits_48 : decode cX1_fits 48 = .ok (.iconst 5, 1) := by decide +kernel
theorem dX1_fits_49 : decode cX1_fits 49 = .ok (.irem, 1) := by decide +kernel
theorem dX1_fits_50 : decode cX1_fits 50 = .ok (.istore 6, 2) := by decide +kernel
theorem dX1_fits_52 : decode cX1_fits 52 = .ok (.iload_n 3, 1) := by decide +kernel
theorem dX1_fits_53 : decode cX1_fits 53 = .ok (.iconst 5, 1) := by decide +kernel
theorem dX1_fits_54 : decode cX1_fits 54 = .ok (.idiv, 1) := by decide +kernel
theorem dX1_fits_55 : decode cX1_fits 55 = .ok (.istore_n 3, 1) := by decide +kernel
theorem dX1_fits_56 : decode cX1_fits 56 = .ok (.bipush 10, 2) := by decide +kernel
theorem dX1_fits_58 : decode cX1_fits 58 = .ok (.aload_n 0, 1) := by decide +kernel
theorem dX1_fits_59 : decode cX1_fits 59 = .ok (.getfield 26, 3) := by decide +kernel
theorem dX1_fits_62 : decode cX1_fits 62 = .ok (.iload 5, 2) := by decide +kernel
theorem dX1_fits_64 : decode cX1_fits 64 = .ok (.iaload, 1) := by decide +kernel
theorem dX1_fits_65 : decode cX1_fits 65 = .ok (.imul, 1) := by decide +kernel
theorem dX1_fits_66 : decode cX1_fits 66 = .ok (.iconst 2, 1) := by decide +kernel
theorem dX1_fits_67 : decode cX1_fits 67 = .ok (.iload 6, 2) := by decide +kernel
theorem dX1_fits_69 : decode cX1_fits 69 = .ok (.imul, 1) := by decide +kernel
theorem dX1_fits_70 : decode cX1_fits 70 = .ok (.iadd, 1) := by decide +kernel
theorem dX1_fits_71 : decode cX1_fits 71 = .ok (.istore 7, 2) := by decide +kernel
theorem dX1_fits_73 : decode cX1_fits 73 = .ok (.iload 6, 2) := by decide +kernel
theorem dX1_fits_75 : decode cX1_fits 75 = .ok (.aload_n 0, 1) := by decide +kernel
theorem dX1_fits_76 : decode cX1_fits 76 = .ok (.getfield 7, 3) := by decide +kernel
theorem dX1_fits_79 : decode cX1_fits 79 = .ok (.aload_n 0, 1) := by decide +kernel
theorem dX1_fits_80 : decode cX1_fits 80 = .ok (.getfield 26, 3) := by decide +kernel
theorem dX1_fits_83 : decode cX1_fits 83 = .ok (.iload 5, 2) := by decide +kernel
theorem dX1_fits_85 : decode cX1_fits 85 = .ok (.iaload, 1) := by decide +kernel
theorem dX1_fits_86 : decode cX1_fits 86 = .ok (.iaload, 1) := by decide +kernel
theorem dX1_fits_87 : decode cX1_fits 87 = .ok (.if_icmp .lt 5, 3) := by decide +kernel
theorem dX1_fits_90 : decode cX1_fits 90 = .ok (.iconst 0, 1) := by decide +kernel
theorem dX1_fits_91 : decode cX1_fits 91 = .ok (.ireturn, 1) := by decide +kernel
theorem dX1_fits_92 : decode cX1_fits 92 = .ok (.aload_n 0, 1) := by decide +kernel
theorem dX1_fits_93 : decode cX1_fits 93 = .ok (.iload 7, 2) := by decide +kernel
theorem dX1_fits_95 : decode cX1_fits 95 = .ok (.invokevirtual 58, 3) := by decide +kernel
theorem dX1_fits_98 : decode cX1_fits 98 = .ok (.istore 8, 2) := by decide +kernel
theorem dX1_fits_100 : decode cX1_fits 100 = .ok (.aload_n 0, 1) := by decide +kernel
theorem dX1_fits_101 : decode cX1_fits 101 = .ok (.iload 7, 2) := by decide +kernel
theorem dX1_fits_103 : decode cX1_fits 103 = .ok (.iconst 1, 1) := by decide +kernel
theorem dX1_fits_104 : decode cX1_fits 104 = .ok (.iadd, 1) := by decide +kernel
theorem dX1_fits_105 : decode cX1_fits 105 = .ok (.invokevirtual 58, 3) := by decide +kernel
theorem dX1_fits_108 : decode cX1_fits 108 = .ok (.istore 9, 2) := by decide +kernel
theorem dX1_fits_110 : decode cX1_fits 110 = .ok (.aload_n 0, 1) := by decide +kernel
theorem dX1_fits_111 : decode cX1_fits 111 = .ok (.aload_n 0, 1) := by decide +kernel
theorem dX1_fits_112 : decode cX1_fits 112 = .ok (.getfield 29, 3) := by decide +kernel
theorem dX1_fits_115 : decode cX1_fits 115 = .ok (.iconst 2, 1) := by decide +kernel
theorem dX1_fits_116 : decode cX1_fits 116 = .ok (.iload 5, 2) := by decide +kernel
theorem dX1_fits_118 : decode cX1_fits 118 = .ok (.imul, 1) := by decide +kernel
theorem dX1_fits_119 : decode cX1_fits 119 = .ok (.iaload, 1) := by decide +kernel
theorem dX1_fits_120 : decode cX1_fits 120 = .ok (.iload 8, 2) := by decide +kernel
theorem dX1_fits_122 : decode cX1_fits 122 = .ok (.invokevirtual 62, 3) := by decide +kernel
theorem dX1_fits_125 : decode cX1_fits 125 = .ok (.ifCond .eq 23, 3) := by decide +kernel
theorem dX1_fits_128 : decode cX1_fits 128 = .ok (.aload_n 0, 1) := by decide +kernel
theorem dX1_fits_129 : decode cX1_fits 129 = .ok (.aload_n 0, 1) := by decide +kernel
theorem dX1_fits_130 : decode cX1_fits 130 = .ok (.getfield 29, 3) := by decide +kernel
theorem dX1_fits_133 : decode cX1_fits 133 = .ok (.iconst 2, 1) := by decide +kernel
theorem dX1_fits_134 : decode cX1_fits 134 = .ok (.iload 5, 2) := by decide +kernel
theorem dX1_fits_136 : decode cX1_fits 136 = .ok (.imul, 1) := by decide +kernel
theorem dX1_fits_137 : decode cX1_fits 137 = .ok (.iconst 1, 1) := by decide +kernel
theorem dX1_fits_138 : decode cX1_fits 138 = .ok (.iadd, 1) := by decide +kernel
theorem dX1_fits_139 : decode cX1_fits 139 = .ok (.iaload, 1) := by decide +kernel
theorem dX1_fits_140 : decode cX1_fits 140 = .ok (.iload 9, 2) := by decide +kernel
theorem dX1_fits_142 : decode cX1_fits 142 = .ok (.invokevirtual 62, 3) := by decide +kernel
theorem dX1_fits_145 : decode cX1_fits 145 = .ok (.ifCond .ne 5, 3) := by decide +kernel
theorem dX1_fits_148 : decode cX1_fits 148 = .ok (.iconst 0, 1) := by decide +kernel
theorem dX1_fits_149 : decode cX1_fits 149 = .ok (.ireturn, 1) := by decide +kernel
theorem dX1_fits_150 : decode cX1_fits 150 = .ok (.iinc 4 1, 3) := by decide +kernel
theorem dX1_fits_153 : decode cX1_fits 153 = .ok (.goto (-125), 3) := by decide +kernel
theorem dX1_fits_156 : decode cX1_fits 156 = .ok (.iload_n 3, 1) := by decide +kernel
theorem dX1_fits_157 : decode cX1_fits 157 = .ok (.ifCond .ne 7, 3) := by decide +kernel
theorem dX1_fits_160 : decode cX1_fits 160 = .ok (.iconst 1, 1) := by decide +kernel
theorem dX1_fits_161 : decode cX1_fits 161 = .ok (.goto 4, 3) := by decide +kernel
theorem dX1_fits_164 : decode cX1_fits 164 = .ok (.iconst 0, 1) := by decide +kernel
theorem dX1_fits_165 : decode cX1_fits 165 = .ok (.ireturn, 1) := by decide +kernel
abbrev cX1_constantAt : ByteArray := prog_3_method_11_code
def yX1_constantAt : MethodName := ⟨RX1, "constantAt", "(I)I"⟩
theorem dX1_constantAt_0 : decode cX1_constantAt 0 = .ok (.aload_n 0, 1) := by decide +kernel
theorem dX1_constantAt_1 : decode cX1_constantAt 1 = .ok (.getfield 13, 3) := by decide +kernel
theorem dX1_constantAt_4 : decode cX1_constantAt 4 = .ok (.iload_n 1, 1) := by decide +kernel
theorem dX1_constantAt_5 : decode cX1_constantAt 5 = .ok (.iaload, 1) := by decide +kernel
theorem dX1_constantAt_6 : decode cX1_constantAt 6 = .ok (.bipush 10, 2) := by decide +kernel
theorem dX1_constantAt_8 : decode cX1_constantAt 8 = .ok (.if_icmp .lt 20, 3) := by decide +kernel
theorem dX1_constantAt_11 : decode cX1_constantAt 11 = .ok (.aload_n 0, 1) := by decide +kernel
theorem dX1_constantAt_12 : decode cX1_constantAt 12 = .ok (.getfield 32, 3) := by decide +kernel
theorem dX1_constantAt_15 : decode cX1_constantAt 15 = .ok (.aload_n 0, 1) := by decide +kernel
theorem dX1_constantAt_16 : decode cX1_constantAt 16 = .ok (.getfield 13, 3) := by decide +kernel
theorem dX1_constantAt_19 : decode cX1_constantAt 19 = .ok (.iload_n 1, 1) := by decide +kernel
theorem dX1_constantAt_20 : decode cX1_constantAt 20 = .ok (.iaload, 1) := by decide +kernel
theorem dX1_constantAt_21 : decode cX1_constantAt 21 = .ok (.bipush 10, 2) := by decide +kernel
theorem dX1_constantAt_23 : decode cX1_constantAt 23 = .ok (.isub, 1) := by decide +kernel
theorem dX1_constantAt_24 : decode cX1_constantAt 24 = .ok (.iaload, 1) := by decide +kernel
theorem dX1_constantAt_25 : decode cX1_constantAt 25 = .ok (.goto 9, 3) := by decide +kernel
theorem dX1_constantAt_28 : decode cX1_constantAt 28 = .ok (.aload_n 0, 1) := by decide +kernel
theorem dX1_constantAt_29 : decode cX1_constantAt 29 = .ok (.getfield 13, 3) := by decide +kernel
theorem dX1_constantAt_32 : decode cX1_constantAt 32 = .ok (.iload_n 1, 1) := by decide +kernel
theorem dX1_constantAt_33 : decode cX1_constantAt 33 = .ok (.iaload, 1) := by decide +kernel
theorem dX1_constantAt_34 : decode cX1_constantAt 34 = .ok (.ireturn, 1) := by decide +kernel
abbrev cX1_fit : ByteArray := prog_3_method_12_code
def yX1_fit : MethodName := ⟨RX1, "fit", "(II)Z"⟩
theorem dX1_fit_0 : decode cX1_fit 0 = .ok (.iload_n 1, 1) := by decide +kernel
theorem dX1_fit_1 : decode cX1_fit 1 = .ok (.bipush 20, 2) := by decide +kernel
theorem dX1_fit_3 : decode cX1_fit 3 = .ok (.if_icmp .ge 14, 3) := by decide +kernel
theorem dX1_fit_6 : decode cX1_fit 6 = .ok (.iload_n 1, 1) := by decide +kernel
theorem dX1_fit_7 : decode cX1_fit 7 = .ok (.iload_n 2, 1) := by decide +kernel
theorem dX1_fit_8 : decode cX1_fit 8 = .ok (.if_icmp .ne 7, 3) := by decide +kernel
theorem dX1_fit_11 : decode cX1_fit 11 = .ok (.iconst 1, 1) := by decide +kernel
theorem dX1_fit_12 : decode cX1_fit 12 = .ok (.goto 4, 3) := by decide +kernel
theorem dX1_fit_15 : decode cX1_fit 15 = .ok (.iconst 0, 1) := by decide +kernel
theorem dX1_fit_16 : decode cX1_fit 16 = .ok (.ireturn, 1) := by decide +kernel
theorem dX1_fit_17 : decode cX1_fit 17 = .ok (.aload_n 0, 1) := by decide +kernel
theorem dX1_fit_18 : decode cX1_fit 18 = .ok (.getfield 35, 3) := by decide +kernel
theorem dX1_fit_21 : decode cX1_fit 21 = .ok (.iload_n 1, 1) := by decide +kernel
theorem dX1_fit_22 : decode cX1_fit 22 = .ok (.bipush 20, 2) := by decide +kernel
theorem dX1_fit_24 : decode cX1_fit 24 = .ok (.isub, 1) := by decide +kernel
theorem dX1_fit_25 : decode cX1_fit 25 = .ok (.iaload, 1) := by decide +kernel
theorem dX1_fit_26 : decode cX1_fit 26 = .ok (.ifCond .ge 13, 3) := by decide +kernel
theorem dX1_fit_29 : decode cX1_fit 29 = .ok (.aload_n 0, 1) := by decide +kernel
theorem dX1_fit_30 : decode cX1_fit 30 = .ok (.getfield 35, 3) := by decide +kernel
theorem dX1_fit_33 : decode cX1_fit 33 = .ok (.iload_n 1, 1) := by decide +kernel
theorem dX1_fit_34 : decode cX1_fit 34 = .ok (.bipush 20, 2) := by decide +kernel
theorem dX1_fit_36 : decode cX1_fit 36 = .ok (.isub, 1) := by decide +kernel
theorem dX1_fit_37 : decode cX1_fit 37 = .ok (.iload_n 2, 1) := by decide +kernel
theorem dX1_fit_38 : decode cX1_fit 38 = .ok (.iastore, 1) := by decide +kernel
theorem dX1_fit_39 : decode cX1_fit 39 = .ok (.aload_n 0, 1) := by decide +kernel
theorem dX1_fit_40 : decode cX1_fit 40 = .ok (.getfield 35, 3) := by decide +kernel
theorem dX1_fit_43 : decode cX1_fit 43 = .ok (.iload_n 1, 1) := by decide +kernel
theorem dX1_fit_44 : decode cX1_fit 44 = .ok (.bipush 20, 2) := by decide +kernel
theorem dX1_fit_46 : decode cX1_fit 46 = .ok (.isub, 1) := by decide +kernel
theorem dX1_fit_47 : decode cX1_fit 47 = .ok (.iaload, 1) := by decide +kernel
theorem dX1_fit_48 : decode cX1_fit 48 = .ok (.iload_n 2, 1) := by decide +kernel
theorem dX1_fit_49 : decode cX1_fit 49 = .ok (.if_icmp .ne 7, 3) := by decide +kernel
theorem dX1_fit_52 : decode cX1_fit 52 = .ok (.iconst 1, 1) := by decide +kernel
theorem dX1_fit_53 : decode cX1_fit 53 = .ok (.goto 4, 3) := by decide +kernel
theorem dX1_fit_56 : decode cX1_fit 56 = .ok (.iconst 0, 1) := by decide +kernel
theorem dX1_fit_57 : decode cX1_fit 57 = .ok (.ireturn, 1) := by decide +kernel
abbrev cX1_headOf : ByteArray := prog_3_method_14_code
def yX1_headOf : MethodName := ⟨RX1, "headOf", "(I)I"⟩
theorem dX1_headOf_0 : decode cX1_headOf 0 = .ok (.iload_n 1, 1) := by decide +kernel
theorem dX1_headOf_1 : decode cX1_headOf 1 = .ok (.bipush 20, 2) := by decide +kernel
theorem dX1_headOf_3 : decode cX1_headOf 3 = .ok (.if_icmp .ge 7, 3) := by decide +kernel
theorem dX1_headOf_6 : decode cX1_headOf 6 = .ok (.iload_n 1, 1) := by decide +kernel
theorem dX1_headOf_7 : decode cX1_headOf 7 = .ok (.goto 12, 3) := by decide +kernel
theorem dX1_headOf_10 : decode cX1_headOf 10 = .ok (.aload_n 0, 1) := by decide +kernel
theorem dX1_headOf_11 : decode cX1_headOf 11 = .ok (.getfield 35, 3) := by decide +kernel
theorem dX1_headOf_14 : decode cX1_headOf 14 = .ok (.iload_n 1, 1) := by decide +kernel
theorem dX1_headOf_15 : decode cX1_headOf 15 = .ok (.bipush 20, 2) := by decide +kernel
theorem dX1_headOf_17 : decode cX1_headOf 17 = .ok (.isub, 1) := by decide +kernel
theorem dX1_headOf_18 : decode cX1_headOf 18 = .ok (.iaload, 1) := by decide +kernel
theorem dX1_headOf_19 : decode cX1_headOf 19 = .ok (.ireturn, 1) := by decide +kernel
abbrev cX1_possible : ByteArray := prog_3_method_20_code
def yX1_possible : MethodName := ⟨RX1, "possible", "(II)Z"⟩
theorem dX1_possible_0 : decode cX1_possible 0 = .ok (.aload_n 0, 1) := by decide +kernel
theorem dX1_possible_1 : decode cX1_possible 1 = .ok (.iload_n 1, 1) := by decide +kernel
theorem dX1_possible_2 : decode cX1_possible 2 = .ok (.iload_n 2, 1) := by decide +kernel
theorem dX1_possible_3 : decode cX1_possible 3 = .ok (.invokevirtual 83, 3) := by decide +kernel
theorem dX1_possible_6 : decode cX1_possible 6 = .ok (.ifCond .ne 5, 3) := by decide +kernel
theorem dX1_possible_9 : decode cX1_possible 9 = .ok (.iconst 0, 1) := by decide +kernel
theorem dX1_possible_10 : decode cX1_possible 10 = .ok (.ireturn, 1) := by decide +kernel
theorem dX1_possible_11 : decode cX1_possible 11 = .ok (.aload_n 0, 1) := by decide +kernel
theorem dX1_possible_12 : decode cX1_possible 12 = .ok (.invokevirtual 86, 3) := by decide +kernel
theorem dX1_possible_15 : decode cX1_possible 15 = .ok (.aload_n 0, 1) := by decide +kernel
theorem dX1_possible_16 : decode cX1_possible 16 = .ok (.getfield 45, 3) := by decide +kernel
theorem dX1_possible_19 : decode cX1_possible 19 = .ok (.bipush 7, 2) := by decide +kernel
theorem dX1_possible_21 : decode cX1_possible 21 = .ok (.iload_n 1, 1) := by decide +kernel
theorem dX1_possible_22 : decode cX1_possible 22 = .ok (.imul, 1) := by decide +kernel
theorem dX1_possible_23 : decode cX1_possible 23 = .ok (.iload_n 2, 1) := by decide +kernel
theorem dX1_possible_24 : decode cX1_possible 24 = .ok (.iadd, 1) := by decide +kernel
theorem dX1_possible_25 : decode cX1_possible 25 = .ok (.baload, 1) := by decide +kernel
theorem dX1_possible_26 : decode cX1_possible 26 = .ok (.ireturn, 1) := by decide +kernel
abbrev cX1_certainCount : ByteArray := prog_3_method_21_code
def yX1_certainCount : MethodName := ⟨RX1, "certainCount", "()I"⟩
theorem dX1_certainCount_0 : decode cX1_certainCount 0 = .ok (.aload_n 0, 1) := by decide +kernel
theorem dX1_certainCount_1 : decode cX1_certainCount 1 = .ok (.invokevirtual 86, 3) := by decide +kernel
theorem dX1_certainCount_4 : decode cX1_certainCount 4 = .ok (.iconst 0, 1) := by decide +kernel
theorem dX1_certainCount_5 : decode cX1_certainCount 5 = .ok (.istore_n 1, 1) := by decide +kernel
theorem dX1_certainCount_6 : decode cX1_certainCount 6 = .ok (.iconst 0, 1) := by decide +kernel
theorem dX1_certainCount_7 : decode cX1_certainCount 7 = .ok (.istore_n 2, 1) := by decide +kernel
theorem dX1_certainCount_8 : decode cX1_certainCount 8 = .ok (.iload_n 2, 1) := by decide +kernel
theorem dX1_certainCount_9 : decode cX1_certainCount 9 = .ok (.bipush 49, 2) := by decide +kernel
theorem dX1_certainCount_11 : decode cX1_certainCount 11 = .ok (.if_icmp .ge 21, 3) := by decide +kernel
theorem dX1_certainCount_14 : decode cX1_certainCount 14 = .ok (.aload_n 0, 1) := by decide +kernel
theorem dX1_certainCount_15 : decode cX1_certainCount 15 = .ok (.getfield 42, 3) := by decide +kernel
theorem dX1_certainCount_18 : decode cX1_certainCount 18 = .ok (.iload_n 2, 1) := by decide +kernel
theorem dX1_certainCount_19 : decode cX1_certainCount 19 = .ok (.baload, 1) := by decide +kernel
theorem dX1_certainCount_20 : decode cX1_certainCount 20 = .ok (.ifCond .eq 6, 3) := by decide +kernel
theorem dX1_certainCount_23 : decode cX1_certainCount 23 = .ok (.iinc 1 1, 3) := by decide +kernel
theorem dX1_certainCount_26 : decode cX1_certainCount 26 = .ok (.iinc 2 1, 3) := by decide +kernel
theorem dX1_certainCount_29 : decode cX1_certainCount 29 = .ok (.goto (-21), 3) := by decide +kernel
theorem dX1_certainCount_32 : decode cX1_certainCount 32 = .ok (.iload_n 1, 1) := by decide +kernel
theorem dX1_certainCount_33 : decode cX1_certainCount 33 = .ok (.ireturn, 1) := by decide +kernel
abbrev cX1_alwaysSome : ByteArray := prog_3_method_22_code
def yX1_alwaysSome : MethodName := ⟨RX1, "alwaysSome", "()Z"⟩
theorem dX1_alwaysSome_0 : decode cX1_alwaysSome 0 = .ok (.aload_n 0, 1) := by decide +kernel
theorem dX1_alwaysSome_1 : decode cX1_alwaysSome 1 = .ok (.invokevirtual 86, 3) := by decide +kernel
theorem dX1_alwaysSome_4 : decode cX1_alwaysSome 4 = .ok (.aload_n 0, 1) := by decide +kernel
theorem dX1_alwaysSome_5 : decode cX1_alwaysSome 5 = .ok (.getfield 76, 3) := by decide +kernel
theorem dX1_alwaysSome_8 : decode cX1_alwaysSome 8 = .ok (.ireturn, 1) := by decide +kernel
theorem q25 : (Jvm.Cond.initialized "NaiveNullsModel") ∈ lw_all := lw_g (lw_at lw_m1 2 rfl) rfl
theorem q185 : (Jvm.Cond.instantiable "NaiveNullsModel" (13 : Nat)) ∈ lw_all := lw_g (lw_at lw_m1 162 rfl) rfl
theorem q187 : (Jvm.Cond.instanceMethod ({ cls := "NaiveNullsModel", name := "<init>", desc := "()V" } : Jvm.MethodName)) ∈ lw_all := lw_g (lw_at lw_m1 164 rfl) rfl
theorem q188 : (Jvm.Cond.code ({ cls := "NaiveNullsModel", name := "<init>", desc := "()V" } : Jvm.MethodName) prog_3_method_1_code (1 : Nat) (Option.none : Option Jvm.ClassFile.FieldType)) ∈ lw_all := lw_g (lw_at lw_m1 165 rfl) rfl
theorem q189 : (Jvm.Cond.methodLink "NaiveNullsModel" (1 : Nat) ({ cls := "java/lang/Object", name := "<init>", desc := "()V" } : Jvm.MethodName)) ∈ lw_all := lw_g (lw_at lw_m1 166 rfl) rfl
theorem q190 : (Jvm.Cond.fieldLink "NaiveNullsModel" (7 : Nat) "NaiveNullsModel" "rows" "[I") ∈ lw_all := lw_g (lw_at lw_m1 167 rfl) rfl
theorem q191 : (Jvm.Cond.fieldLink "NaiveNullsModel" (13 : Nat) "NaiveNullsModel" "value" "[I") ∈ lw_all := lw_g (lw_at lw_m1 168 rfl) rfl
theorem q192 : (Jvm.Cond.fieldLink "NaiveNullsModel" (16 : Nat) "NaiveNullsModel" "rules" "I") ∈ lw_all := lw_g (lw_at lw_m1 169 rfl) rfl
theorem q193 : (Jvm.Cond.fieldLink "NaiveNullsModel" (20 : Nat) "NaiveNullsModel" "head" "[I") ∈ lw_all := lw_g (lw_at lw_m1 170 rfl) rfl
theorem q194 : (Jvm.Cond.fieldLink "NaiveNullsModel" (23 : Nat) "NaiveNullsModel" "atoms" "[I") ∈ lw_all := lw_g (lw_at lw_m1 171 rfl) rfl
theorem q195 : (Jvm.Cond.fieldLink "NaiveNullsModel" (26 : Nat) "NaiveNullsModel" "table" "[I") ∈ lw_all := lw_g (lw_at lw_m1 172 rfl) rfl
theorem q196 : (Jvm.Cond.fieldLink "NaiveNullsModel" (29 : Nat) "NaiveNullsModel" "term" "[I") ∈ lw_all := lw_g (lw_at lw_m1 173 rfl) rfl
theorem q197 : (Jvm.Cond.fieldLink "NaiveNullsModel" (32 : Nat) "NaiveNullsModel" "known" "[I") ∈ lw_all := lw_g (lw_at lw_m1 174 rfl) rfl
theorem q198 : (Jvm.Cond.fieldLink "NaiveNullsModel" (35 : Nat) "NaiveNullsModel" "bound" "[I") ∈ lw_all := lw_g (lw_at lw_m1 175 rfl) rfl
theorem q199 : (Jvm.Cond.fieldLink "NaiveNullsModel" (38 : Nat) "NaiveNullsModel" "here" "[Z") ∈ lw_all := lw_g (lw_at lw_m1 176 rfl) rfl
theorem q200 : (Jvm.Cond.fieldLink "NaiveNullsModel" (42 : Nat) "NaiveNullsModel" "always" "[Z") ∈ lw_all := lw_g (lw_at lw_m1 177 rfl) rfl
theorem q201 : (Jvm.Cond.fieldLink "NaiveNullsModel" (45 : Nat) "NaiveNullsModel" "once" "[Z") ∈ lw_all := lw_g (lw_at lw_m1 178 rfl) rfl
theorem q202 : (Jvm.Cond.fieldLink "NaiveNullsModel" (76 : Nat) "NaiveNullsModel" "some" "Z") ∈ lw_all := lw_g (lw_at lw_m1 179 rfl) rfl
theorem q203 : (Jvm.Cond.lays "NaiveNullsModel" "NaiveNullsModel" "rows" "[I") ∈ lw_all := lw_g (lw_at lw_m1 180 rfl) rfl
theorem q204 : (Jvm.Cond.soleField "NaiveNullsModel" "rows") ∈ lw_all := lw_g (lw_at lw_m1 181 rfl) rfl
theorem q205 : (Jvm.Cond.lays "NaiveNullsModel" "NaiveNullsModel" "value" "[I") ∈ lw_all := lw_g (lw_at lw_m1 182 rfl) rfl
theorem q206 : (Jvm.Cond.soleField "NaiveNullsModel" "value") ∈ lw_all := lw_g (lw_at lw_m1 183 rfl) rfl
theorem q207 : (Jvm.Cond.lays "NaiveNullsModel" "NaiveNullsModel" "rules" "I") ∈ lw_all := lw_g (lw_at lw_m1 184 rfl) rfl
theorem q208 : (Jvm.Cond.soleField "NaiveNullsModel" "rules") ∈ lw_all := lw_g (lw_at lw_m1 185 rfl) rfl
theorem q209 : (Jvm.Cond.lays "NaiveNullsModel" "NaiveNullsModel" "head" "[I") ∈ lw_all := lw_g (lw_at lw_m1 186 rfl) rfl
theorem q210 : (Jvm.Cond.soleField "NaiveNullsModel" "head") ∈ lw_all := lw_g (lw_at lw_m1 187 rfl) rfl
theorem q211 : (Jvm.Cond.lays "NaiveNullsModel" "NaiveNullsModel" "atoms" "[I") ∈ lw_all := lw_g (lw_at lw_m1 188 rfl) rfl
theorem q212 : (Jvm.Cond.soleField "NaiveNullsModel" "atoms") ∈ lw_all := lw_g (lw_at lw_m1 189 rfl) rfl
theorem q213 : (Jvm.Cond.lays "NaiveNullsModel" "NaiveNullsModel" "table" "[I") ∈ lw_all := lw_g (lw_at lw_m1 190 rfl) rfl
theorem q214 : (Jvm.Cond.soleField "NaiveNullsModel" "table") ∈ lw_all := lw_g (lw_at lw_m1 191 rfl) rfl
theorem q215 : (Jvm.Cond.lays "NaiveNullsModel" "NaiveNullsModel" "term" "[I") ∈ lw_all := lw_g (lw_at lw_m1 192 rfl) rfl
theorem q216 : (Jvm.Cond.soleField "NaiveNullsModel" "term") ∈ lw_all := lw_g (lw_at lw_m1 193 rfl) rfl
theorem q217 : (Jvm.Cond.lays "NaiveNullsModel" "NaiveNullsModel" "known" "[I") ∈ lw_all := lw_g (lw_at lw_m1 194 rfl) rfl
theorem q218 : (Jvm.Cond.soleField "NaiveNullsModel" "known") ∈ lw_all := lw_g (lw_at lw_m1 195 rfl) rfl
theorem q219 : (Jvm.Cond.lays "NaiveNullsModel" "NaiveNullsModel" "bound" "[I") ∈ lw_all := lw_g (lw_at lw_m1 196 rfl) rfl
theorem q220 : (Jvm.Cond.soleField "NaiveNullsModel" "bound") ∈ lw_all := lw_g (lw_at lw_m1 197 rfl) rfl
theorem q221 : (Jvm.Cond.lays "NaiveNullsModel" "NaiveNullsModel" "here" "[Z") ∈ lw_all := lw_g (lw_at lw_m1 198 rfl) rfl
theorem q222 : (Jvm.Cond.soleField "NaiveNullsModel" "here") ∈ lw_all := lw_g (lw_at lw_m1 199 rfl) rfl
theorem q223 : (Jvm.Cond.lays "NaiveNullsModel" "NaiveNullsModel" "always" "[Z") ∈ lw_all := lw_g (lw_at lw_m1 200 rfl) rfl
theorem q224 : (Jvm.Cond.soleField "NaiveNullsModel" "always") ∈ lw_all := lw_g (lw_at lw_m1 201 rfl) rfl
theorem q225 : (Jvm.Cond.lays "NaiveNullsModel" "NaiveNullsModel" "once" "[Z") ∈ lw_all := lw_g (lw_at lw_m1 202 rfl) rfl
theorem q226 : (Jvm.Cond.soleField "NaiveNullsModel" "once") ∈ lw_all := lw_g (lw_at lw_m1 203 rfl) rfl
theorem q227 : (Jvm.Cond.lays "NaiveNullsModel" "NaiveNullsModel" "some" "Z") ∈ lw_all := lw_g (lw_at lw_m1 204 rfl) rfl
theorem q228 : (Jvm.Cond.soleField "NaiveNullsModel" "some") ∈ lw_all := lw_g (lw_at lw_m1 205 rfl) rfl
theorem q229 : (Jvm.Cond.superclass "NaiveNullsModel" "java/lang/Object") ∈ lw_all := lw_g (lw_at lw_m1 206 rfl) rfl
theorem q233 : (Jvm.Cond.instanceMethod ({ cls := "NaiveNullsModel", name := "addRow", desc := "(III)I" } : Jvm.MethodName)) ∈ lw_all := lw_g (lw_at lw_m1 210 rfl) rfl
theorem q234 : (Jvm.Cond.selects "NaiveNullsModel" ({ cls := "NaiveNullsModel", name := "addRow", desc := "(III)I" } : Jvm.MethodName) ({ cls := "NaiveNullsModel", name := "addRow", desc := "(III)I" } : Jvm.MethodName)) ∈ lw_all := lw_g (lw_at lw_m1 211 rfl) rfl
theorem q235 : (Jvm.Cond.code ({ cls := "NaiveNullsModel", name := "addRow", desc := "(III)I" } : Jvm.MethodName) prog_3_method_5_code (5 : Nat) (Option.some Jvm.ClassFile.FieldType.int)) ∈ lw_all := lw_g (lw_at lw_m1 212 rfl) rfl
theorem q236 : (Jvm.Cond.methodLink "NaiveNullsModel" (48 : Nat) ({ cls := "NaiveNullsModel", name := "isTable", desc := "(I)Z" } : Jvm.MethodName)) ∈ lw_all := lw_g (lw_at lw_m1 213 rfl) rfl
theorem q237 : (Jvm.Cond.privateMethod ({ cls := "NaiveNullsModel", name := "isTable", desc := "(I)Z" } : Jvm.MethodName)) ∈ lw_tbl := lw_at lw_m1 214 rfl
theorem q238 : (Jvm.Cond.instanceMethod ({ cls := "NaiveNullsModel", name := "isTable", desc := "(I)Z" } : Jvm.MethodName)) ∈ lw_all := lw_g (lw_at lw_m1 215 rfl) rfl
theorem q239 : (Jvm.Cond.code ({ cls := "NaiveNullsModel", name := "isTable", desc := "(I)Z" } : Jvm.MethodName) prog_3_method_2_code (2 : Nat) (Option.some Jvm.ClassFile.FieldType.boolean)) ∈ lw_all := lw_g (lw_at lw_m1 216 rfl) rfl
theorem q240 : (Jvm.Cond.methodLink "NaiveNullsModel" (52 : Nat) ({ cls := "NaiveNullsModel", name := "isValue", desc := "(I)Z" } : Jvm.MethodName)) ∈ lw_all := lw_g (lw_at lw_m1 217 rfl) rfl
theorem q241 : (Jvm.Cond.privateMethod ({ cls := "NaiveNullsModel", name := "isValue", desc := "(I)Z" } : Jvm.MethodName)) ∈ lw_tbl := lw_at lw_m1 218 rfl
theorem q242 : (Jvm.Cond.instanceMethod ({ cls := "NaiveNullsModel", name := "isValue", desc := "(I)Z" } : Jvm.MethodName)) ∈ lw_all := lw_g (lw_at lw_m1 219 rfl) rfl
theorem q243 : (Jvm.Cond.code ({ cls := "NaiveNullsModel", name := "isValue", desc := "(I)Z" } : Jvm.MethodName) prog_3_method_3_code (2 : Nat) (Option.some Jvm.ClassFile.FieldType.boolean)) ∈ lw_all := lw_g (lw_at lw_m1 220 rfl) rfl
theorem q245 : (Jvm.Cond.instanceMethod ({ cls := "NaiveNullsModel", name := "dropRow", desc := "(I)I" } : Jvm.MethodName)) ∈ lw_all := lw_g (lw_at lw_m1 222 rfl) rfl
theorem q246 : (Jvm.Cond.selects "NaiveNullsModel" ({ cls := "NaiveNullsModel", name := "dropRow", desc := "(I)I" } : Jvm.MethodName) ({ cls := "NaiveNullsModel", name := "dropRow", desc := "(I)I" } : Jvm.MethodName)) ∈ lw_all := lw_g (lw_at lw_m1 223 rfl) rfl
theorem q247 : (Jvm.Cond.code ({ cls := "NaiveNullsModel", name := "dropRow", desc := "(I)I" } : Jvm.MethodName) prog_3_method_6_code (3 : Nat) (Option.some Jvm.ClassFile.FieldType.int)) ∈ lw_all := lw_g (lw_at lw_m1 224 rfl) rfl
theorem q249 : (Jvm.Cond.instanceMethod ({ cls := "NaiveNullsModel", name := "learn", desc := "(II)I" } : Jvm.MethodName)) ∈ lw_all := lw_g (lw_at lw_m1 226 rfl) rfl
theorem q250 : (Jvm.Cond.selects "NaiveNullsModel" ({ cls := "NaiveNullsModel", name := "learn", desc := "(II)I" } : Jvm.MethodName) ({ cls := "NaiveNullsModel", name := "learn", desc := "(II)I" } : Jvm.MethodName)) ∈ lw_all := lw_g (lw_at lw_m1 227 rfl) rfl
theorem q251 : (Jvm.Cond.code ({ cls := "NaiveNullsModel", name := "learn", desc := "(II)I" } : Jvm.MethodName) prog_3_method_7_code (6 : Nat) (Option.some Jvm.ClassFile.FieldType.int)) ∈ lw_all := lw_g (lw_at lw_m1 228 rfl) rfl
theorem q253 : (Jvm.Cond.instanceMethod ({ cls := "NaiveNullsModel", name := "rule", desc := "(II)I" } : Jvm.MethodName)) ∈ lw_all := lw_g (lw_at lw_m1 230 rfl) rfl
theorem q254 : (Jvm.Cond.selects "NaiveNullsModel" ({ cls := "NaiveNullsModel", name := "rule", desc := "(II)I" } : Jvm.MethodName) ({ cls := "NaiveNullsModel", name := "rule", desc := "(II)I" } : Jvm.MethodName)) ∈ lw_all := lw_g (lw_at lw_m1 231 rfl) rfl
theorem q255 : (Jvm.Cond.code ({ cls := "NaiveNullsModel", name := "rule", desc := "(II)I" } : Jvm.MethodName) prog_3_method_8_code (3 : Nat) (Option.some Jvm.ClassFile.FieldType.int)) ∈ lw_all := lw_g (lw_at lw_m1 232 rfl) rfl
theorem q256 : (Jvm.Cond.methodLink "NaiveNullsModel" (55 : Nat) ({ cls := "NaiveNullsModel", name := "isTerm", desc := "(I)Z" } : Jvm.MethodName)) ∈ lw_all := lw_g (lw_at lw_m1 233 rfl) rfl
theorem q257 : (Jvm.Cond.privateMethod ({ cls := "NaiveNullsModel", name := "isTerm", desc := "(I)Z" } : Jvm.MethodName)) ∈ lw_tbl := lw_at lw_m1 234 rfl
theorem q258 : (Jvm.Cond.instanceMethod ({ cls := "NaiveNullsModel", name := "isTerm", desc := "(I)Z" } : Jvm.MethodName)) ∈ lw_all := lw_g (lw_at lw_m1 235 rfl) rfl
theorem q259 : (Jvm.Cond.code ({ cls := "NaiveNullsModel", name := "isTerm", desc := "(I)Z" } : Jvm.MethodName) prog_3_method_4_code (2 : Nat) (Option.some Jvm.ClassFile.FieldType.boolean)) ∈ lw_all := lw_g (lw_at lw_m1 236 rfl) rfl
theorem q261 : (Jvm.Cond.instanceMethod ({ cls := "NaiveNullsModel", name := "atom", desc := "(III)I" } : Jvm.MethodName)) ∈ lw_all := lw_g (lw_at lw_m1 238 rfl) rfl
theorem q262 : (Jvm.Cond.selects "NaiveNullsModel" ({ cls := "NaiveNullsModel", name := "atom", desc := "(III)I" } : Jvm.MethodName) ({ cls := "NaiveNullsModel", name := "atom", desc := "(III)I" } : Jvm.MethodName)) ∈ lw_all := lw_g (lw_at lw_m1 239 rfl) rfl
theorem q263 : (Jvm.Cond.code ({ cls := "NaiveNullsModel", name := "atom", desc := "(III)I" } : Jvm.MethodName) prog_3_method_9_code (6 : Nat) (Option.some Jvm.ClassFile.FieldType.int)) ∈ lw_all := lw_g (lw_at lw_m2 0 rfl) rfl
theorem q265 : (Jvm.Cond.instanceMethod ({ cls := "NaiveNullsModel", name := "dropRules", desc := "()I" } : Jvm.MethodName)) ∈ lw_all := lw_g (lw_at lw_m2 2 rfl) rfl
theorem q266 : (Jvm.Cond.selects "NaiveNullsModel" ({ cls := "NaiveNullsModel", name := "dropRules", desc := "()I" } : Jvm.MethodName) ({ cls := "NaiveNullsModel", name := "dropRules", desc := "()I" } : Jvm.MethodName)) ∈ lw_all := lw_g (lw_at lw_m2 3 rfl) rfl
theorem q267 : (Jvm.Cond.code ({ cls := "NaiveNullsModel", name := "dropRules", desc := "()I" } : Jvm.MethodName) prog_3_method_10_code (2 : Nat) (Option.some Jvm.ClassFile.FieldType.int)) ∈ lw_all := lw_g (lw_at lw_m2 4 rfl) rfl
theorem q269 : (Jvm.Cond.instanceMethod ({ cls := "NaiveNullsModel", name := "certain", desc := "(II)Z" } : Jvm.MethodName)) ∈ lw_all := lw_g (lw_at lw_m2 6 rfl) rfl
theorem q270 : (Jvm.Cond.selects "NaiveNullsModel" ({ cls := "NaiveNullsModel", name := "certain", desc := "(II)Z" } : Jvm.MethodName) ({ cls := "NaiveNullsModel", name := "certain", desc := "(II)Z" } : Jvm.MethodName)) ∈ lw_all := lw_g (lw_at lw_m2 7 rfl) rfl
theorem q271 : (Jvm.Cond.code ({ cls := "NaiveNullsModel", name := "certain", desc := "(II)Z" } : Jvm.MethodName) prog_3_method_19_code (3 : Nat) (Option.some Jvm.ClassFile.FieldType.boolean)) ∈ lw_all := lw_g (lw_at lw_m2 8 rfl) rfl
theorem q272 : (Jvm.Cond.methodLink "NaiveNullsModel" (83 : Nat) ({ cls := "NaiveNullsModel", name := "isCouple", desc := "(II)Z" } : Jvm.MethodName)) ∈ lw_all := lw_g (lw_at lw_m2 9 rfl) rfl
theorem q273 : (Jvm.Cond.privateMethod ({ cls := "NaiveNullsModel", name := "isCouple", desc := "(II)Z" } : Jvm.MethodName)) ∈ lw_tbl := lw_at lw_m2 10 rfl
theorem q274 : (Jvm.Cond.instanceMethod ({ cls := "NaiveNullsModel", name := "isCouple", desc := "(II)Z" } : Jvm.MethodName)) ∈ lw_all := lw_g (lw_at lw_m2 11 rfl) rfl
theorem q275 : (Jvm.Cond.code ({ cls := "NaiveNullsModel", name := "isCouple", desc := "(II)Z" } : Jvm.MethodName) prog_3_method_18_code (3 : Nat) (Option.some Jvm.ClassFile.FieldType.boolean)) ∈ lw_all := lw_g (lw_at lw_m2 12 rfl) rfl
theorem q276 : (Jvm.Cond.methodLink "NaiveNullsModel" (86 : Nat) ({ cls := "NaiveNullsModel", name := "evaluate", desc := "()V" } : Jvm.MethodName)) ∈ lw_all := lw_g (lw_at lw_m2 13 rfl) rfl
theorem q277 : (Jvm.Cond.privateMethod ({ cls := "NaiveNullsModel", name := "evaluate", desc := "()V" } : Jvm.MethodName)) ∈ lw_tbl := lw_at lw_m2 14 rfl
theorem q278 : (Jvm.Cond.instanceMethod ({ cls := "NaiveNullsModel", name := "evaluate", desc := "()V" } : Jvm.MethodName)) ∈ lw_all := lw_g (lw_at lw_m2 15 rfl) rfl
theorem q279 : (Jvm.Cond.code ({ cls := "NaiveNullsModel", name := "evaluate", desc := "()V" } : Jvm.MethodName) prog_3_method_17_code (2 : Nat) (Option.none : Option Jvm.ClassFile.FieldType)) ∈ lw_all := lw_g (lw_at lw_m2 16 rfl) rfl
theorem q280 : (Jvm.Cond.methodLink "NaiveNullsModel" (80 : Nat) ({ cls := "NaiveNullsModel", name := "complete", desc := "(I)Z" } : Jvm.MethodName)) ∈ lw_all := lw_g (lw_at lw_m2 17 rfl) rfl
theorem q281 : (Jvm.Cond.privateMethod ({ cls := "NaiveNullsModel", name := "complete", desc := "(I)Z" } : Jvm.MethodName)) ∈ lw_tbl := lw_at lw_m2 18 rfl
theorem q282 : (Jvm.Cond.instanceMethod ({ cls := "NaiveNullsModel", name := "complete", desc := "(I)Z" } : Jvm.MethodName)) ∈ lw_all := lw_g (lw_at lw_m2 19 rfl) rfl
theorem q283 : (Jvm.Cond.code ({ cls := "NaiveNullsModel", name := "complete", desc := "(I)Z" } : Jvm.MethodName) prog_3_method_16_code (4 : Nat) (Option.some Jvm.ClassFile.FieldType.boolean)) ∈ lw_all := lw_g (lw_at lw_m2 20 rfl) rfl
theorem q284 : (Jvm.Cond.methodLink "NaiveNullsModel" (72 : Nat) ({ cls := "NaiveNullsModel", name := "apply", desc := "(I)V" } : Jvm.MethodName)) ∈ lw_all := lw_g (lw_at lw_m2 21 rfl) rfl
theorem q285 : (Jvm.Cond.privateMethod ({ cls := "NaiveNullsModel", name := "apply", desc := "(I)V" } : Jvm.MethodName)) ∈ lw_tbl := lw_at lw_m2 22 rfl
theorem q286 : (Jvm.Cond.instanceMethod ({ cls := "NaiveNullsModel", name := "apply", desc := "(I)V" } : Jvm.MethodName)) ∈ lw_all := lw_g (lw_at lw_m2 23 rfl) rfl
theorem q287 : (Jvm.Cond.code ({ cls := "NaiveNullsModel", name := "apply", desc := "(I)V" } : Jvm.MethodName) prog_3_method_15_code (5 : Nat) (Option.none : Option Jvm.ClassFile.FieldType)) ∈ lw_all := lw_g (lw_at lw_m2 24 rfl) rfl
theorem q288 : (Jvm.Cond.methodLink "NaiveNullsModel" (66 : Nat) ({ cls := "NaiveNullsModel", name := "fits", desc := "(II)Z" } : Jvm.MethodName)) ∈ lw_all := lw_g (lw_at lw_m2 25 rfl) rfl
theorem q289 : (Jvm.Cond.privateMethod ({ cls := "NaiveNullsModel", name := "fits", desc := "(II)Z" } : Jvm.MethodName)) ∈ lw_tbl := lw_at lw_m2 26 rfl
theorem q290 : (Jvm.Cond.instanceMethod ({ cls := "NaiveNullsModel", name := "fits", desc := "(II)Z" } : Jvm.MethodName)) ∈ lw_all := lw_g (lw_at lw_m2 27 rfl) rfl
theorem q291 : (Jvm.Cond.code ({ cls := "NaiveNullsModel", name := "fits", desc := "(II)Z" } : Jvm.MethodName) prog_3_method_13_code (10 : Nat) (Option.some Jvm.ClassFile.FieldType.boolean)) ∈ lw_all := lw_g (lw_at lw_m2 28 rfl) rfl
theorem q292 : (Jvm.Cond.methodLink "NaiveNullsModel" (58 : Nat) ({ cls := "NaiveNullsModel", name := "constantAt", desc := "(I)I" } : Jvm.MethodName)) ∈ lw_all := lw_g (lw_at lw_m2 29 rfl) rfl
theorem q293 : (Jvm.Cond.privateMethod ({ cls := "NaiveNullsModel", name := "constantAt", desc := "(I)I" } : Jvm.MethodName)) ∈ lw_tbl := lw_at lw_m2 30 rfl
theorem q294 : (Jvm.Cond.instanceMethod ({ cls := "NaiveNullsModel", name := "constantAt", desc := "(I)I" } : Jvm.MethodName)) ∈ lw_all := lw_g (lw_at lw_m2 31 rfl) rfl
theorem q295 : (Jvm.Cond.code ({ cls := "NaiveNullsModel", name := "constantAt", desc := "(I)I" } : Jvm.MethodName) prog_3_method_11_code (2 : Nat) (Option.some Jvm.ClassFile.FieldType.int)) ∈ lw_all := lw_g (lw_at lw_m2 32 rfl) rfl
theorem q296 : (Jvm.Cond.methodLink "NaiveNullsModel" (62 : Nat) ({ cls := "NaiveNullsModel", name := "fit", desc := "(II)Z" } : Jvm.MethodName)) ∈ lw_all := lw_g (lw_at lw_m2 33 rfl) rfl
theorem q297 : (Jvm.Cond.privateMethod ({ cls := "NaiveNullsModel", name := "fit", desc := "(II)Z" } : Jvm.MethodName)) ∈ lw_tbl := lw_at lw_m2 34 rfl
theorem q298 : (Jvm.Cond.instanceMethod ({ cls := "NaiveNullsModel", name := "fit", desc := "(II)Z" } : Jvm.MethodName)) ∈ lw_all := lw_g (lw_at lw_m2 35 rfl) rfl
theorem q299 : (Jvm.Cond.code ({ cls := "NaiveNullsModel", name := "fit", desc := "(II)Z" } : Jvm.MethodName) prog_3_method_12_code (3 : Nat) (Option.some Jvm.ClassFile.FieldType.boolean)) ∈ lw_all := lw_g (lw_at lw_m2 36 rfl) rfl
theorem q300 : (Jvm.Cond.methodLink "NaiveNullsModel" (69 : Nat) ({ cls := "NaiveNullsModel", name := "headOf", desc := "(I)I" } : Jvm.MethodName)) ∈ lw_all := lw_g (lw_at lw_m2 37 rfl) rfl
theorem q301 : (Jvm.Cond.privateMethod ({ cls := "NaiveNullsModel", name := "headOf", desc := "(I)I" } : Jvm.MethodName)) ∈ lw_tbl := lw_at lw_m2 38 rfl
theorem q302 : (Jvm.Cond.instanceMethod ({ cls := "NaiveNullsModel", name := "headOf", desc := "(I)I" } : Jvm.MethodName)) ∈ lw_all := lw_g (lw_at lw_m2 39 rfl) rfl
theorem q303 : (Jvm.Cond.code ({ cls := "NaiveNullsModel", name := "headOf", desc := "(I)I" } : Jvm.MethodName) prog_3_method_14_code (2 : Nat) (Option.some Jvm.ClassFile.FieldType.int)) ∈ lw_all := lw_g (lw_at lw_m2 40 rfl) rfl
theorem q305 : (Jvm.Cond.instanceMethod ({ cls := "NaiveNullsModel", name := "possible", desc := "(II)Z" } : Jvm.MethodName)) ∈ lw_all := lw_g (lw_at lw_m2 42 rfl) rfl
theorem q306 : (Jvm.Cond.selects "NaiveNullsModel" ({ cls := "NaiveNullsModel", name := "possible", desc := "(II)Z" } : Jvm.MethodName) ({ cls := "NaiveNullsModel", name := "possible", desc := "(II)Z" } : Jvm.MethodName)) ∈ lw_all := lw_g (lw_at lw_m2 43 rfl) rfl
theorem q307 : (Jvm.Cond.code ({ cls := "NaiveNullsModel", name := "possible", desc := "(II)Z" } : Jvm.MethodName) prog_3_method_20_code (3 : Nat) (Option.some Jvm.ClassFile.FieldType.boolean)) ∈ lw_all := lw_g (lw_at lw_m2 44 rfl) rfl
theorem q309 : (Jvm.Cond.instanceMethod ({ cls := "NaiveNullsModel", name := "certainCount", desc := "()I" } : Jvm.MethodName)) ∈ lw_all := lw_g (lw_at lw_m2 46 rfl) rfl
theorem q310 : (Jvm.Cond.selects "NaiveNullsModel" ({ cls := "NaiveNullsModel", name := "certainCount", desc := "()I" } : Jvm.MethodName) ({ cls := "NaiveNullsModel", name := "certainCount", desc := "()I" } : Jvm.MethodName)) ∈ lw_all := lw_g (lw_at lw_m2 47 rfl) rfl
theorem q311 : (Jvm.Cond.code ({ cls := "NaiveNullsModel", name := "certainCount", desc := "()I" } : Jvm.MethodName) prog_3_method_21_code (3 : Nat) (Option.some Jvm.ClassFile.FieldType.int)) ∈ lw_all := lw_g (lw_at lw_m2 48 rfl) rfl
theorem q313 : (Jvm.Cond.instanceMethod ({ cls := "NaiveNullsModel", name := "alwaysSome", desc := "()Z" } : Jvm.MethodName)) ∈ lw_all := lw_g (lw_at lw_m2 50 rfl) rfl
theorem q314 : (Jvm.Cond.selects "NaiveNullsModel" ({ cls := "NaiveNullsModel", name := "alwaysSome", desc := "()Z" } : Jvm.MethodName) ({ cls := "NaiveNullsModel", name := "alwaysSome", desc := "()Z" } : Jvm.MethodName)) ∈ lw_all := lw_g (lw_at lw_m2 51 rfl) rfl
theorem q315 : (Jvm.Cond.code ({ cls := "NaiveNullsModel", name := "alwaysSome", desc := "()Z" } : Jvm.MethodName) prog_3_method_22_code (1 : Nat) (Option.some Jvm.ClassFile.FieldType.boolean)) ∈ lw_all := lw_g (lw_at lw_m2 52 rfl) rfl
theorem in_X1 : ∀ w ∈ wsX10, w ∈ lw_all := lw_in wsX10 [203, 205, 207, 209, 211, 213, 215, 217, 219, 221, 223, 225, 227] (by decide +kernel) (by decide +kernel)
end
section
set_option maxRecDepth 100000
/-! java/lang/Object -/
def RJ0 : String := "java/lang/Object"
abbrev cJ0_init : ByteArray := object_method_1_code
def yJ0_init : MethodName := ⟨RJ0, "<init>", "()V"⟩
theorem dJ0_init_0 : decode cJ0_init 0 = .ok (.return_, 1) := by decide +kernel
theorem q32 : (Jvm.Cond.instanceMethod ({ cls := "java/lang/Object", name := "<init>", desc := "()V" } : Jvm.MethodName)) ∈ lw_all := lw_g (lw_at lw_m1 9 rfl) rfl
theorem q33 : (Jvm.Cond.code ({ cls := "java/lang/Object", name := "<init>", desc := "()V" } : Jvm.MethodName) object_method_1_code (1 : Nat) (Option.none : Option Jvm.ClassFile.FieldType)) ∈ lw_all := lw_g (lw_at lw_m1 10 rfl) rfl
theorem q95 : (Jvm.Cond.arrayClass Jvm.ClassFile.FieldType.byte) ∈ lw_all := lw_g (lw_at lw_m1 72 rfl) rfl
theorem q230 : (Jvm.Cond.arrayClass Jvm.ClassFile.FieldType.int) ∈ lw_all := lw_g (lw_at lw_m1 207 rfl) rfl
theorem q231 : (Jvm.Cond.arrayClass Jvm.ClassFile.FieldType.boolean) ∈ lw_all := lw_g (lw_at lw_m1 208 rfl) rfl
theorem q23 : (Jvm.Cond.initialized "NaiveNullsLaw") ∈ lw_all := lw_g (lw_at lw_m1 0 rfl) rfl
theorem q26 : (Jvm.Cond.classLink "NaiveNullsLaw" (7 : Nat) "NaiveNulls") ∈ lw_all := lw_g (lw_at lw_m1 3 rfl) rfl
theorem q28 : (Jvm.Cond.methodLink "NaiveNullsLaw" (9 : Nat) ({ cls := "NaiveNulls", name := "<init>", desc := "()V" } : Jvm.MethodName)) ∈ lw_all := lw_g (lw_at lw_m1 5 rfl) rfl
theorem q96 : (Jvm.Cond.methodLink "NaiveNullsLaw" (13 : Nat) ({ cls := "NaiveNulls", name := "addRow", desc := "(III)I" } : Jvm.MethodName)) ∈ lw_all := lw_g (lw_at lw_m1 73 rfl) rfl
theorem q104 : (Jvm.Cond.methodLink "NaiveNullsLaw" (18 : Nat) ({ cls := "NaiveNulls", name := "dropRow", desc := "(I)I" } : Jvm.MethodName)) ∈ lw_all := lw_g (lw_at lw_m1 81 rfl) rfl
theorem q108 : (Jvm.Cond.methodLink "NaiveNullsLaw" (23 : Nat) ({ cls := "NaiveNulls", name := "learn", desc := "(II)I" } : Jvm.MethodName)) ∈ lw_all := lw_g (lw_at lw_m1 85 rfl) rfl
theorem q112 : (Jvm.Cond.methodLink "NaiveNullsLaw" (28 : Nat) ({ cls := "NaiveNulls", name := "rule", desc := "(II)I" } : Jvm.MethodName)) ∈ lw_all := lw_g (lw_at lw_m1 89 rfl) rfl
theorem q120 : (Jvm.Cond.methodLink "NaiveNullsLaw" (32 : Nat) ({ cls := "NaiveNulls", name := "atom", desc := "(III)I" } : Jvm.MethodName)) ∈ lw_all := lw_g (lw_at lw_m1 97 rfl) rfl
theorem q124 : (Jvm.Cond.methodLink "NaiveNullsLaw" (36 : Nat) ({ cls := "NaiveNulls", name := "dropRules", desc := "()I" } : Jvm.MethodName)) ∈ lw_all := lw_g (lw_at lw_m1 101 rfl) rfl
theorem q128 : (Jvm.Cond.methodLink "NaiveNullsLaw" (41 : Nat) ({ cls := "NaiveNulls", name := "certain", desc := "(II)Z" } : Jvm.MethodName)) ∈ lw_all := lw_g (lw_at lw_m1 105 rfl) rfl
theorem q172 : (Jvm.Cond.methodLink "NaiveNullsLaw" (46 : Nat) ({ cls := "NaiveNulls", name := "possible", desc := "(II)Z" } : Jvm.MethodName)) ∈ lw_all := lw_g (lw_at lw_m1 149 rfl) rfl
theorem q176 : (Jvm.Cond.methodLink "NaiveNullsLaw" (50 : Nat) ({ cls := "NaiveNulls", name := "certainCount", desc := "()I" } : Jvm.MethodName)) ∈ lw_all := lw_g (lw_at lw_m1 153 rfl) rfl
theorem q180 : (Jvm.Cond.methodLink "NaiveNullsLaw" (54 : Nat) ({ cls := "NaiveNulls", name := "alwaysSome", desc := "()Z" } : Jvm.MethodName)) ∈ lw_all := lw_g (lw_at lw_m1 157 rfl) rfl
theorem q184 : (Jvm.Cond.classLink "NaiveNullsLaw" (10 : Nat) "NaiveNullsModel") ∈ lw_all := lw_g (lw_at lw_m1 161 rfl) rfl
theorem q186 : (Jvm.Cond.methodLink "NaiveNullsLaw" (12 : Nat) ({ cls := "NaiveNullsModel", name := "<init>", desc := "()V" } : Jvm.MethodName)) ∈ lw_all := lw_g (lw_at lw_m1 163 rfl) rfl
theorem q232 : (Jvm.Cond.methodLink "NaiveNullsLaw" (17 : Nat) ({ cls := "NaiveNullsModel", name := "addRow", desc := "(III)I" } : Jvm.MethodName)) ∈ lw_all := lw_g (lw_at lw_m1 209 rfl) rfl
theorem q244 : (Jvm.Cond.methodLink "NaiveNullsLaw" (22 : Nat) ({ cls := "NaiveNullsModel", name := "dropRow", desc := "(I)I" } : Jvm.MethodName)) ∈ lw_all := lw_g (lw_at lw_m1 221 rfl) rfl
theorem q248 : (Jvm.Cond.methodLink "NaiveNullsLaw" (27 : Nat) ({ cls := "NaiveNullsModel", name := "learn", desc := "(II)I" } : Jvm.MethodName)) ∈ lw_all := lw_g (lw_at lw_m1 225 rfl) rfl
theorem q252 : (Jvm.Cond.methodLink "NaiveNullsLaw" (31 : Nat) ({ cls := "NaiveNullsModel", name := "rule", desc := "(II)I" } : Jvm.MethodName)) ∈ lw_all := lw_g (lw_at lw_m1 229 rfl) rfl
theorem q260 : (Jvm.Cond.methodLink "NaiveNullsLaw" (35 : Nat) ({ cls := "NaiveNullsModel", name := "atom", desc := "(III)I" } : Jvm.MethodName)) ∈ lw_all := lw_g (lw_at lw_m1 237 rfl) rfl
theorem q264 : (Jvm.Cond.methodLink "NaiveNullsLaw" (40 : Nat) ({ cls := "NaiveNullsModel", name := "dropRules", desc := "()I" } : Jvm.MethodName)) ∈ lw_all := lw_g (lw_at lw_m2 1 rfl) rfl
theorem q268 : (Jvm.Cond.methodLink "NaiveNullsLaw" (45 : Nat) ({ cls := "NaiveNullsModel", name := "certain", desc := "(II)Z" } : Jvm.MethodName)) ∈ lw_all := lw_g (lw_at lw_m2 5 rfl) rfl
theorem q304 : (Jvm.Cond.methodLink "NaiveNullsLaw" (49 : Nat) ({ cls := "NaiveNullsModel", name := "possible", desc := "(II)Z" } : Jvm.MethodName)) ∈ lw_all := lw_g (lw_at lw_m2 41 rfl) rfl
theorem q308 : (Jvm.Cond.methodLink "NaiveNullsLaw" (53 : Nat) ({ cls := "NaiveNullsModel", name := "certainCount", desc := "()I" } : Jvm.MethodName)) ∈ lw_all := lw_g (lw_at lw_m2 45 rfl) rfl
theorem q312 : (Jvm.Cond.methodLink "NaiveNullsLaw" (58 : Nat) ({ cls := "NaiveNullsModel", name := "alwaysSome", desc := "()Z" } : Jvm.MethodName)) ∈ lw_all := lw_g (lw_at lw_m2 49 rfl) rfl
/-! the law's own entry -/
abbrev cL_law : ByteArray := code
theorem dL_law_0 : decode cL_law 0 = .ok (.new 7, 3) := by decide +kernel
theorem dL_law_3 : decode cL_law 3 = .ok (.dup, 1) := by decide +kernel
theorem dL_law_4 : decode cL_law 4 = .ok (.invokespecial 9, 3) := by decide +kernel
theorem dL_law_7 : decode cL_law 7 = .ok (.astore_n 1, 1) := by decide +kernel
theorem dL_law_8 : decode cL_law 8 = .ok (.new 10, 3) := by decide +kernel
theorem dL_law_11 : decode cL_law 11 = .ok (.dup, 1) := by decide +kernel
theorem dL_law_12 : decode cL_law 12 = .ok (.invokespecial 12, 3) := by decide +kernel
theorem dL_law_15 : decode cL_law 15 = .ok (.astore_n 2, 1) := by decide +kernel
theorem dL_law_16 : decode cL_law 16 = .ok (.iconst 0, 1) := by decide +kernel
theorem dL_law_17 : decode cL_law 17 = .ok (.istore_n 3, 1) := by decide +kernel
theorem dL_law_18 : decode cL_law 18 = .ok (.iload_n 3, 1) := by decide +kernel
theorem dL_law_19 : decode cL_law 19 = .ok (.aload_n 0, 1) := by decide +kernel
theorem dL_law_20 : decode cL_law 20 = .ok (.arraylength, 1) := by decide +kernel
theorem dL_law_21 : decode cL_law 21 = .ok (.iconst 4, 1) := by decide +kernel
theorem dL_law_22 : decode cL_law 22 = .ok (.isub, 1) := by decide +kernel
theorem dL_law_23 : decode cL_law 23 = .ok (.if_icmp .gt 351, 3) := by decide +kernel
theorem dL_law_26 : decode cL_law 26 = .ok (.aload_n 0, 1) := by decide +kernel
theorem dL_law_27 : decode cL_law 27 = .ok (.iload_n 3, 1) := by decide +kernel
theorem dL_law_28 : decode cL_law 28 = .ok (.iaload, 1) := by decide +kernel
theorem dL_law_29 : decode cL_law 29 = .ok (.bipush 15, 2) := by decide +kernel
theorem dL_law_31 : decode cL_law 31 = .ok (.iand, 1) := by decide +kernel
theorem dL_law_32 : decode cL_law 32 = .ok (.tableswitch 336 0 9 #[56, 99, 122, 155, 188, 231, 244, 277, 310, 323], 56) := by decide +kernel
theorem dL_law_88 : decode cL_law 88 = .ok (.aload_n 1, 1) := by decide +kernel
theorem dL_law_89 : decode cL_law 89 = .ok (.aload_n 0, 1) := by decide +kernel
theorem dL_law_90 : decode cL_law 90 = .ok (.iload_n 3, 1) := by decide +kernel
theorem dL_law_91 : decode cL_law 91 = .ok (.iconst 1, 1) := by decide +kernel
theorem dL_law_92 : decode cL_law 92 = .ok (.iadd, 1) := by decide +kernel
theorem dL_law_93 : decode cL_law 93 = .ok (.iaload, 1) := by decide +kernel
theorem dL_law_94 : decode cL_law 94 = .ok (.aload_n 0, 1) := by decide +kernel
theorem dL_law_95 : decode cL_law 95 = .ok (.iload_n 3, 1) := by decide +kernel
theorem dL_law_96 : decode cL_law 96 = .ok (.iconst 2, 1) := by decide +kernel
theorem dL_law_97 : decode cL_law 97 = .ok (.iadd, 1) := by decide +kernel
theorem dL_law_98 : decode cL_law 98 = .ok (.iaload, 1) := by decide +kernel
theorem dL_law_99 : decode cL_law 99 = .ok (.aload_n 0, 1) := by decide +kernel
theorem dL_law_100 : decode cL_law 100 = .ok (.iload_n 3, 1) := by decide +kernel
theorem dL_law_101 : decode cL_law 101 = .ok (.iconst 3, 1) := by decide +kernel
theorem dL_law_102 : decode cL_law 102 = .ok (.iadd, 1) := by decide +kernel
theorem dL_law_103 : decode cL_law 103 = .ok (.iaload, 1) := by decide +kernel
theorem dL_law_104 : decode cL_law 104 = .ok (.invokevirtual 13, 3) := by decide +kernel
theorem dL_law_107 : decode cL_law 107 = .ok (.aload_n 2, 1) := by decide +kernel
theorem dL_law_108 : decode cL_law 108 = .ok (.aload_n 0, 1) := by decide +kernel
theorem dL_law_109 : decode cL_law 109 = .ok (.iload_n 3, 1) := by decide +kernel
theorem dL_law_110 : decode cL_law 110 = .ok (.iconst 1, 1) := by decide +kernel
theorem dL_law_111 : decode cL_law 111 = .ok (.iadd, 1) := by decide +kernel
theorem dL_law_112 : decode cL_law 112 = .ok (.iaload, 1) := by decide +kernel
theorem dL_law_113 : decode cL_law 113 = .ok (.aload_n 0, 1) := by decide +kernel
theorem dL_law_114 : decode cL_law 114 = .ok (.iload_n 3, 1) := by decide +kernel
theorem dL_law_115 : decode cL_law 115 = .ok (.iconst 2, 1) := by decide +kernel
theorem dL_law_116 : decode cL_law 116 = .ok (.iadd, 1) := by decide +kernel
theorem dL_law_117 : decode cL_law 117 = .ok (.iaload, 1) := by decide +kernel
theorem dL_law_118 : decode cL_law 118 = .ok (.aload_n 0, 1) := by decide +kernel
theorem dL_law_119 : decode cL_law 119 = .ok (.iload_n 3, 1) := by decide +kernel
theorem dL_law_120 : decode cL_law 120 = .ok (.iconst 3, 1) := by decide +kernel
theorem dL_law_121 : decode cL_law 121 = .ok (.iadd, 1) := by decide +kernel
theorem dL_law_122 : decode cL_law 122 = .ok (.iaload, 1) := by decide +kernel
theorem dL_law_123 : decode cL_law 123 = .ok (.invokevirtual 17, 3) := by decide +kernel
theorem dL_law_126 : decode cL_law 126 = .ok (.if_icmp .eq 242, 3) := by decide +kernel
theorem dL_law_129 : decode cL_law 129 = .ok (.iconst 0, 1) := by decide +kernel
theorem dL_law_130 : decode cL_law 130 = .ok (.ireturn, 1) := by decide +kernel
theorem dL_law_131 : decode cL_law 131 = .ok (.aload_n 1, 1) := by decide +kernel
theorem dL_law_132 : decode cL_law 132 = .ok (.aload_n 0, 1) := by decide +kernel
theorem dL_law_133 : decode cL_law 133 = .ok (.iload_n 3, 1) := by decide +kernel
theorem dL_law_134 : decode cL_law 134 = .ok (.iconst 1, 1) := by decide +kernel
theorem dL_law_135 : decode cL_law 135 = .ok (.iadd, 1) := by decide +kernel
theorem dL_law_136 : decode cL_law 136 = .ok (.iaload, 1) := by decide +kernel
theorem dL_law_137 : decode cL_law 137 = .ok (.invokevirtual 18, 3) := by decide +kernel
theorem dL_law_140 : decode cL_law 140 = .ok (.aload_n 2, 1) := by decide +kernel
theorem dL_law_141 : decode cL_law 141 = .ok (.aload_n 0, 1) := by decide +kernel
theorem dL_law_142 : decode cL_law 142 = .ok (.iload_n 3, 1) := by decide +kernel
theorem dL_law_143 : decode cL_law 143 = .ok (.iconst 1, 1) := by decide +kernel
theorem dL_law_144 : decode cL_law 144 = .ok (.iadd, 1) := by decide +kernel
theorem dL_law_145 : decode cL_law 145 = .ok (.iaload, 1) := by decide +kernel
theorem dL_law_146 : decode cL_law 146 = .ok (.invokevirtual 22, 3) := by decide +kernel
theorem dL_law_149 : decode cL_law 149 = .ok (.if_icmp .eq 219, 3) := by decide +kernel
theorem dL_law_152 : decode cL_law 152 = .ok (.iconst 0, 1) := by decide +kernel
theorem dL_law_153 : decode cL_law 153 = .ok (.ireturn, 1) := by decide +kernel
theorem dL_law_154 : decode cL_law 154 = .ok (.aload_n 1, 1) := by decide +kernel
theorem dL_law_155 : decode cL_law 155 = .ok (.aload_n 0, 1) := by decide +kernel
theorem dL_law_156 : decode cL_law 156 = .ok (.iload_n 3, 1) := by decide +kernel
theorem dL_law_157 : decode cL_law 157 = .ok (.iconst 1, 1) := by decide +kernel
theorem dL_law_158 : decode cL_law 158 = .ok (.iadd, 1) := by decide +kernel
theorem dL_law_159 : decode cL_law 159 = .ok (.iaload, 1) := by decide +kernel
theorem dL_law_160 : decode cL_law 160 = .ok (.aload_n 0, 1) := by decide +kernel
theorem dL_law_161 : decode cL_law 161 = .ok (.iload_n 3, 1) := by decide +kernel
theorem dL_law_162 : decode cL_law 162 = .ok (.iconst 2, 1) := by decide +kernel
theorem dL_law_163 : decode cL_law 163 = .ok (.iadd, 1) := by decide +kernel
theorem dL_law_164 : decode cL_law 164 = .ok (.iaload, 1) := by decide +kernel
theorem dL_law_165 : decode cL_law 165 = .ok (.invokevirtual 23, 3) := by decide +kernel
theorem dL_law_168 : decode cL_law 168 = .ok (.aload_n 2, 1) := by decide +kernel
theorem dL_law_169 : decode cL_law 169 = .ok (.aload_n 0, 1) := by decide +kernel
theorem dL_law_170 : decode cL_law 170 = .ok (.iload_n 3, 1) := by decide +kernel
theorem dL_law_171 : decode cL_law 171 = .ok (.iconst 1, 1) := by decide +kernel
theorem dL_law_172 : decode cL_law 172 = .ok (.iadd, 1) := by decide +kernel
theorem dL_law_173 : decode cL_law 173 = .ok (.iaload, 1) := by decide +kernel
theorem dL_law_174 : decode cL_law 174 = .ok (.aload_n 0, 1) := by decide +kernel
theorem dL_law_175 : decode cL_law 175 = .ok (.iload_n 3, 1) := by decide +kernel
theorem dL_law_176 : decode cL_law 176 = .ok (.iconst 2, 1) := by decide +kernel
theorem dL_law_177 : decode cL_law 177 = .ok (.iadd, 1) := by decide +kernel
theorem dL_law_178 : decode cL_law 178 = .ok (.iaload, 1) := by decide +kernel
theorem dL_law_179 : decode cL_law 179 = .ok (.invokevirtual 27, 3) := by decide +kernel
theorem dL_law_182 : decode cL_law 182 = .ok (.if_icmp .eq 186, 3) := by decide +kernel
theorem dL_law_185 : decode cL_law 185 = .ok (.iconst 0, 1) := by decide +kernel
theorem dL_law_186 : decode cL_law 186 = .ok (.ireturn, 1) := by decide +kernel
theorem dL_law_187 : decode cL_law 187 = .ok (.aload_n 1, 1) := by decide +kernel
theorem dL_law_188 : decode cL_law 188 = .ok (.aload_n 0, 1) := by decide +kernel
theorem dL_law_189 : decode cL_law 189 = .ok (.iload_n 3, 1) := by decide +kernel
theorem dL_law_190 : decode cL_law 190 = .ok (.iconst 1, 1) := by decide +kernel
theorem dL_law_191 : decode cL_law 191 = .ok (.iadd, 1) := by decide +kernel
theorem dL_law_192 : decode cL_law 192 = .ok (.iaload, 1) := by decide +kernel
theorem dL_law_193 : decode cL_law 193 = .ok (.aload_n 0, 1) := by decide +kernel
theorem dL_law_194 : decode cL_law 194 = .ok (.iload_n 3, 1) := by decide +kernel
theorem dL_law_195 : decode cL_law 195 = .ok (.iconst 2, 1) := by decide +kernel
theorem dL_law_196 : decode cL_law 196 = .ok (.iadd, 1) := by decide +kernel
theorem dL_law_197 : decode cL_law 197 = .ok (.iaload, 1) := by decide +kernel
theorem dL_law_198 : decode cL_law 198 = .ok (.invokevirtual 28, 3) := by decide +kernel
theorem dL_law_201 : decode cL_law 201 = .ok (.aload_n 2, 1) := by decide +kernel
theorem dL_law_202 : decode cL_law 202 = .ok (.aload_n 0, 1) := by decide +kernel
theorem dL_law_203 : decode cL_law 203 = .ok (.iload_n 3, 1) := by decide +kernel
theorem dL_law_204 : decode cL_law 204 = .ok (.iconst 1, 1) := by decide +kernel
theorem dL_law_205 : decode cL_law 205 = .ok (.iadd, 1) := by decide +kernel
theorem dL_law_206 : decode cL_law 206 = .ok (.iaload, 1) := by decide +kernel
theorem dL_law_207 : decode cL_law 207 = .ok (.aload_n 0, 1) := by decide +kernel
theorem dL_law_208 : decode cL_law 208 = .ok (.iload_n 3, 1) := by decide +kernel
theorem dL_law_209 : decode cL_law 209 = .ok (.iconst 2, 1) := by decide +kernel
theorem dL_law_210 : decode cL_law 210 = .ok (.iadd, 1) := by decide +kernel
theorem dL_law_211 : decode cL_law 211 = .ok (.iaload, 1) := by decide +kernel
theorem dL_law_212 : decode cL_law 212 = .ok (.invokevirtual 31, 3) := by decide +kernel
theorem dL_law_215 : decode cL_law 215 = .ok (.if_icmp .eq 153, 3) := by decide +kernel
theorem dL_law_218 : decode cL_law 218 = .ok (.iconst 0, 1) := by decide +kernel
theorem dL_law_219 : decode cL_law 219 = .ok (.ireturn, 1) := by decide +kernel
theorem dL_law_220 : decode cL_law 220 = .ok (.aload_n 1, 1) := by decide +kernel
theorem dL_law_221 : decode cL_law 221 = .ok (.aload_n 0, 1) := by decide +kernel
theorem dL_law_222 : decode cL_law 222 = .ok (.iload_n 3, 1) := by decide +kernel
theorem dL_law_223 : decode cL_law 223 = .ok (.iconst 1, 1) := by decide +kernel
theorem dL_law_224 : decode cL_law 224 = .ok (.iadd, 1) := by decide +kernel
theorem dL_law_225 : decode cL_law 225 = .ok (.iaload, 1) := by decide +kernel
theorem dL_law_226 : decode cL_law 226 = .ok (.aload_n 0, 1) := by decide +kernel
theorem dL_law_227 : decode cL_law 227 = .ok (.iload_n 3, 1) := by decide +kernel
theorem dL_law_228 : decode cL_law 228 = .ok (.iconst 2, 1) := by decide +kernel
theorem dL_law_229 : decode cL_law 229 = .ok (.iadd, 1) := by decide +kernel
theorem dL_law_230 : decode cL_law 230 = .ok (.iaload, 1) := by decide +kernel
theorem dL_law_231 : decode cL_law 231 = .ok (.aload_n 0, 1) := by decide +kernel
theorem dL_law_232 : decode cL_law 232 = .ok (.iload_n 3, 1) := by decide +kernel
theorem dL_law_233 : decode cL_law 233 = .ok (.iconst 3, 1) := by decide +kernel
theorem dL_law_234 : decode cL_law 234 = .ok (.iadd, 1) := by decide +kernel
theorem dL_law_235 : decode cL_law 235 = .ok (.iaload, 1) := by decide +kernel
theorem dL_law_236 : decode cL_law 236 = .ok (.invokevirtual 32, 3) := by decide +kernel
theorem dL_law_239 : decode cL_law 239 = .ok (.aload_n 2, 1) := by decide +kernel
theorem dL_law_240 : decode cL_law 240 = .ok (.aload_n 0, 1) := by decide +kernel
theorem dL_law_241 : decode cL_law 241 = .ok (.iload_n 3, 1) := by decide +kernel
theorem dL_law_242 : decode cL_law 242 = .ok (.iconst 1, 1) := by decide +kernel
theorem dL_law_243 : decode cL_law 243 = .ok (.iadd, 1) := by decide +kernel
theorem dL_law_244 : decode cL_law 244 = .ok (.iaload, 1) := by decide +kernel
theorem dL_law_245 : decode cL_law 245 = .ok (.aload_n 0, 1) := by decide +kernel
theorem dL_law_246 : decode cL_law 246 = .ok (.iload_n 3, 1) := by decide +kernel
theorem dL_law_247 : decode cL_law 247 = .ok (.iconst 2, 1) := by decide +kernel
theorem dL_law_248 : decode cL_law 248 = .ok (.iadd, 1) := by decide +kernel
theorem dL_law_249 : decode cL_law 249 = .ok (.iaload, 1) := by decide +kernel
theorem dL_law_250 : decode cL_law 250 = .ok (.aload_n 0, 1) := by decide +kernel
theorem dL_law_251 : decode cL_law 251 = .ok (.iload_n 3, 1) := by decide +kernel
theorem dL_law_252 : decode cL_law 252 = .ok (.iconst 3, 1) := by decide +kernel
theorem dL_law_253 : decode cL_law 253 = .ok (.iadd, 1) := by decide +kernel
theorem dL_law_254 : decode cL_law 254 = .ok (.iaload, 1) := by decide +kernel
theorem dL_law_255 : decode cL_law 255 = .ok (.invokevirtual 35, 3) := by decide +kernel
theorem dL_law_258 : decode cL_law 258 = .ok (.if_icmp .eq 110, 3) := by decide +kernel
theorem dL_law_261 : decode cL_law 261 = .ok (.iconst 0, 1) := by decide +kernel
theorem dL_law_262 : decode cL_law 262 = .ok (.ireturn, 1) := by decide +kernel
theorem dL_law_263 : decode cL_law 263 = .ok (.aload_n 1, 1) := by decide +kernel
theorem dL_law_264 : decode cL_law 264 = .ok (.invokevirtual 36, 3) := by decide +kernel
theorem dL_law_267 : decode cL_law 267 = .ok (.aload_n 2, 1) := by decide +kernel
theorem dL_law_268 : decode cL_law 268 = .ok (.invokevirtual 40, 3) := by decide +kernel
theorem dL_law_271 : decode cL_law 271 = .ok (.if_icmp .eq 97, 3) := by decide +kernel
theorem dL_law_274 : decode cL_law 274 = .ok (.iconst 0, 1) := by decide +kernel
theorem dL_law_275 : decode cL_law 275 = .ok (.ireturn, 1) := by decide +kernel
theorem dL_law_276 : decode cL_law 276 = .ok (.aload_n 1, 1) := by decide +kernel
theorem dL_law_277 : decode cL_law 277 = .ok (.aload_n 0, 1) := by decide +kernel
theorem dL_law_278 : decode cL_law 278 = .ok (.iload_n 3, 1) := by decide +kernel
theorem dL_law_279 : decode cL_law 279 = .ok (.iconst 1, 1) := by decide +kernel
theorem dL_law_280 : decode cL_law 280 = .ok (.iadd, 1) := by decide +kernel
theorem dL_law_281 : decode cL_law 281 = .ok (.iaload, 1) := by decide +kernel
theorem dL_law_282 : decode cL_law 282 = .ok (.aload_n 0, 1) := by decide +kernel
theorem dL_law_283 : decode cL_law 283 = .ok (.iload_n 3, 1) := by decide +kernel
theorem dL_law_284 : decode cL_law 284 = .ok (.iconst 2, 1) := by decide +kernel
theorem dL_law_285 : decode cL_law 285 = .ok (.iadd, 1) := by decide +kernel
theorem dL_law_286 : decode cL_law 286 = .ok (.iaload, 1) := by decide +kernel
theorem dL_law_287 : decode cL_law 287 = .ok (.invokevirtual 41, 3) := by decide +kernel
theorem dL_law_290 : decode cL_law 290 = .ok (.aload_n 2, 1) := by decide +kernel
theorem dL_law_291 : decode cL_law 291 = .ok (.aload_n 0, 1) := by decide +kernel
theorem dL_law_292 : decode cL_law 292 = .ok (.iload_n 3, 1) := by decide +kernel
theorem dL_law_293 : decode cL_law 293 = .ok (.iconst 1, 1) := by decide +kernel
theorem dL_law_294 : decode cL_law 294 = .ok (.iadd, 1) := by decide +kernel
theorem dL_law_295 : decode cL_law 295 = .ok (.iaload, 1) := by decide +kernel
theorem dL_law_296 : decode cL_law 296 = .ok (.aload_n 0, 1) := by decide +kernel
theorem dL_law_297 : decode cL_law 297 = .ok (.iload_n 3, 1) := by decide +kernel
theorem dL_law_298 : decode cL_law 298 = .ok (.iconst 2, 1) := by decide +kernel
theorem dL_law_299 : decode cL_law 299 = .ok (.iadd, 1) := by decide +kernel
theorem dL_law_300 : decode cL_law 300 = .ok (.iaload, 1) := by decide +kernel
theorem dL_law_301 : decode cL_law 301 = .ok (.invokevirtual 45, 3) := by decide +kernel
theorem dL_law_304 : decode cL_law 304 = .ok (.if_icmp .eq 64, 3) := by decide +kernel
theorem dL_law_307 : decode cL_law 307 = .ok (.iconst 0, 1) := by decide +kernel
theorem dL_law_308 : decode cL_law 308 = .ok (.ireturn, 1) := by decide +kernel
theorem dL_law_309 : decode cL_law 309 = .ok (.aload_n 1, 1) := by decide +kernel
theorem dL_law_310 : decode cL_law 310 = .ok (.aload_n 0, 1) := by decide +kernel
theorem dL_law_311 : decode cL_law 311 = .ok (.iload_n 3, 1) := by decide +kernel
theorem dL_law_312 : decode cL_law 312 = .ok (.iconst 1, 1) := by decide +kernel
theorem dL_law_313 : decode cL_law 313 = .ok (.iadd, 1) := by decide +kernel
theorem dL_law_314 : decode cL_law 314 = .ok (.iaload, 1) := by decide +kernel
theorem dL_law_315 : decode cL_law 315 = .ok (.aload_n 0, 1) := by decide +kernel
theorem dL_law_316 : decode cL_law 316 = .ok (.iload_n 3, 1) := by decide +kernel
theorem dL_law_317 : decode cL_law 317 = .ok (.iconst 2, 1) := by decide +kernel
theorem dL_law_318 : decode cL_law 318 = .ok (.iadd, 1) := by decide +kernel
theorem dL_law_319 : decode cL_law 319 = .ok (.iaload, 1) := by decide +kernel
theorem dL_law_320 : decode cL_law 320 = .ok (.invokevirtual 46, 3) := by decide +kernel
theorem dL_law_323 : decode cL_law 323 = .ok (.aload_n 2, 1) := by decide +kernel
theorem dL_law_324 : decode cL_law 324 = .ok (.aload_n 0, 1) := by decide +kernel
theorem dL_law_325 : decode cL_law 325 = .ok (.iload_n 3, 1) := by decide +kernel
theorem dL_law_326 : decode cL_law 326 = .ok (.iconst 1, 1) := by decide +kernel
theorem dL_law_327 : decode cL_law 327 = .ok (.iadd, 1) := by decide +kernel
theorem dL_law_328 : decode cL_law 328 = .ok (.iaload, 1) := by decide +kernel
theorem dL_law_329 : decode cL_law 329 = .ok (.aload_n 0, 1) := by decide +kernel
theorem dL_law_330 : decode cL_law 330 = .ok (.iload_n 3, 1) := by decide +kernel
theorem dL_law_331 : decode cL_law 331 = .ok (.iconst 2, 1) := by decide +kernel
theorem dL_law_332 : decode cL_law 332 = .ok (.iadd, 1) := by decide +kernel
theorem dL_law_333 : decode cL_law 333 = .ok (.iaload, 1) := by decide +kernel
theorem dL_law_334 : decode cL_law 334 = .ok (.invokevirtual 49, 3) := by decide +kernel
theorem dL_law_337 : decode cL_law 337 = .ok (.if_icmp .eq 31, 3) := by decide +kernel
theorem dL_law_340 : decode cL_law 340 = .ok (.iconst 0, 1) := by decide +kernel
theorem dL_law_341 : decode cL_law 341 = .ok (.ireturn, 1) := by decide +kernel
theorem dL_law_342 : decode cL_law 342 = .ok (.aload_n 1, 1) := by decide +kernel
theorem dL_law_343 : decode cL_law 343 = .ok (.invokevirtual 50, 3) := by decide +kernel
theorem dL_law_346 : decode cL_law 346 = .ok (.aload_n 2, 1) := by decide +kernel
theorem dL_law_347 : decode cL_law 347 = .ok (.invokevirtual 53, 3) := by decide +kernel
theorem dL_law_350 : decode cL_law 350 = .ok (.if_icmp .eq 18, 3) := by decide +kernel
theorem dL_law_353 : decode cL_law 353 = .ok (.iconst 0, 1) := by decide +kernel
theorem dL_law_354 : decode cL_law 354 = .ok (.ireturn, 1) := by decide +kernel
theorem dL_law_355 : decode cL_law 355 = .ok (.aload_n 1, 1) := by decide +kernel
theorem dL_law_356 : decode cL_law 356 = .ok (.invokevirtual 54, 3) := by decide +kernel
theorem dL_law_359 : decode cL_law 359 = .ok (.aload_n 2, 1) := by decide +kernel
theorem dL_law_360 : decode cL_law 360 = .ok (.invokevirtual 58, 3) := by decide +kernel
theorem dL_law_363 : decode cL_law 363 = .ok (.if_icmp .eq 5, 3) := by decide +kernel
theorem dL_law_366 : decode cL_law 366 = .ok (.iconst 0, 1) := by decide +kernel
theorem dL_law_367 : decode cL_law 367 = .ok (.ireturn, 1) := by decide +kernel
theorem dL_law_368 : decode cL_law 368 = .ok (.iinc 3 4, 3) := by decide +kernel
theorem dL_law_371 : decode cL_law 371 = .ok (.goto (-353), 3) := by decide +kernel
theorem dL_law_374 : decode cL_law 374 = .ok (.iconst 1, 1) := by decide +kernel
theorem dL_law_375 : decode cL_law 375 = .ok (.ireturn, 1) := by decide +kernel
end
section
set_option maxRecDepth 100000
/-! ints by their values: every int on the stack is iI of an Int -/
def iI (x : Int) : Int32 := Int32.ofInt x
theorem iI_T {x : Int} (h : -2147483648 ≤ x ∧ x < 2147483648) : (iI x).toInt = x := Int32.toInt_ofInt_of_le (by omega) (by omega)
theorem iI_of (x : Int32) : iI x.toInt = x := Int32.ofInt_toInt x
theorem iI_rg (x : Int32) : -2147483648 ≤ x.toInt ∧ x.toInt < 2147483648 := ⟨x.le_toInt, x.toInt_lt⟩
theorem iI_add (a b : Int) : iI a + iI b = iI (a + b) := (Int32.ofInt_add a b).symm
theorem iI_sub (a b : Int) : iI a - iI b = iI (a - b) := (Int32.ofInt_sub a b).symm
theorem iI_mul (a b : Int) : iI a * iI b = iI (a * b) := (Int32.ofInt_mul a b).symm
theorem iI_eq {x y : Int} (hx : -2147483648 ≤ x ∧ x < 2147483648) (hy : -2147483648 ≤ y ∧ y < 2147483648) : iI x = iI y ↔ x = y := by
  rw [← Int32.toInt_inj, iI_T hx, iI_T hy]
theorem iI_lt {x y : Int} (hx : -2147483648 ≤ x ∧ x < 2147483648) (hy : -2147483648 ≤ y ∧ y < 2147483648) : iI x < iI y ↔ x < y := by
  rw [Int32.lt_iff_toInt_lt, iI_T hx, iI_T hy]
theorem iI_le {x y : Int} (hx : -2147483648 ≤ x ∧ x < 2147483648) (hy : -2147483648 ≤ y ∧ y < 2147483648) : iI x ≤ iI y ↔ x ≤ y := by
  rw [Int32.le_iff_toInt_le, iI_T hx, iI_T hy]
theorem iI_0 : (0 : Int32) = iI 0 := rfl
theorem iI_cl {x : Int} (h0 : 0 ≤ x) (h1 : x < 2147483648) : (iI x).toNatClampNeg = x.toNat := Int32.toNatClampNeg_ofInt_of_le (by omega) (by omega)
theorem iI_cI {x : Int} (h0 : 0 ≤ x) (h1 : x < 2147483648) : (((iI x).toNatClampNeg : Nat) : Int) = x := by
  rw [iI_cl h0 h1]; omega
theorem iI_in {x : Int} {n : Nat} (h : 0 ≤ x ∧ x < (n : Int)) (hn : n < 2147483648) : vp_in (iI x) n := by
  rw [vp_in_iff, iI_T (by omega)]
  exact h
theorem iI_b {x : Int} (h : -128 ≤ x ∧ x < 128) : (iI x).toInt8.toInt32 = iI x := by
  apply lg_i2b_small
  · rw [iI_T (by omega)]; omega
  · rw [iI_T (by omega)]; omega
theorem iI_nb {x : Int} (h : -128 ≤ x ∧ x < 128) : vp_nar .byte (iI x) = iI x := by rw [vp_nar_byte, iI_b h]
theorem iI_nz {x : Int} (h : x = 0 ∨ x = 1) : vp_nar .boolean (iI x) = iI x := by
  rcases h with rfl | rfl <;> rfl
theorem iI_n {n : Nat} : iI (n : Int) = nI n := Int32.ofInt_eq_ofNat
theorem iI_div {a d : Int} (ha : 0 ≤ a ∧ a < 2147483648) (hd : 0 < d ∧ d < 2147483648) : iI a / iI d = iI (a / d) := by
  obtain ⟨n, rfl⟩ := Int.eq_ofNat_of_zero_le ha.1
  obtain ⟨k, rfl⟩ := Int.eq_ofNat_of_zero_le (Int.le_of_lt hd.1)
  have e : ((n : Int) / (k : Int)) = ((n / k : Nat) : Int) := rfl
  rw [e, iI_n, iI_n, iI_n]
  exact pk_div (by omega) (by omega) (by omega)
theorem iI_rem {a d : Int} (ha : 0 ≤ a ∧ a < 2147483648) (hd : 0 < d ∧ d < 2147483648) : iI a - iI a / iI d * iI d = iI (a % d) := by
  obtain ⟨n, rfl⟩ := Int.eq_ofNat_of_zero_le ha.1
  obtain ⟨k, rfl⟩ := Int.eq_ofNat_of_zero_le (Int.le_of_lt hd.1)
  have e : ((n : Int) % (k : Int)) = ((n % k : Nat) : Int) := rfl
  rw [e, iI_n, iI_n, iI_n]
  exact pk_rem (by omega) (by omega) (by omega)
theorem iI_i8 {n : Int} (h : -128 ≤ n ∧ n < 128) : (Int8.ofInt n).toInt32 = iI n := by
  apply Int32.toInt_inj.mp
  rw [Int8.toInt_toInt32, Int8.toInt_ofInt_of_le (by omega) (by omega), iI_T (by omega)]
theorem iI_i16 {n : Int} (h : -32768 ≤ n ∧ n < 32768) : (Int16.ofInt n).toInt32 = iI n := by
  apply Int32.toInt_inj.mp
  rw [Int16.toInt_toInt32, Int16.toInt_ofInt_of_le (by omega) (by omega), iI_T (by omega)]
/-- a state of numbers: place k of a class's fields, index i -/
abbrev xG : Type := Nat → Int → Int
abbrev xSt : Type := xG × Int64
abbrev xAd : Type := Nat × (Nat → Nat) × (Nat → ClassId)
def up (g : xG) (k : Nat) (i v : Int) : xG := fun k' i' => if k' = k ∧ i' = i then v else g k' i'
theorem up_s {g : xG} {k : Nat} {i v : Int} : up g k i v k i = v := by simp [up]
theorem up_k {g : xG} {k k' : Nat} {i i' v : Int} (h : k' ≠ k) : up g k i v k' i' = g k' i' := by simp [up, h]
theorem up_i {g : xG} {k k' : Nat} {i i' v : Int} (h : i' ≠ i) : up g k i v k' i' = g k' i' := by simp [up, h]
def Rng (g : xG) : Prop := ∀ k i, -1 ≤ g k i ∧ g k i ≤ 127
theorem Rng_up {g : xG} {k : Nat} {i v : Int} (h : Rng g) (hv : -1 ≤ v ∧ v ≤ 127) : Rng (up g k i v) := by
  intro k' i'
  unfold up
  split
  · exact hv
  · exact h k' i'
theorem upd_up (g : xG) (k : Nat) {x v : Int} {w : Int32} (h0 : 0 ≤ x) (h1 : x < 2147483648) (hw : w = iI v) : upd (fun j : Nat => iI (g k (j : Int))) (iI x).toNatClampNeg w = fun j : Nat => iI (up g k x v k (j : Int)) := by
  funext j
  rw [iI_cl h0 h1, hw]
  unfold upd up
  by_cases hj : j = x.toNat
  · have hj2 : (j : Int) = x := by omega
    rw [if_pos hj, if_pos ⟨rfl, hj2⟩]
  · have hj2 : ¬ (j : Int) = x := by omega
    rw [if_neg hj, if_neg (fun q => hj2 q.2)]
section XI
variable {p : Program} {l : Launch} {e : Env} {R : Room} {s : State} {m : MethodId} {args : Array Value} {below : List Frame} {meth : Method} {c : Code} {H : Heap} {locs : List Loc} {cells slots : Nat} {Q : State → Prop}
variable {cc : ByteArray} {nL : Nat} {own : String} {pc : Nat} {ls : Array Slot} {rest : List Value}
theorem xi_ic (S : CallFix p m c cc nL s args lw_all own) {n : Int} (hdg : decode cc pc = .ok (.iconst n, 1)) (k : W p l e R s m args below meth c H locs cells slots Q (F0 m (pc + 1) ls (.int (iI n) :: rest))) : W p l e R s m args below meth c H locs cells slots Q (F0 m pc ls rest) := lv_iconst S.1 S.2.1 hdg rfl k
theorem xi_bp (S : CallFix p m c cc nL s args lw_all own) {n : Int} (hdg : decode cc pc = .ok (.bipush n, 2)) (hn : -128 ≤ n ∧ n < 128) (k : W p l e R s m args below meth c H locs cells slots Q (F0 m (pc + 2) ls (.int (iI n) :: rest))) : W p l e R s m args below meth c H locs cells slots Q (F0 m pc ls rest) := lv_bipush S.1 S.2.1 hdg (iI_i8 hn) k
theorem xi_sp (S : CallFix p m c cc nL s args lw_all own) {n : Int} (hdg : decode cc pc = .ok (.sipush n, 3)) (hn : -32768 ≤ n ∧ n < 32768) (k : W p l e R s m args below meth c H locs cells slots Q (F0 m (pc + 3) ls (.int (iI n) :: rest))) : W p l e R s m args below meth c H locs cells slots Q (F0 m pc ls rest) := lv_sipush S.1 S.2.1 hdg (iI_i16 hn) k
theorem xi_iadd (S : CallFix p m c cc nL s args lw_all own) {x y : Int} (hdg : decode cc pc = .ok (.iadd, 1)) (k : W p l e R s m args below meth c H locs cells slots Q (F0 m (pc + 1) ls (.int (iI (x + y)) :: rest))) : W p l e R s m args below meth c H locs cells slots Q (F0 m pc ls (.int (iI y) :: .int (iI x) :: rest)) := lv_iadd S.1 S.2.1 hdg (by rw [iI_add]; exact k)
theorem xi_isub (S : CallFix p m c cc nL s args lw_all own) {x y : Int} (hdg : decode cc pc = .ok (.isub, 1)) (k : W p l e R s m args below meth c H locs cells slots Q (F0 m (pc + 1) ls (.int (iI (x - y)) :: rest))) : W p l e R s m args below meth c H locs cells slots Q (F0 m pc ls (.int (iI y) :: .int (iI x) :: rest)) := lv_isub S.1 S.2.1 hdg (by rw [iI_sub]; exact k)
theorem xi_imul (S : CallFix p m c cc nL s args lw_all own) {x y : Int} (hdg : decode cc pc = .ok (.imul, 1)) (k : W p l e R s m args below meth c H locs cells slots Q (F0 m (pc + 1) ls (.int (iI (x * y)) :: rest))) : W p l e R s m args below meth c H locs cells slots Q (F0 m pc ls (.int (iI y) :: .int (iI x) :: rest)) := lv_imul S.1 S.2.1 hdg (by rw [iI_mul]; exact k)
theorem xi_idiv (S : CallFix p m c cc nL s args lw_all own) {x y : Int} (h : (0 ≤ x ∧ x < 2147483648) ∧ 0 < y ∧ y < 2147483648) (hdg : decode cc pc = .ok (.idiv, 1)) (k : W p l e R s m args below meth c H locs cells slots Q (F0 m (pc + 1) ls (.int (iI (x / y)) :: rest))) : W p l e R s m args below meth c H locs cells slots Q (F0 m pc ls (.int (iI y) :: .int (iI x) :: rest)) := lv_idiv S.1 S.2.1 hdg (by rw [iI_0, iI_eq (by omega) (by omega)]; omega) (by rw [iI_div h.1 h.2]; exact k)
theorem xi_irem (S : CallFix p m c cc nL s args lw_all own) {x y : Int} (h : (0 ≤ x ∧ x < 2147483648) ∧ 0 < y ∧ y < 2147483648) (hdg : decode cc pc = .ok (.irem, 1)) (k : W p l e R s m args below meth c H locs cells slots Q (F0 m (pc + 1) ls (.int (iI (x % y)) :: rest))) : W p l e R s m args below meth c H locs cells slots Q (F0 m pc ls (.int (iI y) :: .int (iI x) :: rest)) := lv_irem S.1 S.2.1 hdg (by rw [iI_0, iI_eq (by omega) (by omega)]; omega) (by rw [iI_rem h.1 h.2]; exact k)
theorem xi_i2b (S : CallFix p m c cc nL s args lw_all own) {x : Int} (h : -128 ≤ x ∧ x < 128) (hdg : decode cc pc = .ok (.i2b, 1)) (k : W p l e R s m args below meth c H locs cells slots Q (F0 m (pc + 1) ls (.int (iI x) :: rest))) : W p l e R s m args below meth c H locs cells slots Q (F0 m pc ls (.int (iI x) :: rest)) := lv_i2b S.1 S.2.1 hdg (iI_b h) k
theorem xi_iinc (S : CallFix p m c cc nL s args lw_all own) {i k : Nat} {n : Int} {x : Int} {lv lv' : List (Nat × Value)} (hdg : decode cc pc = .ok (.iinc i n, 3)) (h : lv_has ls nL lv) (hk : lv[k]? = some (i, .int (iI x))) (hn : i < nL) (hl : (i, Value.int (iI (x + n))) :: lv.filter (fun q => !(q.1 == i) && !(q.1 + 1 == i && q.2.category == 2)) = lv')
    (kk : ∀ ls' : Array Slot, lv_has ls' nL lv' → W p l e R s m args below meth c H locs cells slots Q (F0 m (pc + 3) ls' rest)) : W p l e R s m args below meth c H locs cells slots Q (F0 m pc ls rest) := lv_iinc S.1 S.2.1 hdg h hk (iI_add x n) hn hl kk
theorem xi_clt (S : CallFix p m c cc nL s args lw_all own) {x y : Int} {off : Int} {tgt : Nat} (h : (-2147483648 ≤ x ∧ x < 2147483648) ∧ (-2147483648 ≤ y ∧ y < 2147483648)) (hdg : decode cc pc = .ok (.if_icmp .lt off, 3)) (ht : (pc : Int) + off = (tgt : Int)) (kt : x < y → W p l e R s m args below meth c H locs cells slots Q (F0 m tgt ls rest)) (kf : y ≤ x → W p l e R s m args below meth c H locs cells slots Q (F0 m (pc + 3) ls rest)) : W p l e R s m args below meth c H locs cells slots Q (F0 m pc ls (.int (iI y) :: .int (iI x) :: rest)) := by
  exact lv_icmp_lt S.1 S.2.1 hdg ht (fun q => kt ((iI_lt h.1 h.2).mp q)) (fun q => kf (by have := mt (iI_lt h.1 h.2).mpr q; omega))
theorem xi_zlt (S : CallFix p m c cc nL s args lw_all own) {x : Int} {off : Int} {tgt : Nat} (h : -2147483648 ≤ x ∧ x < 2147483648) (hdg : decode cc pc = .ok (.ifCond .lt off, 3)) (ht : (pc : Int) + off = (tgt : Int)) (kt : x < 0 → W p l e R s m args below meth c H locs cells slots Q (F0 m tgt ls rest)) (kf : 0 ≤ x → W p l e R s m args below meth c H locs cells slots Q (F0 m (pc + 3) ls rest)) : W p l e R s m args below meth c H locs cells slots Q (F0 m pc ls (.int (iI x) :: rest)) := by
  exact lv_if_lt S.1 S.2.1 hdg ht (fun q => kt ((iI_lt h (by omega : (-2147483648 : Int) ≤ 0 ∧ (0 : Int) < 2147483648)).mp q)) (fun q => kf (by have := mt (iI_lt h (by omega : (-2147483648 : Int) ≤ 0 ∧ (0 : Int) < 2147483648)).mpr q; omega))
theorem xi_cge (S : CallFix p m c cc nL s args lw_all own) {x y : Int} {off : Int} {tgt : Nat} (h : (-2147483648 ≤ x ∧ x < 2147483648) ∧ (-2147483648 ≤ y ∧ y < 2147483648)) (hdg : decode cc pc = .ok (.if_icmp .ge off, 3)) (ht : (pc : Int) + off = (tgt : Int)) (kt : y ≤ x → W p l e R s m args below meth c H locs cells slots Q (F0 m tgt ls rest)) (kf : x < y → W p l e R s m args below meth c H locs cells slots Q (F0 m (pc + 3) ls rest)) : W p l e R s m args below meth c H locs cells slots Q (F0 m pc ls (.int (iI y) :: .int (iI x) :: rest)) := by
  exact lv_icmp_ge S.1 S.2.1 hdg ht (fun q => kt ((iI_le h.2 h.1).mp q)) (fun q => kf (by have := mt (iI_le h.2 h.1).mpr q; omega))
theorem xi_zge (S : CallFix p m c cc nL s args lw_all own) {x : Int} {off : Int} {tgt : Nat} (h : -2147483648 ≤ x ∧ x < 2147483648) (hdg : decode cc pc = .ok (.ifCond .ge off, 3)) (ht : (pc : Int) + off = (tgt : Int)) (kt : 0 ≤ x → W p l e R s m args below meth c H locs cells slots Q (F0 m tgt ls rest)) (kf : x < 0 → W p l e R s m args below meth c H locs cells slots Q (F0 m (pc + 3) ls rest)) : W p l e R s m args below meth c H locs cells slots Q (F0 m pc ls (.int (iI x) :: rest)) := by
  exact lv_if_ge S.1 S.2.1 hdg ht (fun q => kt ((iI_le (by omega : (-2147483648 : Int) ≤ 0 ∧ (0 : Int) < 2147483648) h).mp q)) (fun q => kf (by have := mt (iI_le (by omega : (-2147483648 : Int) ≤ 0 ∧ (0 : Int) < 2147483648) h).mpr q; omega))
theorem xi_cgt (S : CallFix p m c cc nL s args lw_all own) {x y : Int} {off : Int} {tgt : Nat} (h : (-2147483648 ≤ x ∧ x < 2147483648) ∧ (-2147483648 ≤ y ∧ y < 2147483648)) (hdg : decode cc pc = .ok (.if_icmp .gt off, 3)) (ht : (pc : Int) + off = (tgt : Int)) (kt : y < x → W p l e R s m args below meth c H locs cells slots Q (F0 m tgt ls rest)) (kf : x ≤ y → W p l e R s m args below meth c H locs cells slots Q (F0 m (pc + 3) ls rest)) : W p l e R s m args below meth c H locs cells slots Q (F0 m pc ls (.int (iI y) :: .int (iI x) :: rest)) := by
  exact lv_icmp_gt S.1 S.2.1 hdg ht (fun q => kt ((iI_lt h.2 h.1).mp q)) (fun q => kf (by have := mt (iI_lt h.2 h.1).mpr q; omega))
theorem xi_zgt (S : CallFix p m c cc nL s args lw_all own) {x : Int} {off : Int} {tgt : Nat} (h : -2147483648 ≤ x ∧ x < 2147483648) (hdg : decode cc pc = .ok (.ifCond .gt off, 3)) (ht : (pc : Int) + off = (tgt : Int)) (kt : 0 < x → W p l e R s m args below meth c H locs cells slots Q (F0 m tgt ls rest)) (kf : x ≤ 0 → W p l e R s m args below meth c H locs cells slots Q (F0 m (pc + 3) ls rest)) : W p l e R s m args below meth c H locs cells slots Q (F0 m pc ls (.int (iI x) :: rest)) := by
  exact lv_if_gt S.1 S.2.1 hdg ht (fun q => kt ((iI_lt (by omega : (-2147483648 : Int) ≤ 0 ∧ (0 : Int) < 2147483648) h).mp q)) (fun q => kf (by have := mt (iI_lt (by omega : (-2147483648 : Int) ≤ 0 ∧ (0 : Int) < 2147483648) h).mpr q; omega))
theorem xi_cle (S : CallFix p m c cc nL s args lw_all own) {x y : Int} {off : Int} {tgt : Nat} (h : (-2147483648 ≤ x ∧ x < 2147483648) ∧ (-2147483648 ≤ y ∧ y < 2147483648)) (hdg : decode cc pc = .ok (.if_icmp .le off, 3)) (ht : (pc : Int) + off = (tgt : Int)) (kt : x ≤ y → W p l e R s m args below meth c H locs cells slots Q (F0 m tgt ls rest)) (kf : y < x → W p l e R s m args below meth c H locs cells slots Q (F0 m (pc + 3) ls rest)) : W p l e R s m args below meth c H locs cells slots Q (F0 m pc ls (.int (iI y) :: .int (iI x) :: rest)) := by
  exact lv_icmp_le S.1 S.2.1 hdg ht (fun q => kt ((iI_le h.1 h.2).mp q)) (fun q => kf (by have := mt (iI_le h.1 h.2).mpr q; omega))
theorem xi_zle (S : CallFix p m c cc nL s args lw_all own) {x : Int} {off : Int} {tgt : Nat} (h : -2147483648 ≤ x ∧ x < 2147483648) (hdg : decode cc pc = .ok (.ifCond .le off, 3)) (ht : (pc : Int) + off = (tgt : Int)) (kt : x ≤ 0 → W p l e R s m args below meth c H locs cells slots Q (F0 m tgt ls rest)) (kf : 0 < x → W p l e R s m args below meth c H locs cells slots Q (F0 m (pc + 3) ls rest)) : W p l e R s m args below meth c H locs cells slots Q (F0 m pc ls (.int (iI x) :: rest)) := by
  exact lv_if_le S.1 S.2.1 hdg ht (fun q => kt ((iI_le h (by omega : (-2147483648 : Int) ≤ 0 ∧ (0 : Int) < 2147483648)).mp q)) (fun q => kf (by have := mt (iI_le h (by omega : (-2147483648 : Int) ≤ 0 ∧ (0 : Int) < 2147483648)).mpr q; omega))
theorem xi_ceq (S : CallFix p m c cc nL s args lw_all own) {x y : Int} {off : Int} {tgt : Nat} (h : (-2147483648 ≤ x ∧ x < 2147483648) ∧ (-2147483648 ≤ y ∧ y < 2147483648)) (hdg : decode cc pc = .ok (.if_icmp .eq off, 3)) (ht : (pc : Int) + off = (tgt : Int)) (kt : x = y → W p l e R s m args below meth c H locs cells slots Q (F0 m tgt ls rest)) (kf : x ≠ y → W p l e R s m args below meth c H locs cells slots Q (F0 m (pc + 3) ls rest)) : W p l e R s m args below meth c H locs cells slots Q (F0 m pc ls (.int (iI y) :: .int (iI x) :: rest)) := by
  exact lv_icmp_eq S.1 S.2.1 hdg ht (fun q => kt ((iI_eq h.1 h.2).mp q)) (fun q => kf (fun r => q ((iI_eq h.1 h.2).mpr r)))
theorem xi_zeq (S : CallFix p m c cc nL s args lw_all own) {x : Int} {off : Int} {tgt : Nat} (h : -2147483648 ≤ x ∧ x < 2147483648) (hdg : decode cc pc = .ok (.ifCond .eq off, 3)) (ht : (pc : Int) + off = (tgt : Int)) (kt : x = 0 → W p l e R s m args below meth c H locs cells slots Q (F0 m tgt ls rest)) (kf : x ≠ 0 → W p l e R s m args below meth c H locs cells slots Q (F0 m (pc + 3) ls rest)) : W p l e R s m args below meth c H locs cells slots Q (F0 m pc ls (.int (iI x) :: rest)) := by
  exact lv_if_eq S.1 S.2.1 hdg ht (fun q => kt ((iI_eq h (by omega : (-2147483648 : Int) ≤ 0 ∧ (0 : Int) < 2147483648)).mp q)) (fun q => kf (fun r => q ((iI_eq h (by omega : (-2147483648 : Int) ≤ 0 ∧ (0 : Int) < 2147483648)).mpr r)))
theorem xi_cne (S : CallFix p m c cc nL s args lw_all own) {x y : Int} {off : Int} {tgt : Nat} (h : (-2147483648 ≤ x ∧ x < 2147483648) ∧ (-2147483648 ≤ y ∧ y < 2147483648)) (hdg : decode cc pc = .ok (.if_icmp .ne off, 3)) (ht : (pc : Int) + off = (tgt : Int)) (kt : x ≠ y → W p l e R s m args below meth c H locs cells slots Q (F0 m tgt ls rest)) (kf : x = y → W p l e R s m args below meth c H locs cells slots Q (F0 m (pc + 3) ls rest)) : W p l e R s m args below meth c H locs cells slots Q (F0 m pc ls (.int (iI y) :: .int (iI x) :: rest)) := by
  exact lv_icmp_ne S.1 S.2.1 hdg ht (fun q => kt (fun r => q ((iI_eq h.1 h.2).mpr r))) (fun q => kf ((iI_eq h.1 h.2).mp q))
theorem xi_zne (S : CallFix p m c cc nL s args lw_all own) {x : Int} {off : Int} {tgt : Nat} (h : -2147483648 ≤ x ∧ x < 2147483648) (hdg : decode cc pc = .ok (.ifCond .ne off, 3)) (ht : (pc : Int) + off = (tgt : Int)) (kt : x ≠ 0 → W p l e R s m args below meth c H locs cells slots Q (F0 m tgt ls rest)) (kf : x = 0 → W p l e R s m args below meth c H locs cells slots Q (F0 m (pc + 3) ls rest)) : W p l e R s m args below meth c H locs cells slots Q (F0 m pc ls (.int (iI x) :: rest)) := by
  exact lv_if_ne S.1 S.2.1 hdg ht (fun q => kt (fun r => q ((iI_eq h (by omega : (-2147483648 : Int) ≤ 0 ∧ (0 : Int) < 2147483648)).mpr r))) (fun q => kf ((iI_eq h (by omega : (-2147483648 : Int) ≤ 0 ∧ (0 : Int) < 2147483648)).mp q))
end XI
end
section
set_option maxRecDepth 100000
abbrev vwCl : List vw_C := [(RX0, TX0, 20), (RX1, TX1, 13)]
/-- the object's own fields -/
def fX (q : Nat → Nat) (u : xSt) : List Value := [.ref (q 0), .ref (q 1), .ref (q 2), .int (iI (u.1 3 0)), .ref (q 4), .ref (q 5), .ref (q 6), .ref (q 7), .ref (q 8), .ref (q 9), .ref (q 10), .ref (q 11), .ref (q 12), .int (iI (u.1 13 0)), .int (iI (u.1 14 0)), .int (iI (u.1 15 0)), .int (iI (u.1 16 0)), .int (iI (u.1 17 0)), .long u.2, .int (iI (u.1 19 0))]
/-- the world: the object, its arrays -/
def wX (a : xAd) (u : xSt) : va_W := [(a.1, .inr (0, fX a.2.1 u)), (a.2.1 0, .inl (a.2.2 0, 2, .inl (fun j : Nat => iI (u.1 0 (j : Int))))), (a.2.1 1, .inl (a.2.2 1, 10, .inl (fun j : Nat => iI (u.1 1 (j : Int))))), (a.2.1 2, .inl (a.2.2 2, 10, .inl (fun j : Nat => iI (u.1 2 (j : Int))))), (a.2.1 4, .inl (a.2.2 4, 2, .inl (fun j : Nat => iI (u.1 4 (j : Int))))), (a.2.1 5, .inl (a.2.2 5, 2, .inl (fun j : Nat => iI (u.1 5 (j : Int))))), (a.2.1 6, .inl (a.2.2 6, 2, .inl (fun j : Nat => iI (u.1 6 (j : Int))))), (a.2.1 7, .inl (a.2.2 7, 6, .inl (fun j : Nat => iI (u.1 7 (j : Int))))), (a.2.1 8, .inl (a.2.2 8, 6, .inl (fun j : Nat => iI (u.1 8 (j : Int))))), (a.2.1 9, .inl (a.2.2 9, 6, .inl (fun j : Nat => iI (u.1 9 (j : Int))))), (a.2.1 10, .inl (a.2.2 10, 7, .inl (fun j : Nat => iI (u.1 10 (j : Int))))), (a.2.1 11, .inl (a.2.2 11, 4, .inl (fun j : Nat => iI (u.1 11 (j : Int))))), (a.2.1 12, .inl (a.2.2 12, 28, .inl (fun j : Nat => iI (u.1 12 (j : Int)))))]
def tX (a : xAd) : List (ClassId × FieldType) := [(a.2.2 0, .byte), (a.2.2 1, .byte), (a.2.2 2, .byte), (a.2.2 4, .byte), (a.2.2 5, .byte), (a.2.2 6, .byte), (a.2.2 7, .byte), (a.2.2 8, .byte), (a.2.2 9, .byte), (a.2.2 10, .byte), (a.2.2 11, .byte), (a.2.2 12, .byte)]
abbrev FX (D : va_G) (a : xAd) (A : Nat → Prop) (p : Program) (m : MethodId) (c : Code) (cc : ByteArray) (nL : Nat) (s : State) (args : Array Value) : Prop := CallFix p m c cc nL s args lw_all RX0 ∧ va_K D vwCl (tX a) s ∧ ∀ q : Nat, s.heap.size ≤ q → A q
abbrev IX (D : va_G) (a : xAd) (A : Nat → Prop) (s : State) (H : Heap) (locs : List Loc) (u : xSt) : Prop := va_P D vwCl (wX a u) H ∧ va_D A (wX a u) ∧ va_S A s.heap H locs
/-- the world behind a method -/
abbrev BX (D : va_G) (a : xAd) (A : Nat → Prop) (u : xSt) (t : State) : Prop := va_P D vwCl (wX a u) t.heap ∧ va_K D vwCl (tX a) t ∧ va_D A (wX a u)
/-- a contract: answer and state behind; nothing is made -/
def MXi (l : Launch) (D : va_G) (a : xAd) (y : MethodName) (bytes : ByteArray) (maxL : Nat) (ret : Option FieldType) (rm : Room) (As : List Value) (u : xSt) (post : Int → xSt → Prop) : Prop := ∀ sz : Nat, Met l y (ws_ y bytes maxL ret) rm (va_Pc (.ref a.1 :: As) (fun U => U.heap.size = sz ∧ va_P D vwCl (wX a u) U.heap ∧ va_K D vwCl (tX a) U ∧ va_D (fun _ => True) (wX a u))) (va_Qi (fun (r : Int32) (u2 : xSt) => ∃ ri : Int, r = iI ri ∧ post ri u2) (BX D a (va_A (wX a u) sz)) (va_A (wX a u) sz)) 0 0 (va_A (wX a u) sz)
def MXv (l : Launch) (D : va_G) (a : xAd) (y : MethodName) (bytes : ByteArray) (maxL : Nat) (rm : Room) (As : List Value) (u : xSt) (post : xSt → Prop) : Prop := ∀ sz : Nat, Met l y (ws_ y bytes maxL none) rm (va_Pc (.ref a.1 :: As) (fun U => U.heap.size = sz ∧ va_P D vwCl (wX a u) U.heap ∧ va_K D vwCl (tX a) U ∧ va_D (fun _ => True) (wX a u))) (va_Qv post (BX D a (va_A (wX a u) sz)) (va_A (wX a u) sz)) 0 0 (va_A (wX a u) sz)
section ROWSX
variable {p : Program} {l : Launch} {e : Env} {R : Room} {s : State} {m : MethodId} {args : Array Value} {below : List Frame} {meth : Method} {c : Code} {H : Heap} {locs : List Loc} {cells slots : Nat} {Q : State → Prop}
variable {cc : ByteArray} {nL : Nat} {pc : Nat} {ls : Array Slot} {rest : List Value} {D : va_G} {a : xAd} {A : Nat → Prop} {u : xSt}
theorem gX_0 (F : FX D a A p m c cc nL s args) (I : IX D a A s H locs u) (hdg : decode cc pc = .ok (.getfield 7, 3)) (kk : W p l e R s m args below meth c H locs cells slots Q (F0 m (pc + 3) ls (.ref (a.2.1 0) :: rest))) : W p l e R s m args below meth c H locs cells slots Q (F0 m pc ls (.ref a.1 :: rest)) := va_get (D := D) (ci := 0) (C := RX0) (T := TX0) (N := 20) F.1.1 F.1.2.1 F.1.2.2.2.2 in_X0 F.1.2.2.2.1 F.2.1 I.1 0 rfl rfl 0 (by decide) (F.1.2.2.2.2 _ q34) (fun _ h => h) rfl hdg kk
theorem gX_1 (F : FX D a A p m c cc nL s args) (I : IX D a A s H locs u) (hdg : decode cc pc = .ok (.getfield 13, 3)) (kk : W p l e R s m args below meth c H locs cells slots Q (F0 m (pc + 3) ls (.ref (a.2.1 1) :: rest))) : W p l e R s m args below meth c H locs cells slots Q (F0 m pc ls (.ref a.1 :: rest)) := va_get (D := D) (ci := 0) (C := RX0) (T := TX0) (N := 20) F.1.1 F.1.2.1 F.1.2.2.2.2 in_X0 F.1.2.2.2.1 F.2.1 I.1 0 rfl rfl 1 (by decide) (F.1.2.2.2.2 _ q35) (fun _ h => h) rfl hdg kk
theorem gX_2 (F : FX D a A p m c cc nL s args) (I : IX D a A s H locs u) (hdg : decode cc pc = .ok (.getfield 16, 3)) (kk : W p l e R s m args below meth c H locs cells slots Q (F0 m (pc + 3) ls (.ref (a.2.1 2) :: rest))) : W p l e R s m args below meth c H locs cells slots Q (F0 m pc ls (.ref a.1 :: rest)) := va_get (D := D) (ci := 0) (C := RX0) (T := TX0) (N := 20) F.1.1 F.1.2.1 F.1.2.2.2.2 in_X0 F.1.2.2.2.1 F.2.1 I.1 0 rfl rfl 2 (by decide) (F.1.2.2.2.2 _ q36) (fun _ h => h) rfl hdg kk
theorem gX_3 (F : FX D a A p m c cc nL s args) (I : IX D a A s H locs u) (hdg : decode cc pc = .ok (.getfield 57, 3)) (kk : ∀ v : Int, v = u.1 3 0 → W p l e R s m args below meth c H locs cells slots Q (F0 m (pc + 3) ls (.int (iI v) :: rest))) : W p l e R s m args below meth c H locs cells slots Q (F0 m pc ls (.ref a.1 :: rest)) := va_get (D := D) (ci := 0) (C := RX0) (T := TX0) (N := 20) F.1.1 F.1.2.1 F.1.2.2.2.2 in_X0 F.1.2.2.2.1 F.2.1 I.1 0 rfl rfl 3 (by decide) (F.1.2.2.2.2 _ q37) (fun _ h => h) rfl hdg (kk _ rfl)
theorem gX_4 (F : FX D a A p m c cc nL s args) (I : IX D a A s H locs u) (hdg : decode cc pc = .ok (.getfield 19, 3)) (kk : W p l e R s m args below meth c H locs cells slots Q (F0 m (pc + 3) ls (.ref (a.2.1 4) :: rest))) : W p l e R s m args below meth c H locs cells slots Q (F0 m pc ls (.ref a.1 :: rest)) := va_get (D := D) (ci := 0) (C := RX0) (T := TX0) (N := 20) F.1.1 F.1.2.1 F.1.2.2.2.2 in_X0 F.1.2.2.2.1 F.2.1 I.1 0 rfl rfl 4 (by decide) (F.1.2.2.2.2 _ q38) (fun _ h => h) rfl hdg kk
theorem gX_5 (F : FX D a A p m c cc nL s args) (I : IX D a A s H locs u) (hdg : decode cc pc = .ok (.getfield 22, 3)) (kk : W p l e R s m args below meth c H locs cells slots Q (F0 m (pc + 3) ls (.ref (a.2.1 5) :: rest))) : W p l e R s m args below meth c H locs cells slots Q (F0 m pc ls (.ref a.1 :: rest)) := va_get (D := D) (ci := 0) (C := RX0) (T := TX0) (N := 20) F.1.1 F.1.2.1 F.1.2.2.2.2 in_X0 F.1.2.2.2.1 F.2.1 I.1 0 rfl rfl 5 (by decide) (F.1.2.2.2.2 _ q39) (fun _ h => h) rfl hdg kk
theorem gX_6 (F : FX D a A p m c cc nL s args) (I : IX D a A s H locs u) (hdg : decode cc pc = .ok (.getfield 25, 3)) (kk : W p l e R s m args below meth c H locs cells slots Q (F0 m (pc + 3) ls (.ref (a.2.1 6) :: rest))) : W p l e R s m args below meth c H locs cells slots Q (F0 m pc ls (.ref a.1 :: rest)) := va_get (D := D) (ci := 0) (C := RX0) (T := TX0) (N := 20) F.1.1 F.1.2.1 F.1.2.2.2.2 in_X0 F.1.2.2.2.1 F.2.1 I.1 0 rfl rfl 6 (by decide) (F.1.2.2.2.2 _ q40) (fun _ h => h) rfl hdg kk
theorem gX_7 (F : FX D a A p m c cc nL s args) (I : IX D a A s H locs u) (hdg : decode cc pc = .ok (.getfield 28, 3)) (kk : W p l e R s m args below meth c H locs cells slots Q (F0 m (pc + 3) ls (.ref (a.2.1 7) :: rest))) : W p l e R s m args below meth c H locs cells slots Q (F0 m pc ls (.ref a.1 :: rest)) := va_get (D := D) (ci := 0) (C := RX0) (T := TX0) (N := 20) F.1.1 F.1.2.1 F.1.2.2.2.2 in_X0 F.1.2.2.2.1 F.2.1 I.1 0 rfl rfl 7 (by decide) (F.1.2.2.2.2 _ q41) (fun _ h => h) rfl hdg kk
theorem gX_8 (F : FX D a A p m c cc nL s args) (I : IX D a A s H locs u) (hdg : decode cc pc = .ok (.getfield 31, 3)) (kk : W p l e R s m args below meth c H locs cells slots Q (F0 m (pc + 3) ls (.ref (a.2.1 8) :: rest))) : W p l e R s m args below meth c H locs cells slots Q (F0 m pc ls (.ref a.1 :: rest)) := va_get (D := D) (ci := 0) (C := RX0) (T := TX0) (N := 20) F.1.1 F.1.2.1 F.1.2.2.2.2 in_X0 F.1.2.2.2.1 F.2.1 I.1 0 rfl rfl 8 (by decide) (F.1.2.2.2.2 _ q42) (fun _ h => h) rfl hdg kk
theorem gX_9 (F : FX D a A p m c cc nL s args) (I : IX D a A s H locs u) (hdg : decode cc pc = .ok (.getfield 34, 3)) (kk : W p l e R s m args below meth c H locs cells slots Q (F0 m (pc + 3) ls (.ref (a.2.1 9) :: rest))) : W p l e R s m args below meth c H locs cells slots Q (F0 m pc ls (.ref a.1 :: rest)) := va_get (D := D) (ci := 0) (C := RX0) (T := TX0) (N := 20) F.1.1 F.1.2.1 F.1.2.2.2.2 in_X0 F.1.2.2.2.1 F.2.1 I.1 0 rfl rfl 9 (by decide) (F.1.2.2.2.2 _ q43) (fun _ h => h) rfl hdg kk
theorem gX_10 (F : FX D a A p m c cc nL s args) (I : IX D a A s H locs u) (hdg : decode cc pc = .ok (.getfield 37, 3)) (kk : W p l e R s m args below meth c H locs cells slots Q (F0 m (pc + 3) ls (.ref (a.2.1 10) :: rest))) : W p l e R s m args below meth c H locs cells slots Q (F0 m pc ls (.ref a.1 :: rest)) := va_get (D := D) (ci := 0) (C := RX0) (T := TX0) (N := 20) F.1.1 F.1.2.1 F.1.2.2.2.2 in_X0 F.1.2.2.2.1 F.2.1 I.1 0 rfl rfl 10 (by decide) (F.1.2.2.2.2 _ q44) (fun _ h => h) rfl hdg kk
theorem gX_11 (F : FX D a A p m c cc nL s args) (I : IX D a A s H locs u) (hdg : decode cc pc = .ok (.getfield 40, 3)) (kk : W p l e R s m args below meth c H locs cells slots Q (F0 m (pc + 3) ls (.ref (a.2.1 11) :: rest))) : W p l e R s m args below meth c H locs cells slots Q (F0 m pc ls (.ref a.1 :: rest)) := va_get (D := D) (ci := 0) (C := RX0) (T := TX0) (N := 20) F.1.1 F.1.2.1 F.1.2.2.2.2 in_X0 F.1.2.2.2.1 F.2.1 I.1 0 rfl rfl 11 (by decide) (F.1.2.2.2.2 _ q45) (fun _ h => h) rfl hdg kk
theorem gX_12 (F : FX D a A p m c cc nL s args) (I : IX D a A s H locs u) (hdg : decode cc pc = .ok (.getfield 43, 3)) (kk : W p l e R s m args below meth c H locs cells slots Q (F0 m (pc + 3) ls (.ref (a.2.1 12) :: rest))) : W p l e R s m args below meth c H locs cells slots Q (F0 m pc ls (.ref a.1 :: rest)) := va_get (D := D) (ci := 0) (C := RX0) (T := TX0) (N := 20) F.1.1 F.1.2.1 F.1.2.2.2.2 in_X0 F.1.2.2.2.1 F.2.1 I.1 0 rfl rfl 12 (by decide) (F.1.2.2.2.2 _ q46) (fun _ h => h) rfl hdg kk
theorem gX_13 (F : FX D a A p m c cc nL s args) (I : IX D a A s H locs u) (hdg : decode cc pc = .ok (.getfield 72, 3)) (kk : ∀ v : Int, v = u.1 13 0 → W p l e R s m args below meth c H locs cells slots Q (F0 m (pc + 3) ls (.int (iI v) :: rest))) : W p l e R s m args below meth c H locs cells slots Q (F0 m pc ls (.ref a.1 :: rest)) := va_get (D := D) (ci := 0) (C := RX0) (T := TX0) (N := 20) F.1.1 F.1.2.1 F.1.2.2.2.2 in_X0 F.1.2.2.2.1 F.2.1 I.1 0 rfl rfl 13 (by decide) (F.1.2.2.2.2 _ q47) (fun _ h => h) rfl hdg (kk _ rfl)
theorem gX_14 (F : FX D a A p m c cc nL s args) (I : IX D a A s H locs u) (hdg : decode cc pc = .ok (.getfield 75, 3)) (kk : ∀ v : Int, v = u.1 14 0 → W p l e R s m args below meth c H locs cells slots Q (F0 m (pc + 3) ls (.int (iI v) :: rest))) : W p l e R s m args below meth c H locs cells slots Q (F0 m pc ls (.ref a.1 :: rest)) := va_get (D := D) (ci := 0) (C := RX0) (T := TX0) (N := 20) F.1.1 F.1.2.1 F.1.2.2.2.2 in_X0 F.1.2.2.2.1 F.2.1 I.1 0 rfl rfl 14 (by decide) (F.1.2.2.2.2 _ q48) (fun _ h => h) rfl hdg (kk _ rfl)
theorem gX_15 (F : FX D a A p m c cc nL s args) (I : IX D a A s H locs u) (hdg : decode cc pc = .ok (.getfield 78, 3)) (kk : ∀ v : Int, v = u.1 15 0 → W p l e R s m args below meth c H locs cells slots Q (F0 m (pc + 3) ls (.int (iI v) :: rest))) : W p l e R s m args below meth c H locs cells slots Q (F0 m pc ls (.ref a.1 :: rest)) := va_get (D := D) (ci := 0) (C := RX0) (T := TX0) (N := 20) F.1.1 F.1.2.1 F.1.2.2.2.2 in_X0 F.1.2.2.2.1 F.2.1 I.1 0 rfl rfl 15 (by decide) (F.1.2.2.2.2 _ q49) (fun _ h => h) rfl hdg (kk _ rfl)
theorem gX_16 (F : FX D a A p m c cc nL s args) (I : IX D a A s H locs u) (hdg : decode cc pc = .ok (.getfield 81, 3)) (kk : ∀ v : Int, v = u.1 16 0 → W p l e R s m args below meth c H locs cells slots Q (F0 m (pc + 3) ls (.int (iI v) :: rest))) : W p l e R s m args below meth c H locs cells slots Q (F0 m pc ls (.ref a.1 :: rest)) := va_get (D := D) (ci := 0) (C := RX0) (T := TX0) (N := 20) F.1.1 F.1.2.1 F.1.2.2.2.2 in_X0 F.1.2.2.2.1 F.2.1 I.1 0 rfl rfl 16 (by decide) (F.1.2.2.2.2 _ q50) (fun _ h => h) rfl hdg (kk _ rfl)
theorem gX_17 (F : FX D a A p m c cc nL s args) (I : IX D a A s H locs u) (hdg : decode cc pc = .ok (.getfield 50, 3)) (kk : ∀ v : Int, v = u.1 17 0 → W p l e R s m args below meth c H locs cells slots Q (F0 m (pc + 3) ls (.int (iI v) :: rest))) : W p l e R s m args below meth c H locs cells slots Q (F0 m pc ls (.ref a.1 :: rest)) := va_get (D := D) (ci := 0) (C := RX0) (T := TX0) (N := 20) F.1.1 F.1.2.1 F.1.2.2.2.2 in_X0 F.1.2.2.2.1 F.2.1 I.1 0 rfl rfl 17 (by decide) (F.1.2.2.2.2 _ q51) (fun _ h => h) rfl hdg (kk _ rfl)
theorem gX_18 (F : FX D a A p m c cc nL s args) (I : IX D a A s H locs u) (hdg : decode cc pc = .ok (.getfield 68, 3)) (kk : ∀ v : Int64, v = u.2 → W p l e R s m args below meth c H locs cells slots Q (F0 m (pc + 3) ls (.long v :: rest))) : W p l e R s m args below meth c H locs cells slots Q (F0 m pc ls (.ref a.1 :: rest)) := va_get (D := D) (ci := 0) (C := RX0) (T := TX0) (N := 20) F.1.1 F.1.2.1 F.1.2.2.2.2 in_X0 F.1.2.2.2.1 F.2.1 I.1 0 rfl rfl 18 (by decide) (F.1.2.2.2.2 _ q52) (fun _ h => h) rfl hdg (kk _ rfl)
theorem gX_19 (F : FX D a A p m c cc nL s args) (I : IX D a A s H locs u) (hdg : decode cc pc = .ok (.getfield 91, 3)) (kk : ∀ v : Int, v = u.1 19 0 → W p l e R s m args below meth c H locs cells slots Q (F0 m (pc + 3) ls (.int (iI v) :: rest))) : W p l e R s m args below meth c H locs cells slots Q (F0 m pc ls (.ref a.1 :: rest)) := va_get (D := D) (ci := 0) (C := RX0) (T := TX0) (N := 20) F.1.1 F.1.2.1 F.1.2.2.2.2 in_X0 F.1.2.2.2.1 F.2.1 I.1 0 rfl rfl 19 (by decide) (F.1.2.2.2.2 _ q53) (fun _ h => h) rfl hdg (kk _ rfl)
theorem pX_3 (F : FX D a A p m c cc nL s args) (I : IX D a A s H locs u) {v : Int} (hdg : decode cc pc = .ok (.putfield 57, 3)) (kk : ∀ (u2 : xSt) (H2 : Heap) (locs2 : List Loc), u2 = (up u.1 3 0 v, u.2) → IX D a A s H2 locs2 u2 → W p l e R s m args below meth c H2 locs2 cells slots Q (F0 m (pc + 3) ls rest)) : W p l e R s m args below meth c H locs cells slots Q (F0 m pc ls (.int (iI v) :: .ref a.1 :: rest)) := by
  refine va_put (D := D) (ci := 0) (v := .int (iI v)) (ty := .int) (C := RX0) (T := TX0) (N := 20) F.1.1 F.1.2.1 F.1.2.2.2.2 in_X0 tyX0 tyX0_ok nmX0 F.1.2.2.2.1 F.2.1 I.1 I.2.1 I.2.2 0 rfl rfl 3 (by decide) (F.1.2.2.2.2 _ q37) (fun _ h => h) rfl (by decide +kernel) (vp_nar_int _) rfl (Nat.le_of_ble_eq_true rfl) hdg (fun H2 locs2 hP hD hS => ?_)
  exact kk (up u.1 3 0 v, u.2) H2 locs2 rfl ⟨hP, hD, hS⟩
theorem pX_13 (F : FX D a A p m c cc nL s args) (I : IX D a A s H locs u) {v : Int} (hv : v = 0 ∨ v = 1) (hdg : decode cc pc = .ok (.putfield 72, 3)) (kk : ∀ (u2 : xSt) (H2 : Heap) (locs2 : List Loc), u2 = (up u.1 13 0 v, u.2) → IX D a A s H2 locs2 u2 → W p l e R s m args below meth c H2 locs2 cells slots Q (F0 m (pc + 3) ls rest)) : W p l e R s m args below meth c H locs cells slots Q (F0 m pc ls (.int (iI v) :: .ref a.1 :: rest)) := by
  refine va_put (D := D) (ci := 0) (v := .int (iI v)) (ty := .boolean) (C := RX0) (T := TX0) (N := 20) F.1.1 F.1.2.1 F.1.2.2.2.2 in_X0 tyX0 tyX0_ok nmX0 F.1.2.2.2.1 F.2.1 I.1 I.2.1 I.2.2 0 rfl rfl 13 (by decide) (F.1.2.2.2.2 _ q47) (fun _ h => h) rfl (by decide +kernel) (by rcases hv with rfl | rfl <;> rfl) (by rcases hv with rfl | rfl <;> rfl) (Nat.le_of_ble_eq_true rfl) hdg (fun H2 locs2 hP hD hS => ?_)
  exact kk (up u.1 13 0 v, u.2) H2 locs2 rfl ⟨hP, hD, hS⟩
theorem pX_14 (F : FX D a A p m c cc nL s args) (I : IX D a A s H locs u) {v : Int} (hdg : decode cc pc = .ok (.putfield 75, 3)) (kk : ∀ (u2 : xSt) (H2 : Heap) (locs2 : List Loc), u2 = (up u.1 14 0 v, u.2) → IX D a A s H2 locs2 u2 → W p l e R s m args below meth c H2 locs2 cells slots Q (F0 m (pc + 3) ls rest)) : W p l e R s m args below meth c H locs cells slots Q (F0 m pc ls (.int (iI v) :: .ref a.1 :: rest)) := by
  refine va_put (D := D) (ci := 0) (v := .int (iI v)) (ty := .int) (C := RX0) (T := TX0) (N := 20) F.1.1 F.1.2.1 F.1.2.2.2.2 in_X0 tyX0 tyX0_ok nmX0 F.1.2.2.2.1 F.2.1 I.1 I.2.1 I.2.2 0 rfl rfl 14 (by decide) (F.1.2.2.2.2 _ q48) (fun _ h => h) rfl (by decide +kernel) (vp_nar_int _) rfl (Nat.le_of_ble_eq_true rfl) hdg (fun H2 locs2 hP hD hS => ?_)
  exact kk (up u.1 14 0 v, u.2) H2 locs2 rfl ⟨hP, hD, hS⟩
theorem pX_15 (F : FX D a A p m c cc nL s args) (I : IX D a A s H locs u) {v : Int} (hdg : decode cc pc = .ok (.putfield 78, 3)) (kk : ∀ (u2 : xSt) (H2 : Heap) (locs2 : List Loc), u2 = (up u.1 15 0 v, u.2) → IX D a A s H2 locs2 u2 → W p l e R s m args below meth c H2 locs2 cells slots Q (F0 m (pc + 3) ls rest)) : W p l e R s m args below meth c H locs cells slots Q (F0 m pc ls (.int (iI v) :: .ref a.1 :: rest)) := by
  refine va_put (D := D) (ci := 0) (v := .int (iI v)) (ty := .int) (C := RX0) (T := TX0) (N := 20) F.1.1 F.1.2.1 F.1.2.2.2.2 in_X0 tyX0 tyX0_ok nmX0 F.1.2.2.2.1 F.2.1 I.1 I.2.1 I.2.2 0 rfl rfl 15 (by decide) (F.1.2.2.2.2 _ q49) (fun _ h => h) rfl (by decide +kernel) (vp_nar_int _) rfl (Nat.le_of_ble_eq_true rfl) hdg (fun H2 locs2 hP hD hS => ?_)
  exact kk (up u.1 15 0 v, u.2) H2 locs2 rfl ⟨hP, hD, hS⟩
theorem pX_16 (F : FX D a A p m c cc nL s args) (I : IX D a A s H locs u) {v : Int} (hv : v = 0 ∨ v = 1) (hdg : decode cc pc = .ok (.putfield 81, 3)) (kk : ∀ (u2 : xSt) (H2 : Heap) (locs2 : List Loc), u2 = (up u.1 16 0 v, u.2) → IX D a A s H2 locs2 u2 → W p l e R s m args below meth c H2 locs2 cells slots Q (F0 m (pc + 3) ls rest)) : W p l e R s m args below meth c H locs cells slots Q (F0 m pc ls (.int (iI v) :: .ref a.1 :: rest)) := by
  refine va_put (D := D) (ci := 0) (v := .int (iI v)) (ty := .boolean) (C := RX0) (T := TX0) (N := 20) F.1.1 F.1.2.1 F.1.2.2.2.2 in_X0 tyX0 tyX0_ok nmX0 F.1.2.2.2.1 F.2.1 I.1 I.2.1 I.2.2 0 rfl rfl 16 (by decide) (F.1.2.2.2.2 _ q50) (fun _ h => h) rfl (by decide +kernel) (by rcases hv with rfl | rfl <;> rfl) (by rcases hv with rfl | rfl <;> rfl) (Nat.le_of_ble_eq_true rfl) hdg (fun H2 locs2 hP hD hS => ?_)
  exact kk (up u.1 16 0 v, u.2) H2 locs2 rfl ⟨hP, hD, hS⟩
theorem pX_17 (F : FX D a A p m c cc nL s args) (I : IX D a A s H locs u) {v : Int} (hv : v = 0 ∨ v = 1) (hdg : decode cc pc = .ok (.putfield 50, 3)) (kk : ∀ (u2 : xSt) (H2 : Heap) (locs2 : List Loc), u2 = (up u.1 17 0 v, u.2) → IX D a A s H2 locs2 u2 → W p l e R s m args below meth c H2 locs2 cells slots Q (F0 m (pc + 3) ls rest)) : W p l e R s m args below meth c H locs cells slots Q (F0 m pc ls (.int (iI v) :: .ref a.1 :: rest)) := by
  refine va_put (D := D) (ci := 0) (v := .int (iI v)) (ty := .boolean) (C := RX0) (T := TX0) (N := 20) F.1.1 F.1.2.1 F.1.2.2.2.2 in_X0 tyX0 tyX0_ok nmX0 F.1.2.2.2.1 F.2.1 I.1 I.2.1 I.2.2 0 rfl rfl 17 (by decide) (F.1.2.2.2.2 _ q51) (fun _ h => h) rfl (by decide +kernel) (by rcases hv with rfl | rfl <;> rfl) (by rcases hv with rfl | rfl <;> rfl) (Nat.le_of_ble_eq_true rfl) hdg (fun H2 locs2 hP hD hS => ?_)
  exact kk (up u.1 17 0 v, u.2) H2 locs2 rfl ⟨hP, hD, hS⟩
theorem pX_18 (F : FX D a A p m c cc nL s args) (I : IX D a A s H locs u) {w : Int64} (hdg : decode cc pc = .ok (.putfield 68, 3)) (kk : ∀ (u2 : xSt) (H2 : Heap) (locs2 : List Loc), u2 = (u.1, w) → IX D a A s H2 locs2 u2 → W p l e R s m args below meth c H2 locs2 cells slots Q (F0 m (pc + 3) ls rest)) : W p l e R s m args below meth c H locs cells slots Q (F0 m pc ls (.long w :: .ref a.1 :: rest)) := by
  refine va_put (D := D) (ci := 0) (v := .long w) (ty := .long) (C := RX0) (T := TX0) (N := 20) F.1.1 F.1.2.1 F.1.2.2.2.2 in_X0 tyX0 tyX0_ok nmX0 F.1.2.2.2.1 F.2.1 I.1 I.2.1 I.2.2 0 rfl rfl 18 (by decide) (F.1.2.2.2.2 _ q52) (fun _ h => h) rfl (by decide +kernel) rfl rfl (Nat.le_of_ble_eq_true rfl) hdg (fun H2 locs2 hP hD hS => ?_)
  exact kk (u.1, w) H2 locs2 rfl ⟨hP, hD, hS⟩
theorem pX_19 (F : FX D a A p m c cc nL s args) (I : IX D a A s H locs u) {v : Int} (hv : v = 0 ∨ v = 1) (hdg : decode cc pc = .ok (.putfield 91, 3)) (kk : ∀ (u2 : xSt) (H2 : Heap) (locs2 : List Loc), u2 = (up u.1 19 0 v, u.2) → IX D a A s H2 locs2 u2 → W p l e R s m args below meth c H2 locs2 cells slots Q (F0 m (pc + 3) ls rest)) : W p l e R s m args below meth c H locs cells slots Q (F0 m pc ls (.int (iI v) :: .ref a.1 :: rest)) := by
  refine va_put (D := D) (ci := 0) (v := .int (iI v)) (ty := .boolean) (C := RX0) (T := TX0) (N := 20) F.1.1 F.1.2.1 F.1.2.2.2.2 in_X0 tyX0 tyX0_ok nmX0 F.1.2.2.2.1 F.2.1 I.1 I.2.1 I.2.2 0 rfl rfl 19 (by decide) (F.1.2.2.2.2 _ q53) (fun _ h => h) rfl (by decide +kernel) (by rcases hv with rfl | rfl <;> rfl) (by rcases hv with rfl | rfl <;> rfl) (Nat.le_of_ble_eq_true rfl) hdg (fun H2 locs2 hP hD hS => ?_)
  exact kk (up u.1 19 0 v, u.2) H2 locs2 rfl ⟨hP, hD, hS⟩
theorem ldX_0 (F : FX D a A p m c cc nL s args) (I : IX D a A s H locs u) {x : Int} (h : 0 ≤ x ∧ x < 2) (hdg : decode cc pc = .ok (.baload, 1)) (kk : ∀ v : Int, v = u.1 0 x → W p l e R s m args below meth c H locs cells slots Q (F0 m (pc + 1) ls (.int (iI v) :: rest))) : W p l e R s m args below meth c H locs cells slots Q (F0 m pc ls (.int (iI x) :: .ref (a.2.1 0) :: rest)) := by
  refine va_bald F.1.1 F.1.2.1 F.2.1 I.1 1 0 rfl rfl (iI_in h (by decide)) hdg ?_
  have e1 : (((iI x).toNatClampNeg : Nat) : Int) = x := iI_cI h.1 (by omega)
  exact kk _ (by rw [e1])
theorem stX_0 (F : FX D a A p m c cc nL s args) (I : IX D a A s H locs u) {x v : Int} (h : 0 ≤ x ∧ x < 2) (hv : -128 ≤ v ∧ v < 128) (hdg : decode cc pc = .ok (.bastore, 1)) (kk : ∀ (u2 : xSt) (H2 : Heap) (locs2 : List Loc), u2 = (up u.1 0 x v, u.2) → IX D a A s H2 locs2 u2 → W p l e R s m args below meth c H2 locs2 cells slots Q (F0 m (pc + 1) ls rest)) : W p l e R s m args below meth c H locs cells slots Q (F0 m pc ls (.int (iI v) :: .int (iI x) :: .ref (a.2.1 0) :: rest)) := by
  refine va_bast F.1.1 F.1.2.1 F.2.1 I.1 I.2.1 I.2.2 1 0 rfl rfl (iI_in h (by decide)) hdg (fun H2 locs2 hP hD hS => ?_)
  rw [upd_up u.1 0 h.1 (by omega) (iI_nb hv)] at hP hD
  exact kk (up u.1 0 x v, u.2) H2 locs2 rfl ⟨hP, hD, hS⟩
theorem ldX_1 (F : FX D a A p m c cc nL s args) (I : IX D a A s H locs u) {x : Int} (h : 0 ≤ x ∧ x < 10) (hdg : decode cc pc = .ok (.baload, 1)) (kk : ∀ v : Int, v = u.1 1 x → W p l e R s m args below meth c H locs cells slots Q (F0 m (pc + 1) ls (.int (iI v) :: rest))) : W p l e R s m args below meth c H locs cells slots Q (F0 m pc ls (.int (iI x) :: .ref (a.2.1 1) :: rest)) := by
  refine va_bald F.1.1 F.1.2.1 F.2.1 I.1 2 1 rfl rfl (iI_in h (by decide)) hdg ?_
  have e1 : (((iI x).toNatClampNeg : Nat) : Int) = x := iI_cI h.1 (by omega)
  exact kk _ (by rw [e1])
theorem stX_1 (F : FX D a A p m c cc nL s args) (I : IX D a A s H locs u) {x v : Int} (h : 0 ≤ x ∧ x < 10) (hv : -128 ≤ v ∧ v < 128) (hdg : decode cc pc = .ok (.bastore, 1)) (kk : ∀ (u2 : xSt) (H2 : Heap) (locs2 : List Loc), u2 = (up u.1 1 x v, u.2) → IX D a A s H2 locs2 u2 → W p l e R s m args below meth c H2 locs2 cells slots Q (F0 m (pc + 1) ls rest)) : W p l e R s m args below meth c H locs cells slots Q (F0 m pc ls (.int (iI v) :: .int (iI x) :: .ref (a.2.1 1) :: rest)) := by
  refine va_bast F.1.1 F.1.2.1 F.2.1 I.1 I.2.1 I.2.2 2 1 rfl rfl (iI_in h (by decide)) hdg (fun H2 locs2 hP hD hS => ?_)
  rw [upd_up u.1 1 h.1 (by omega) (iI_nb hv)] at hP hD
  exact kk (up u.1 1 x v, u.2) H2 locs2 rfl ⟨hP, hD, hS⟩
theorem ldX_2 (F : FX D a A p m c cc nL s args) (I : IX D a A s H locs u) {x : Int} (h : 0 ≤ x ∧ x < 10) (hdg : decode cc pc = .ok (.baload, 1)) (kk : ∀ v : Int, v = u.1 2 x → W p l e R s m args below meth c H locs cells slots Q (F0 m (pc + 1) ls (.int (iI v) :: rest))) : W p l e R s m args below meth c H locs cells slots Q (F0 m pc ls (.int (iI x) :: .ref (a.2.1 2) :: rest)) := by
  refine va_bald F.1.1 F.1.2.1 F.2.1 I.1 3 2 rfl rfl (iI_in h (by decide)) hdg ?_
  have e1 : (((iI x).toNatClampNeg : Nat) : Int) = x := iI_cI h.1 (by omega)
  exact kk _ (by rw [e1])
theorem stX_2 (F : FX D a A p m c cc nL s args) (I : IX D a A s H locs u) {x v : Int} (h : 0 ≤ x ∧ x < 10) (hv : -128 ≤ v ∧ v < 128) (hdg : decode cc pc = .ok (.bastore, 1)) (kk : ∀ (u2 : xSt) (H2 : Heap) (locs2 : List Loc), u2 = (up u.1 2 x v, u.2) → IX D a A s H2 locs2 u2 → W p l e R s m args below meth c H2 locs2 cells slots Q (F0 m (pc + 1) ls rest)) : W p l e R s m args below meth c H locs cells slots Q (F0 m pc ls (.int (iI v) :: .int (iI x) :: .ref (a.2.1 2) :: rest)) := by
  refine va_bast F.1.1 F.1.2.1 F.2.1 I.1 I.2.1 I.2.2 3 2 rfl rfl (iI_in h (by decide)) hdg (fun H2 locs2 hP hD hS => ?_)
  rw [upd_up u.1 2 h.1 (by omega) (iI_nb hv)] at hP hD
  exact kk (up u.1 2 x v, u.2) H2 locs2 rfl ⟨hP, hD, hS⟩
theorem ldX_4 (F : FX D a A p m c cc nL s args) (I : IX D a A s H locs u) {x : Int} (h : 0 ≤ x ∧ x < 2) (hdg : decode cc pc = .ok (.baload, 1)) (kk : ∀ v : Int, v = u.1 4 x → W p l e R s m args below meth c H locs cells slots Q (F0 m (pc + 1) ls (.int (iI v) :: rest))) : W p l e R s m args below meth c H locs cells slots Q (F0 m pc ls (.int (iI x) :: .ref (a.2.1 4) :: rest)) := by
  refine va_bald F.1.1 F.1.2.1 F.2.1 I.1 4 3 rfl rfl (iI_in h (by decide)) hdg ?_
  have e1 : (((iI x).toNatClampNeg : Nat) : Int) = x := iI_cI h.1 (by omega)
  exact kk _ (by rw [e1])
theorem stX_4 (F : FX D a A p m c cc nL s args) (I : IX D a A s H locs u) {x v : Int} (h : 0 ≤ x ∧ x < 2) (hv : -128 ≤ v ∧ v < 128) (hdg : decode cc pc = .ok (.bastore, 1)) (kk : ∀ (u2 : xSt) (H2 : Heap) (locs2 : List Loc), u2 = (up u.1 4 x v, u.2) → IX D a A s H2 locs2 u2 → W p l e R s m args below meth c H2 locs2 cells slots Q (F0 m (pc + 1) ls rest)) : W p l e R s m args below meth c H locs cells slots Q (F0 m pc ls (.int (iI v) :: .int (iI x) :: .ref (a.2.1 4) :: rest)) := by
  refine va_bast F.1.1 F.1.2.1 F.2.1 I.1 I.2.1 I.2.2 4 3 rfl rfl (iI_in h (by decide)) hdg (fun H2 locs2 hP hD hS => ?_)
  rw [upd_up u.1 4 h.1 (by omega) (iI_nb hv)] at hP hD
  exact kk (up u.1 4 x v, u.2) H2 locs2 rfl ⟨hP, hD, hS⟩
theorem ldX_5 (F : FX D a A p m c cc nL s args) (I : IX D a A s H locs u) {x : Int} (h : 0 ≤ x ∧ x < 2) (hdg : decode cc pc = .ok (.baload, 1)) (kk : ∀ v : Int, v = u.1 5 x → W p l e R s m args below meth c H locs cells slots Q (F0 m (pc + 1) ls (.int (iI v) :: rest))) : W p l e R s m args below meth c H locs cells slots Q (F0 m pc ls (.int (iI x) :: .ref (a.2.1 5) :: rest)) := by
  refine va_bald F.1.1 F.1.2.1 F.2.1 I.1 5 4 rfl rfl (iI_in h (by decide)) hdg ?_
  have e1 : (((iI x).toNatClampNeg : Nat) : Int) = x := iI_cI h.1 (by omega)
  exact kk _ (by rw [e1])
theorem stX_5 (F : FX D a A p m c cc nL s args) (I : IX D a A s H locs u) {x v : Int} (h : 0 ≤ x ∧ x < 2) (hv : -128 ≤ v ∧ v < 128) (hdg : decode cc pc = .ok (.bastore, 1)) (kk : ∀ (u2 : xSt) (H2 : Heap) (locs2 : List Loc), u2 = (up u.1 5 x v, u.2) → IX D a A s H2 locs2 u2 → W p l e R s m args below meth c H2 locs2 cells slots Q (F0 m (pc + 1) ls rest)) : W p l e R s m args below meth c H locs cells slots Q (F0 m pc ls (.int (iI v) :: .int (iI x) :: .ref (a.2.1 5) :: rest)) := by
  refine va_bast F.1.1 F.1.2.1 F.2.1 I.1 I.2.1 I.2.2 5 4 rfl rfl (iI_in h (by decide)) hdg (fun H2 locs2 hP hD hS => ?_)
  rw [upd_up u.1 5 h.1 (by omega) (iI_nb hv)] at hP hD
  exact kk (up u.1 5 x v, u.2) H2 locs2 rfl ⟨hP, hD, hS⟩
theorem ldX_6 (F : FX D a A p m c cc nL s args) (I : IX D a A s H locs u) {x : Int} (h : 0 ≤ x ∧ x < 2) (hdg : decode cc pc = .ok (.baload, 1)) (kk : ∀ v : Int, v = u.1 6 x → W p l e R s m args below meth c H locs cells slots Q (F0 m (pc + 1) ls (.int (iI v) :: rest))) : W p l e R s m args below meth c H locs cells slots Q (F0 m pc ls (.int (iI x) :: .ref (a.2.1 6) :: rest)) := by
  refine va_bald F.1.1 F.1.2.1 F.2.1 I.1 6 5 rfl rfl (iI_in h (by decide)) hdg ?_
  have e1 : (((iI x).toNatClampNeg : Nat) : Int) = x := iI_cI h.1 (by omega)
  exact kk _ (by rw [e1])
theorem stX_6 (F : FX D a A p m c cc nL s args) (I : IX D a A s H locs u) {x v : Int} (h : 0 ≤ x ∧ x < 2) (hv : -128 ≤ v ∧ v < 128) (hdg : decode cc pc = .ok (.bastore, 1)) (kk : ∀ (u2 : xSt) (H2 : Heap) (locs2 : List Loc), u2 = (up u.1 6 x v, u.2) → IX D a A s H2 locs2 u2 → W p l e R s m args below meth c H2 locs2 cells slots Q (F0 m (pc + 1) ls rest)) : W p l e R s m args below meth c H locs cells slots Q (F0 m pc ls (.int (iI v) :: .int (iI x) :: .ref (a.2.1 6) :: rest)) := by
  refine va_bast F.1.1 F.1.2.1 F.2.1 I.1 I.2.1 I.2.2 6 5 rfl rfl (iI_in h (by decide)) hdg (fun H2 locs2 hP hD hS => ?_)
  rw [upd_up u.1 6 h.1 (by omega) (iI_nb hv)] at hP hD
  exact kk (up u.1 6 x v, u.2) H2 locs2 rfl ⟨hP, hD, hS⟩
theorem ldX_7 (F : FX D a A p m c cc nL s args) (I : IX D a A s H locs u) {x : Int} (h : 0 ≤ x ∧ x < 6) (hdg : decode cc pc = .ok (.baload, 1)) (kk : ∀ v : Int, v = u.1 7 x → W p l e R s m args below meth c H locs cells slots Q (F0 m (pc + 1) ls (.int (iI v) :: rest))) : W p l e R s m args below meth c H locs cells slots Q (F0 m pc ls (.int (iI x) :: .ref (a.2.1 7) :: rest)) := by
  refine va_bald F.1.1 F.1.2.1 F.2.1 I.1 7 6 rfl rfl (iI_in h (by decide)) hdg ?_
  have e1 : (((iI x).toNatClampNeg : Nat) : Int) = x := iI_cI h.1 (by omega)
  exact kk _ (by rw [e1])
theorem stX_7 (F : FX D a A p m c cc nL s args) (I : IX D a A s H locs u) {x v : Int} (h : 0 ≤ x ∧ x < 6) (hv : -128 ≤ v ∧ v < 128) (hdg : decode cc pc = .ok (.bastore, 1)) (kk : ∀ (u2 : xSt) (H2 : Heap) (locs2 : List Loc), u2 = (up u.1 7 x v, u.2) → IX D a A s H2 locs2 u2 → W p l e R s m args below meth c H2 locs2 cells slots Q (F0 m (pc + 1) ls rest)) : W p l e R s m args below meth c H locs cells slots Q (F0 m pc ls (.int (iI v) :: .int (iI x) :: .ref (a.2.1 7) :: rest)) := by
  refine va_bast F.1.1 F.1.2.1 F.2.1 I.1 I.2.1 I.2.2 7 6 rfl rfl (iI_in h (by decide)) hdg (fun H2 locs2 hP hD hS => ?_)
  rw [upd_up u.1 7 h.1 (by omega) (iI_nb hv)] at hP hD
  exact kk (up u.1 7 x v, u.2) H2 locs2 rfl ⟨hP, hD, hS⟩
theorem ldX_8 (F : FX D a A p m c cc nL s args) (I : IX D a A s H locs u) {x : Int} (h : 0 ≤ x ∧ x < 6) (hdg : decode cc pc = .ok (.baload, 1)) (kk : ∀ v : Int, v = u.1 8 x → W p l e R s m args below meth c H locs cells slots Q (F0 m (pc + 1) ls (.int (iI v) :: rest))) : W p l e R s m args below meth c H locs cells slots Q (F0 m pc ls (.int (iI x) :: .ref (a.2.1 8) :: rest)) := by
  refine va_bald F.1.1 F.1.2.1 F.2.1 I.1 8 7 rfl rfl (iI_in h (by decide)) hdg ?_
  have e1 : (((iI x).toNatClampNeg : Nat) : Int) = x := iI_cI h.1 (by omega)
  exact kk _ (by rw [e1])
theorem stX_8 (F : FX D a A p m c cc nL s args) (I : IX D a A s H locs u) {x v : Int} (h : 0 ≤ x ∧ x < 6) (hv : -128 ≤ v ∧ v < 128) (hdg : decode cc pc = .ok (.bastore, 1)) (kk : ∀ (u2 : xSt) (H2 : Heap) (locs2 : List Loc), u2 = (up u.1 8 x v, u.2) → IX D a A s H2 locs2 u2 → W p l e R s m args below meth c H2 locs2 cells slots Q (F0 m (pc + 1) ls rest)) : W p l e R s m args below meth c H locs cells slots Q (F0 m pc ls (.int (iI v) :: .int (iI x) :: .ref (a.2.1 8) :: rest)) := by
  refine va_bast F.1.1 F.1.2.1 F.2.1 I.1 I.2.1 I.2.2 8 7 rfl rfl (iI_in h (by decide)) hdg (fun H2 locs2 hP hD hS => ?_)
  rw [upd_up u.1 8 h.1 (by omega) (iI_nb hv)] at hP hD
  exact kk (up u.1 8 x v, u.2) H2 locs2 rfl ⟨hP, hD, hS⟩
theorem ldX_9 (F : FX D a A p m c cc nL s args) (I : IX D a A s H locs u) {x : Int} (h : 0 ≤ x ∧ x < 6) (hdg : decode cc pc = .ok (.baload, 1)) (kk : ∀ v : Int, v = u.1 9 x → W p l e R s m args below meth c H locs cells slots Q (F0 m (pc + 1) ls (.int (iI v) :: rest))) : W p l e R s m args below meth c H locs cells slots Q (F0 m pc ls (.int (iI x) :: .ref (a.2.1 9) :: rest)) := by
  refine va_bald F.1.1 F.1.2.1 F.2.1 I.1 9 8 rfl rfl (iI_in h (by decide)) hdg ?_
  have e1 : (((iI x).toNatClampNeg : Nat) : Int) = x := iI_cI h.1 (by omega)
  exact kk _ (by rw [e1])
theorem stX_9 (F : FX D a A p m c cc nL s args) (I : IX D a A s H locs u) {x v : Int} (h : 0 ≤ x ∧ x < 6) (hv : -128 ≤ v ∧ v < 128) (hdg : decode cc pc = .ok (.bastore, 1)) (kk : ∀ (u2 : xSt) (H2 : Heap) (locs2 : List Loc), u2 = (up u.1 9 x v, u.2) → IX D a A s H2 locs2 u2 → W p l e R s m args below meth c H2 locs2 cells slots Q (F0 m (pc + 1) ls rest)) : W p l e R s m args below meth c H locs cells slots Q (F0 m pc ls (.int (iI v) :: .int (iI x) :: .ref (a.2.1 9) :: rest)) := by
  refine va_bast F.1.1 F.1.2.1 F.2.1 I.1 I.2.1 I.2.2 9 8 rfl rfl (iI_in h (by decide)) hdg (fun H2 locs2 hP hD hS => ?_)
  rw [upd_up u.1 9 h.1 (by omega) (iI_nb hv)] at hP hD
  exact kk (up u.1 9 x v, u.2) H2 locs2 rfl ⟨hP, hD, hS⟩
theorem ldX_10 (F : FX D a A p m c cc nL s args) (I : IX D a A s H locs u) {x : Int} (h : 0 ≤ x ∧ x < 7) (hdg : decode cc pc = .ok (.baload, 1)) (kk : ∀ v : Int, v = u.1 10 x → W p l e R s m args below meth c H locs cells slots Q (F0 m (pc + 1) ls (.int (iI v) :: rest))) : W p l e R s m args below meth c H locs cells slots Q (F0 m pc ls (.int (iI x) :: .ref (a.2.1 10) :: rest)) := by
  refine va_bald F.1.1 F.1.2.1 F.2.1 I.1 10 9 rfl rfl (iI_in h (by decide)) hdg ?_
  have e1 : (((iI x).toNatClampNeg : Nat) : Int) = x := iI_cI h.1 (by omega)
  exact kk _ (by rw [e1])
theorem stX_10 (F : FX D a A p m c cc nL s args) (I : IX D a A s H locs u) {x v : Int} (h : 0 ≤ x ∧ x < 7) (hv : -128 ≤ v ∧ v < 128) (hdg : decode cc pc = .ok (.bastore, 1)) (kk : ∀ (u2 : xSt) (H2 : Heap) (locs2 : List Loc), u2 = (up u.1 10 x v, u.2) → IX D a A s H2 locs2 u2 → W p l e R s m args below meth c H2 locs2 cells slots Q (F0 m (pc + 1) ls rest)) : W p l e R s m args below meth c H locs cells slots Q (F0 m pc ls (.int (iI v) :: .int (iI x) :: .ref (a.2.1 10) :: rest)) := by
  refine va_bast F.1.1 F.1.2.1 F.2.1 I.1 I.2.1 I.2.2 10 9 rfl rfl (iI_in h (by decide)) hdg (fun H2 locs2 hP hD hS => ?_)
  rw [upd_up u.1 10 h.1 (by omega) (iI_nb hv)] at hP hD
  exact kk (up u.1 10 x v, u.2) H2 locs2 rfl ⟨hP, hD, hS⟩
theorem ldX_11 (F : FX D a A p m c cc nL s args) (I : IX D a A s H locs u) {x : Int} (h : 0 ≤ x ∧ x < 4) (hdg : decode cc pc = .ok (.baload, 1)) (kk : ∀ v : Int, v = u.1 11 x → W p l e R s m args below meth c H locs cells slots Q (F0 m (pc + 1) ls (.int (iI v) :: rest))) : W p l e R s m args below meth c H locs cells slots Q (F0 m pc ls (.int (iI x) :: .ref (a.2.1 11) :: rest)) := by
  refine va_bald F.1.1 F.1.2.1 F.2.1 I.1 11 10 rfl rfl (iI_in h (by decide)) hdg ?_
  have e1 : (((iI x).toNatClampNeg : Nat) : Int) = x := iI_cI h.1 (by omega)
  exact kk _ (by rw [e1])
theorem stX_11 (F : FX D a A p m c cc nL s args) (I : IX D a A s H locs u) {x v : Int} (h : 0 ≤ x ∧ x < 4) (hv : -128 ≤ v ∧ v < 128) (hdg : decode cc pc = .ok (.bastore, 1)) (kk : ∀ (u2 : xSt) (H2 : Heap) (locs2 : List Loc), u2 = (up u.1 11 x v, u.2) → IX D a A s H2 locs2 u2 → W p l e R s m args below meth c H2 locs2 cells slots Q (F0 m (pc + 1) ls rest)) : W p l e R s m args below meth c H locs cells slots Q (F0 m pc ls (.int (iI v) :: .int (iI x) :: .ref (a.2.1 11) :: rest)) := by
  refine va_bast F.1.1 F.1.2.1 F.2.1 I.1 I.2.1 I.2.2 11 10 rfl rfl (iI_in h (by decide)) hdg (fun H2 locs2 hP hD hS => ?_)
  rw [upd_up u.1 11 h.1 (by omega) (iI_nb hv)] at hP hD
  exact kk (up u.1 11 x v, u.2) H2 locs2 rfl ⟨hP, hD, hS⟩
theorem ldX_12 (F : FX D a A p m c cc nL s args) (I : IX D a A s H locs u) {x : Int} (h : 0 ≤ x ∧ x < 28) (hdg : decode cc pc = .ok (.baload, 1)) (kk : ∀ v : Int, v = u.1 12 x → W p l e R s m args below meth c H locs cells slots Q (F0 m (pc + 1) ls (.int (iI v) :: rest))) : W p l e R s m args below meth c H locs cells slots Q (F0 m pc ls (.int (iI x) :: .ref (a.2.1 12) :: rest)) := by
  refine va_bald F.1.1 F.1.2.1 F.2.1 I.1 12 11 rfl rfl (iI_in h (by decide)) hdg ?_
  have e1 : (((iI x).toNatClampNeg : Nat) : Int) = x := iI_cI h.1 (by omega)
  exact kk _ (by rw [e1])
theorem stX_12 (F : FX D a A p m c cc nL s args) (I : IX D a A s H locs u) {x v : Int} (h : 0 ≤ x ∧ x < 28) (hv : -128 ≤ v ∧ v < 128) (hdg : decode cc pc = .ok (.bastore, 1)) (kk : ∀ (u2 : xSt) (H2 : Heap) (locs2 : List Loc), u2 = (up u.1 12 x v, u.2) → IX D a A s H2 locs2 u2 → W p l e R s m args below meth c H2 locs2 cells slots Q (F0 m (pc + 1) ls rest)) : W p l e R s m args below meth c H locs cells slots Q (F0 m pc ls (.int (iI v) :: .int (iI x) :: .ref (a.2.1 12) :: rest)) := by
  refine va_bast F.1.1 F.1.2.1 F.2.1 I.1 I.2.1 I.2.2 12 11 rfl rfl (iI_in h (by decide)) hdg (fun H2 locs2 hP hD hS => ?_)
  rw [upd_up u.1 12 h.1 (by omega) (iI_nb hv)] at hP hD
  exact kk (up u.1 12 x v, u.2) H2 locs2 rfl ⟨hP, hD, hS⟩
theorem frX (I : IX D a A s H locs u) (hA : ∀ q : Nat, s.heap.size ≤ q → A q) : ∀ q, va_A (wX a u) H.size q → A q := by
  intro q h
  rcases h with ⟨k, e, h⟩ | h
  · exact I.2.1.2 k (q, e) h
  · exact hA q (Nat.le_trans I.2.2.1 h)
theorem caXi {y : MethodName} {bytes : ByteArray} {maxL index : Nat} {ret : Option FieldType} {rm : Room} {As st : List Value} {post : Int → xSt → Prop} (F : FX D a A p m c cc nL s args) (I : IX D a A s H locs u) (hM : MXi l D a y bytes maxL ret rm As u post) (hw : GoodIn lw_all (wsV RX0 index RX0 y (ws_ y bytes maxL ret))) (hd : y.cls = RX0 ∧ y.cls ≠ "java/lang/invoke/MethodHandle" ∧ y.cls ≠ "java/lang/invoke/VarHandle" ∧ (parseMethodDescriptor y.desc).map (fun d => d.parameters.length) = some As.length) (hRm : rm.cells = 0 ∧ rm.slots = 0) (hR : rm.frames + 1 ≤ R.frames ∧ 8 + (maxL + 11) + rm.locals ≤ R.locals) (hl : ls.size = nL) (hst : st = As.reverse ++ .ref a.1 :: rest) (hW : (rest.map fun v => v.category).sum ≤ 8) (hcs : cells ≤ R.cells ∧ slots ≤ R.slots) (hdg : decode cc pc = .ok (.invokevirtual index, 3)) (kk : ∀ (r : Int) (u2 : xSt) (H2 : Heap) (locs2 : List Loc), post r u2 → IX D a A s H2 locs2 u2 → W p l e R s m args below meth c H2 locs2 cells slots Q (F0 m (pc + 3) ls (.int (iI r) :: rest))) : W p l e R s m args below meth c H locs cells slots Q (F0 m pc ls st) := by
  have hF := frX I F.2.2
  refine va_calli (va_runV (As := As) (rest := rest) (C := RX0) F.1 (hM H.size) (cwV As.length F.1.2.2.2.2 hw rfl hRm.1 hRm.2 hd hR) ⟨fun a U g mk q => by obtain ⟨q0, q1, qP, qK, qD⟩ := q; exact ⟨q0, q1, qP, va_K.moved (u := U) (U := U.calling g mk a) (Vm.Alike.refl U.vm) qK, qD⟩, va_recv F.2.1 I.1 (ci := 0) (q0 := 0) rfl rfl, fun U hU hW => ⟨rfl, by rw [hU], by rw [hU]; exact I.1, va_K.moved hW.alike F.2.1, I.2.1.weaken (fun _ _ _ _ => trivial)⟩⟩ rfl rfl hl hst (lv_room hW) hdg hcs) I.2.2 (fun q _ h => hF q h) hF (fun r u2 t H2 locs2 ht hvm hp hB hz hk hS => ?_)
  obtain ⟨ri, rfl, hp⟩ := hp
  obtain ⟨hP1, hK1, hD1⟩ := hB
  rw [ht] at hP1
  exact kk ri u2 H2 locs2 hp ⟨hP1, hD1.weaken (fun k q _ h => hF q.1 h), hS⟩
theorem caXv {y : MethodName} {bytes : ByteArray} {maxL index : Nat} {rm : Room} {As st : List Value} {post : xSt → Prop} (F : FX D a A p m c cc nL s args) (I : IX D a A s H locs u) (hM : MXv l D a y bytes maxL rm As u post) (hw : GoodIn lw_all (wsV RX0 index RX0 y (ws_ y bytes maxL none))) (hd : y.cls = RX0 ∧ y.cls ≠ "java/lang/invoke/MethodHandle" ∧ y.cls ≠ "java/lang/invoke/VarHandle" ∧ (parseMethodDescriptor y.desc).map (fun d => d.parameters.length) = some As.length) (hRm : rm.cells = 0 ∧ rm.slots = 0) (hR : rm.frames + 1 ≤ R.frames ∧ 8 + (maxL + 11) + rm.locals ≤ R.locals) (hl : ls.size = nL) (hst : st = As.reverse ++ .ref a.1 :: rest) (hW : (rest.map fun v => v.category).sum ≤ 8) (hcs : cells ≤ R.cells ∧ slots ≤ R.slots) (hdg : decode cc pc = .ok (.invokevirtual index, 3)) (kk : ∀ (u2 : xSt) (H2 : Heap) (locs2 : List Loc), post u2 → IX D a A s H2 locs2 u2 → W p l e R s m args below meth c H2 locs2 cells slots Q (F0 m (pc + 3) ls rest)) : W p l e R s m args below meth c H locs cells slots Q (F0 m pc ls st) := by
  have hF := frX I F.2.2
  refine va_callv (va_runV (As := As) (rest := rest) (C := RX0) F.1 (hM H.size) (cwV As.length F.1.2.2.2.2 hw rfl hRm.1 hRm.2 hd hR) ⟨fun a U g mk q => by obtain ⟨q0, q1, qP, qK, qD⟩ := q; exact ⟨q0, q1, qP, va_K.moved (u := U) (U := U.calling g mk a) (Vm.Alike.refl U.vm) qK, qD⟩, va_recv F.2.1 I.1 (ci := 0) (q0 := 0) rfl rfl, fun U hU hW => ⟨rfl, by rw [hU], by rw [hU]; exact I.1, va_K.moved hW.alike F.2.1, I.2.1.weaken (fun _ _ _ _ => trivial)⟩⟩ rfl rfl hl hst (lv_room hW) hdg hcs) I.2.2 (fun q _ h => hF q h) hF (fun u2 t H2 locs2 ht hvm hp hB hz hk hS => ?_)
  obtain ⟨hP1, hK1, hD1⟩ := hB
  rw [ht] at hP1
  exact kk u2 H2 locs2 hp ⟨hP1, hD1.weaken (fun k q _ h => hF q.1 h), hS⟩
end ROWSX
/-- a method of the class, from its entry: Q is what its return gives -/
theorem enXi {l : Launch} {D : va_G} {a : xAd} {y : MethodName} {bytes : ByteArray} {maxL : Nat} {rm : Room} {As : List Value} {u : xSt} {post : Int → xSt → Prop} (hy : plainName y.cls = true) (hc : y.cls = RX0) (hlen : (lg_sl (Value.ref a.1 :: As)).length ≤ maxL)
    (body : ∀ (p : Program) (e : Env) (s : State) (m : MethodId) (below : List Frame) (meth : Method) (c : Code) (A : Nat → Prop) (Q : State → Prop) (ls : Array Slot), FX D a A p m c bytes maxL s (Value.ref a.1 :: As).toArray → IX D a A s s.heap [] u → (∀ (r : Int) (u2 : xSt) (H : Heap) (locs : List Loc), post r u2 → IX D a A s H locs u2 → ∀ (pc : Nat) (ls : Array Slot), decode bytes pc = .ok (.ireturn, 1) → W p l e rm s m (Value.ref a.1 :: As).toArray below meth c H locs 0 0 Q (F0 m pc ls [.int (iI r)])) → lv_has ls maxL (lv_args 0 (Value.ref a.1 :: As)) → W p l e rm s m (Value.ref a.1 :: As).toArray below meth c s.heap [] 0 0 Q (F0 m 0 ls [])) : MXi l D a y bytes maxL (some .int) rm As u post := by
  intro sz
  refine Met.ofW (cc := bytes) (maxL := maxL) (ret := (some .int)) hy rfl ?_
  intro p e s m args below meth c s₁ B hml hv
  obtain ⟨rfl, hsz, hP, hK, hD0⟩ := hv
  have hts := atoms_spec (ws := ws_ y bytes maxL (some .int)) B.pre
  have hts : ∀ w ∈ lw_all, w.before _ s = true := fun w h => hts w (List.mem_cons_of_mem _ h)
  have hown : s.vm.findClass RX0 = some m.cls := by rw [← hc]; exact findClass_of_methodNamed B.named
  have hlocks := B.notSynchronized
  subst hsz
  have hD := hD0.self (sz := s.heap.size)
  generalize hAe : va_A (wX a u) s.heap.size = A at hD ⊢
  have hA : ∀ q : Nat, s.heap.size ≤ q → A q := fun q h => by rw [← hAe]; exact Or.inr h
  have hl := lv_entry (Value.ref a.1 :: As) (n := maxL) hlen
  rw [lg_entry_eq]
  generalize (lg_sl (Value.ref a.1 :: As) ++ List.replicate (maxL - (lg_sl (Value.ref a.1 :: As)).length) Slot.unset).toArray = ls at hl ⊢
  have hr := B.returns
  refine body p e s m below meth c A _ ls ⟨⟨B.exec, B.bytes, hml, hown, hts⟩, hK, hA⟩ ⟨hP, hD, va_S.rf⟩ (fun r u2 H locs hp I pc ls hdg => ?_) hl
  exact W.iret B.exec B.bytes hr (fun t ht hW => ⟨⟨iI r, u2, rfl, ⟨r, rfl, hp⟩, by rw [ht]; exact I.1, va_K.moved hW.alike hK, I.2.1⟩, I.2.2.F ht⟩) I.2.2.2.2 hdg
/-- a method of the class, from its entry: Q is what its return gives -/
theorem enXz {l : Launch} {D : va_G} {a : xAd} {y : MethodName} {bytes : ByteArray} {maxL : Nat} {rm : Room} {As : List Value} {u : xSt} {post : Int → xSt → Prop} (hy : plainName y.cls = true) (hc : y.cls = RX0) (hlen : (lg_sl (Value.ref a.1 :: As)).length ≤ maxL)
    (body : ∀ (p : Program) (e : Env) (s : State) (m : MethodId) (below : List Frame) (meth : Method) (c : Code) (A : Nat → Prop) (Q : State → Prop) (ls : Array Slot), FX D a A p m c bytes maxL s (Value.ref a.1 :: As).toArray → IX D a A s s.heap [] u → (∀ (r : Int) (u2 : xSt) (H : Heap) (locs : List Loc), (r = 0 ∨ r = 1) → post r u2 → IX D a A s H locs u2 → ∀ (pc : Nat) (ls : Array Slot), decode bytes pc = .ok (.ireturn, 1) → W p l e rm s m (Value.ref a.1 :: As).toArray below meth c H locs 0 0 Q (F0 m pc ls [.int (iI r)])) → lv_has ls maxL (lv_args 0 (Value.ref a.1 :: As)) → W p l e rm s m (Value.ref a.1 :: As).toArray below meth c s.heap [] 0 0 Q (F0 m 0 ls [])) : MXi l D a y bytes maxL (some .boolean) rm As u post := by
  intro sz
  refine Met.ofW (cc := bytes) (maxL := maxL) (ret := (some .boolean)) hy rfl ?_
  intro p e s m args below meth c s₁ B hml hv
  obtain ⟨rfl, hsz, hP, hK, hD0⟩ := hv
  have hts := atoms_spec (ws := ws_ y bytes maxL (some .boolean)) B.pre
  have hts : ∀ w ∈ lw_all, w.before _ s = true := fun w h => hts w (List.mem_cons_of_mem _ h)
  have hown : s.vm.findClass RX0 = some m.cls := by rw [← hc]; exact findClass_of_methodNamed B.named
  have hlocks := B.notSynchronized
  subst hsz
  have hD := hD0.self (sz := s.heap.size)
  generalize hAe : va_A (wX a u) s.heap.size = A at hD ⊢
  have hA : ∀ q : Nat, s.heap.size ≤ q → A q := fun q h => by rw [← hAe]; exact Or.inr h
  have hl := lv_entry (Value.ref a.1 :: As) (n := maxL) hlen
  rw [lg_entry_eq]
  generalize (lg_sl (Value.ref a.1 :: As) ++ List.replicate (maxL - (lg_sl (Value.ref a.1 :: As)).length) Slot.unset).toArray = ls at hl ⊢
  have hr := B.returns
  refine body p e s m below meth c A _ ls ⟨⟨B.exec, B.bytes, hml, hown, hts⟩, hK, hA⟩ ⟨hP, hD, va_S.rf⟩ (fun r u2 H locs h01 hp I pc ls hdg => ?_) hl
  exact W.zret B.exec B.bytes hr (by rcases h01 with rfl | rfl <;> rfl) (fun t ht hW => ⟨⟨iI r, u2, rfl, ⟨r, rfl, hp⟩, by rw [ht]; exact I.1, va_K.moved hW.alike hK, I.2.1⟩, I.2.2.F ht⟩) I.2.2.2.2 hdg
/-- a method of the class, from its entry: Q is what its return gives -/
theorem enXv {l : Launch} {D : va_G} {a : xAd} {y : MethodName} {bytes : ByteArray} {maxL : Nat} {rm : Room} {As : List Value} {u : xSt} {post : xSt → Prop} (hy : plainName y.cls = true) (hc : y.cls = RX0) (hlen : (lg_sl (Value.ref a.1 :: As)).length ≤ maxL)
    (body : ∀ (p : Program) (e : Env) (s : State) (m : MethodId) (below : List Frame) (meth : Method) (c : Code) (A : Nat → Prop) (Q : State → Prop) (ls : Array Slot), FX D a A p m c bytes maxL s (Value.ref a.1 :: As).toArray → IX D a A s s.heap [] u → (∀ (u2 : xSt) (H : Heap) (locs : List Loc), post u2 → IX D a A s H locs u2 → ∀ (pc : Nat) (ls : Array Slot), decode bytes pc = .ok (.return_, 1) → W p l e rm s m (Value.ref a.1 :: As).toArray below meth c H locs 0 0 Q (F0 m pc ls [])) → lv_has ls maxL (lv_args 0 (Value.ref a.1 :: As)) → W p l e rm s m (Value.ref a.1 :: As).toArray below meth c s.heap [] 0 0 Q (F0 m 0 ls [])) : MXv l D a y bytes maxL rm As u post := by
  intro sz
  refine Met.ofW (cc := bytes) (maxL := maxL) (ret := none) hy rfl ?_
  intro p e s m args below meth c s₁ B hml hv
  obtain ⟨rfl, hsz, hP, hK, hD0⟩ := hv
  have hts := atoms_spec (ws := ws_ y bytes maxL none) B.pre
  have hts : ∀ w ∈ lw_all, w.before _ s = true := fun w h => hts w (List.mem_cons_of_mem _ h)
  have hown : s.vm.findClass RX0 = some m.cls := by rw [← hc]; exact findClass_of_methodNamed B.named
  have hlocks := B.notSynchronized
  subst hsz
  have hD := hD0.self (sz := s.heap.size)
  generalize hAe : va_A (wX a u) s.heap.size = A at hD ⊢
  have hA : ∀ q : Nat, s.heap.size ≤ q → A q := fun q h => by rw [← hAe]; exact Or.inr h
  have hl := lv_entry (Value.ref a.1 :: As) (n := maxL) hlen
  rw [lg_entry_eq]
  generalize (lg_sl (Value.ref a.1 :: As) ++ List.replicate (maxL - (lg_sl (Value.ref a.1 :: As)).length) Slot.unset).toArray = ls at hl ⊢
  have hr := B.returns
  refine body p e s m below meth c A _ ls ⟨⟨B.exec, B.bytes, hml, hown, hts⟩, hK, hA⟩ ⟨hP, hD, va_S.rf⟩ (fun u2 H locs hp I pc ls hdg => ?_) hl
  exact W.vret B.exec B.bytes hr (fun t ht hW => ⟨⟨u2, rfl, hp, by rw [ht]; exact I.1, va_K.moved hW.alike hK, I.2.1⟩, I.2.2.F ht⟩) I.2.2.2.2 hdg
end
section
set_option maxRecDepth 100000
/-- the object's own fields -/
def fM (q : Nat → Nat) (u : xSt) : List Value := [.ref (q 0), .ref (q 1), .int (iI (u.1 2 0)), .ref (q 3), .ref (q 4), .ref (q 5), .ref (q 6), .ref (q 7), .ref (q 8), .ref (q 9), .ref (q 10), .ref (q 11), .int (iI (u.1 12 0))]
/-- the world: the object, its arrays -/
def wM (a : xAd) (u : xSt) : va_W := [(a.1, .inr (1, fM a.2.1 u)), (a.2.1 0, .inl (a.2.2 0, 2, .inl (fun j : Nat => iI (u.1 0 (j : Int))))), (a.2.1 1, .inl (a.2.2 1, 20, .inl (fun j : Nat => iI (u.1 1 (j : Int))))), (a.2.1 3, .inl (a.2.2 3, 4, .inl (fun j : Nat => iI (u.1 3 (j : Int))))), (a.2.1 4, .inl (a.2.2 4, 2, .inl (fun j : Nat => iI (u.1 4 (j : Int))))), (a.2.1 5, .inl (a.2.2 5, 6, .inl (fun j : Nat => iI (u.1 5 (j : Int))))), (a.2.1 6, .inl (a.2.2 6, 12, .inl (fun j : Nat => iI (u.1 6 (j : Int))))), (a.2.1 7, .inl (a.2.2 7, 3, .inl (fun j : Nat => iI (u.1 7 (j : Int))))), (a.2.1 8, .inl (a.2.2 8, 4, .inl (fun j : Nat => iI (u.1 8 (j : Int))))), (a.2.1 9, .inl (a.2.2 9, 49, .inl (fun j : Nat => iI (u.1 9 (j : Int))))), (a.2.1 10, .inl (a.2.2 10, 49, .inl (fun j : Nat => iI (u.1 10 (j : Int))))), (a.2.1 11, .inl (a.2.2 11, 49, .inl (fun j : Nat => iI (u.1 11 (j : Int)))))]
def tM (a : xAd) : List (ClassId × FieldType) := [(a.2.2 0, .int), (a.2.2 1, .int), (a.2.2 3, .int), (a.2.2 4, .int), (a.2.2 5, .int), (a.2.2 6, .int), (a.2.2 7, .int), (a.2.2 8, .int), (a.2.2 9, .boolean), (a.2.2 10, .boolean), (a.2.2 11, .boolean)]
abbrev FM (D : va_G) (a : xAd) (A : Nat → Prop) (p : Program) (m : MethodId) (c : Code) (cc : ByteArray) (nL : Nat) (s : State) (args : Array Value) : Prop := CallFix p m c cc nL s args lw_all RX1 ∧ va_K D vwCl (tM a) s ∧ ∀ q : Nat, s.heap.size ≤ q → A q
abbrev IM (D : va_G) (a : xAd) (A : Nat → Prop) (s : State) (H : Heap) (locs : List Loc) (u : xSt) : Prop := va_P D vwCl (wM a u) H ∧ va_D A (wM a u) ∧ va_S A s.heap H locs
/-- the world behind a method -/
abbrev BM (D : va_G) (a : xAd) (A : Nat → Prop) (u : xSt) (t : State) : Prop := va_P D vwCl (wM a u) t.heap ∧ va_K D vwCl (tM a) t ∧ va_D A (wM a u)
/-- a contract: answer and state behind; nothing is made -/
def MMi (l : Launch) (D : va_G) (a : xAd) (y : MethodName) (bytes : ByteArray) (maxL : Nat) (ret : Option FieldType) (rm : Room) (As : List Value) (u : xSt) (post : Int → xSt → Prop) : Prop := ∀ sz : Nat, Met l y (ws_ y bytes maxL ret) rm (va_Pc (.ref a.1 :: As) (fun U => U.heap.size = sz ∧ va_P D vwCl (wM a u) U.heap ∧ va_K D vwCl (tM a) U ∧ va_D (fun _ => True) (wM a u))) (va_Qi (fun (r : Int32) (u2 : xSt) => ∃ ri : Int, r = iI ri ∧ post ri u2) (BM D a (va_A (wM a u) sz)) (va_A (wM a u) sz)) 0 0 (va_A (wM a u) sz)
def MMv (l : Launch) (D : va_G) (a : xAd) (y : MethodName) (bytes : ByteArray) (maxL : Nat) (rm : Room) (As : List Value) (u : xSt) (post : xSt → Prop) : Prop := ∀ sz : Nat, Met l y (ws_ y bytes maxL none) rm (va_Pc (.ref a.1 :: As) (fun U => U.heap.size = sz ∧ va_P D vwCl (wM a u) U.heap ∧ va_K D vwCl (tM a) U ∧ va_D (fun _ => True) (wM a u))) (va_Qv post (BM D a (va_A (wM a u) sz)) (va_A (wM a u) sz)) 0 0 (va_A (wM a u) sz)
section ROWSM
variable {p : Program} {l : Launch} {e : Env} {R : Room} {s : State} {m : MethodId} {args : Array Value} {below : List Frame} {meth : Method} {c : Code} {H : Heap} {locs : List Loc} {cells slots : Nat} {Q : State → Prop}
variable {cc : ByteArray} {nL : Nat} {pc : Nat} {ls : Array Slot} {rest : List Value} {D : va_G} {a : xAd} {A : Nat → Prop} {u : xSt}
theorem gM_0 (F : FM D a A p m c cc nL s args) (I : IM D a A s H locs u) (hdg : decode cc pc = .ok (.getfield 7, 3)) (kk : W p l e R s m args below meth c H locs cells slots Q (F0 m (pc + 3) ls (.ref (a.2.1 0) :: rest))) : W p l e R s m args below meth c H locs cells slots Q (F0 m pc ls (.ref a.1 :: rest)) := va_get (D := D) (ci := 1) (C := RX1) (T := TX1) (N := 13) F.1.1 F.1.2.1 F.1.2.2.2.2 in_X1 F.1.2.2.2.1 F.2.1 I.1 0 rfl rfl 0 (by decide) (F.1.2.2.2.2 _ q190) (fun _ h => h) rfl hdg kk
theorem gM_1 (F : FM D a A p m c cc nL s args) (I : IM D a A s H locs u) (hdg : decode cc pc = .ok (.getfield 13, 3)) (kk : W p l e R s m args below meth c H locs cells slots Q (F0 m (pc + 3) ls (.ref (a.2.1 1) :: rest))) : W p l e R s m args below meth c H locs cells slots Q (F0 m pc ls (.ref a.1 :: rest)) := va_get (D := D) (ci := 1) (C := RX1) (T := TX1) (N := 13) F.1.1 F.1.2.1 F.1.2.2.2.2 in_X1 F.1.2.2.2.1 F.2.1 I.1 0 rfl rfl 1 (by decide) (F.1.2.2.2.2 _ q191) (fun _ h => h) rfl hdg kk
theorem gM_2 (F : FM D a A p m c cc nL s args) (I : IM D a A s H locs u) (hdg : decode cc pc = .ok (.getfield 16, 3)) (kk : ∀ v : Int, v = u.1 2 0 → W p l e R s m args below meth c H locs cells slots Q (F0 m (pc + 3) ls (.int (iI v) :: rest))) : W p l e R s m args below meth c H locs cells slots Q (F0 m pc ls (.ref a.1 :: rest)) := va_get (D := D) (ci := 1) (C := RX1) (T := TX1) (N := 13) F.1.1 F.1.2.1 F.1.2.2.2.2 in_X1 F.1.2.2.2.1 F.2.1 I.1 0 rfl rfl 2 (by decide) (F.1.2.2.2.2 _ q192) (fun _ h => h) rfl hdg (kk _ rfl)
theorem gM_3 (F : FM D a A p m c cc nL s args) (I : IM D a A s H locs u) (hdg : decode cc pc = .ok (.getfield 20, 3)) (kk : W p l e R s m args below meth c H locs cells slots Q (F0 m (pc + 3) ls (.ref (a.2.1 3) :: rest))) : W p l e R s m args below meth c H locs cells slots Q (F0 m pc ls (.ref a.1 :: rest)) := va_get (D := D) (ci := 1) (C := RX1) (T := TX1) (N := 13) F.1.1 F.1.2.1 F.1.2.2.2.2 in_X1 F.1.2.2.2.1 F.2.1 I.1 0 rfl rfl 3 (by decide) (F.1.2.2.2.2 _ q193) (fun _ h => h) rfl hdg kk
theorem gM_4 (F : FM D a A p m c cc nL s args) (I : IM D a A s H locs u) (hdg : decode cc pc = .ok (.getfield 23, 3)) (kk : W p l e R s m args below meth c H locs cells slots Q (F0 m (pc + 3) ls (.ref (a.2.1 4) :: rest))) : W p l e R s m args below meth c H locs cells slots Q (F0 m pc ls (.ref a.1 :: rest)) := va_get (D := D) (ci := 1) (C := RX1) (T := TX1) (N := 13) F.1.1 F.1.2.1 F.1.2.2.2.2 in_X1 F.1.2.2.2.1 F.2.1 I.1 0 rfl rfl 4 (by decide) (F.1.2.2.2.2 _ q194) (fun _ h => h) rfl hdg kk
theorem gM_5 (F : FM D a A p m c cc nL s args) (I : IM D a A s H locs u) (hdg : decode cc pc = .ok (.getfield 26, 3)) (kk : W p l e R s m args below meth c H locs cells slots Q (F0 m (pc + 3) ls (.ref (a.2.1 5) :: rest))) : W p l e R s m args below meth c H locs cells slots Q (F0 m pc ls (.ref a.1 :: rest)) := va_get (D := D) (ci := 1) (C := RX1) (T := TX1) (N := 13) F.1.1 F.1.2.1 F.1.2.2.2.2 in_X1 F.1.2.2.2.1 F.2.1 I.1 0 rfl rfl 5 (by decide) (F.1.2.2.2.2 _ q195) (fun _ h => h) rfl hdg kk
theorem gM_6 (F : FM D a A p m c cc nL s args) (I : IM D a A s H locs u) (hdg : decode cc pc = .ok (.getfield 29, 3)) (kk : W p l e R s m args below meth c H locs cells slots Q (F0 m (pc + 3) ls (.ref (a.2.1 6) :: rest))) : W p l e R s m args below meth c H locs cells slots Q (F0 m pc ls (.ref a.1 :: rest)) := va_get (D := D) (ci := 1) (C := RX1) (T := TX1) (N := 13) F.1.1 F.1.2.1 F.1.2.2.2.2 in_X1 F.1.2.2.2.1 F.2.1 I.1 0 rfl rfl 6 (by decide) (F.1.2.2.2.2 _ q196) (fun _ h => h) rfl hdg kk
theorem gM_7 (F : FM D a A p m c cc nL s args) (I : IM D a A s H locs u) (hdg : decode cc pc = .ok (.getfield 32, 3)) (kk : W p l e R s m args below meth c H locs cells slots Q (F0 m (pc + 3) ls (.ref (a.2.1 7) :: rest))) : W p l e R s m args below meth c H locs cells slots Q (F0 m pc ls (.ref a.1 :: rest)) := va_get (D := D) (ci := 1) (C := RX1) (T := TX1) (N := 13) F.1.1 F.1.2.1 F.1.2.2.2.2 in_X1 F.1.2.2.2.1 F.2.1 I.1 0 rfl rfl 7 (by decide) (F.1.2.2.2.2 _ q197) (fun _ h => h) rfl hdg kk
theorem gM_8 (F : FM D a A p m c cc nL s args) (I : IM D a A s H locs u) (hdg : decode cc pc = .ok (.getfield 35, 3)) (kk : W p l e R s m args below meth c H locs cells slots Q (F0 m (pc + 3) ls (.ref (a.2.1 8) :: rest))) : W p l e R s m args below meth c H locs cells slots Q (F0 m pc ls (.ref a.1 :: rest)) := va_get (D := D) (ci := 1) (C := RX1) (T := TX1) (N := 13) F.1.1 F.1.2.1 F.1.2.2.2.2 in_X1 F.1.2.2.2.1 F.2.1 I.1 0 rfl rfl 8 (by decide) (F.1.2.2.2.2 _ q198) (fun _ h => h) rfl hdg kk
theorem gM_9 (F : FM D a A p m c cc nL s args) (I : IM D a A s H locs u) (hdg : decode cc pc = .ok (.getfield 38, 3)) (kk : W p l e R s m args below meth c H locs cells slots Q (F0 m (pc + 3) ls (.ref (a.2.1 9) :: rest))) : W p l e R s m args below meth c H locs cells slots Q (F0 m pc ls (.ref a.1 :: rest)) := va_get (D := D) (ci := 1) (C := RX1) (T := TX1) (N := 13) F.1.1 F.1.2.1 F.1.2.2.2.2 in_X1 F.1.2.2.2.1 F.2.1 I.1 0 rfl rfl 9 (by decide) (F.1.2.2.2.2 _ q199) (fun _ h => h) rfl hdg kk
theorem gM_10 (F : FM D a A p m c cc nL s args) (I : IM D a A s H locs u) (hdg : decode cc pc = .ok (.getfield 42, 3)) (kk : W p l e R s m args below meth c H locs cells slots Q (F0 m (pc + 3) ls (.ref (a.2.1 10) :: rest))) : W p l e R s m args below meth c H locs cells slots Q (F0 m pc ls (.ref a.1 :: rest)) := va_get (D := D) (ci := 1) (C := RX1) (T := TX1) (N := 13) F.1.1 F.1.2.1 F.1.2.2.2.2 in_X1 F.1.2.2.2.1 F.2.1 I.1 0 rfl rfl 10 (by decide) (F.1.2.2.2.2 _ q200) (fun _ h => h) rfl hdg kk
theorem gM_11 (F : FM D a A p m c cc nL s args) (I : IM D a A s H locs u) (hdg : decode cc pc = .ok (.getfield 45, 3)) (kk : W p l e R s m args below meth c H locs cells slots Q (F0 m (pc + 3) ls (.ref (a.2.1 11) :: rest))) : W p l e R s m args below meth c H locs cells slots Q (F0 m pc ls (.ref a.1 :: rest)) := va_get (D := D) (ci := 1) (C := RX1) (T := TX1) (N := 13) F.1.1 F.1.2.1 F.1.2.2.2.2 in_X1 F.1.2.2.2.1 F.2.1 I.1 0 rfl rfl 11 (by decide) (F.1.2.2.2.2 _ q201) (fun _ h => h) rfl hdg kk
theorem gM_12 (F : FM D a A p m c cc nL s args) (I : IM D a A s H locs u) (hdg : decode cc pc = .ok (.getfield 76, 3)) (kk : ∀ v : Int, v = u.1 12 0 → W p l e R s m args below meth c H locs cells slots Q (F0 m (pc + 3) ls (.int (iI v) :: rest))) : W p l e R s m args below meth c H locs cells slots Q (F0 m pc ls (.ref a.1 :: rest)) := va_get (D := D) (ci := 1) (C := RX1) (T := TX1) (N := 13) F.1.1 F.1.2.1 F.1.2.2.2.2 in_X1 F.1.2.2.2.1 F.2.1 I.1 0 rfl rfl 12 (by decide) (F.1.2.2.2.2 _ q202) (fun _ h => h) rfl hdg (kk _ rfl)
theorem pM_2 (F : FM D a A p m c cc nL s args) (I : IM D a A s H locs u) {v : Int} (hdg : decode cc pc = .ok (.putfield 16, 3)) (kk : ∀ (u2 : xSt) (H2 : Heap) (locs2 : List Loc), u2 = (up u.1 2 0 v, u.2) → IM D a A s H2 locs2 u2 → W p l e R s m args below meth c H2 locs2 cells slots Q (F0 m (pc + 3) ls rest)) : W p l e R s m args below meth c H locs cells slots Q (F0 m pc ls (.int (iI v) :: .ref a.1 :: rest)) := by
  refine va_put (D := D) (ci := 1) (v := .int (iI v)) (ty := .int) (C := RX1) (T := TX1) (N := 13) F.1.1 F.1.2.1 F.1.2.2.2.2 in_X1 tyX1 tyX1_ok nmX1 F.1.2.2.2.1 F.2.1 I.1 I.2.1 I.2.2 0 rfl rfl 2 (by decide) (F.1.2.2.2.2 _ q192) (fun _ h => h) rfl (by decide +kernel) (vp_nar_int _) rfl (Nat.le_of_ble_eq_true rfl) hdg (fun H2 locs2 hP hD hS => ?_)
  exact kk (up u.1 2 0 v, u.2) H2 locs2 rfl ⟨hP, hD, hS⟩
theorem pM_12 (F : FM D a A p m c cc nL s args) (I : IM D a A s H locs u) {v : Int} (hv : v = 0 ∨ v = 1) (hdg : decode cc pc = .ok (.putfield 76, 3)) (kk : ∀ (u2 : xSt) (H2 : Heap) (locs2 : List Loc), u2 = (up u.1 12 0 v, u.2) → IM D a A s H2 locs2 u2 → W p l e R s m args below meth c H2 locs2 cells slots Q (F0 m (pc + 3) ls rest)) : W p l e R s m args below meth c H locs cells slots Q (F0 m pc ls (.int (iI v) :: .ref a.1 :: rest)) := by
  refine va_put (D := D) (ci := 1) (v := .int (iI v)) (ty := .boolean) (C := RX1) (T := TX1) (N := 13) F.1.1 F.1.2.1 F.1.2.2.2.2 in_X1 tyX1 tyX1_ok nmX1 F.1.2.2.2.1 F.2.1 I.1 I.2.1 I.2.2 0 rfl rfl 12 (by decide) (F.1.2.2.2.2 _ q202) (fun _ h => h) rfl (by decide +kernel) (by rcases hv with rfl | rfl <;> rfl) (by rcases hv with rfl | rfl <;> rfl) (Nat.le_of_ble_eq_true rfl) hdg (fun H2 locs2 hP hD hS => ?_)
  exact kk (up u.1 12 0 v, u.2) H2 locs2 rfl ⟨hP, hD, hS⟩
theorem ldM_0 (F : FM D a A p m c cc nL s args) (I : IM D a A s H locs u) {x : Int} (h : 0 ≤ x ∧ x < 2) (hdg : decode cc pc = .ok (.iaload, 1)) (kk : ∀ v : Int, v = u.1 0 x → W p l e R s m args below meth c H locs cells slots Q (F0 m (pc + 1) ls (.int (iI v) :: rest))) : W p l e R s m args below meth c H locs cells slots Q (F0 m pc ls (.int (iI x) :: .ref (a.2.1 0) :: rest)) := by
  refine va_iald F.1.1 F.1.2.1 F.2.1 I.1 1 0 rfl rfl (iI_in h (by decide)) hdg ?_
  have e1 : (((iI x).toNatClampNeg : Nat) : Int) = x := iI_cI h.1 (by omega)
  exact kk _ (by rw [e1])
theorem stM_0 (F : FM D a A p m c cc nL s args) (I : IM D a A s H locs u) {x v : Int} (h : 0 ≤ x ∧ x < 2) (hdg : decode cc pc = .ok (.iastore, 1)) (kk : ∀ (u2 : xSt) (H2 : Heap) (locs2 : List Loc), u2 = (up u.1 0 x v, u.2) → IM D a A s H2 locs2 u2 → W p l e R s m args below meth c H2 locs2 cells slots Q (F0 m (pc + 1) ls rest)) : W p l e R s m args below meth c H locs cells slots Q (F0 m pc ls (.int (iI v) :: .int (iI x) :: .ref (a.2.1 0) :: rest)) := by
  refine va_iast F.1.1 F.1.2.1 F.2.1 I.1 I.2.1 I.2.2 1 0 rfl rfl (iI_in h (by decide)) hdg (fun H2 locs2 hP hD hS => ?_)
  rw [upd_up u.1 0 h.1 (by omega) rfl] at hP hD
  exact kk (up u.1 0 x v, u.2) H2 locs2 rfl ⟨hP, hD, hS⟩
theorem ldM_1 (F : FM D a A p m c cc nL s args) (I : IM D a A s H locs u) {x : Int} (h : 0 ≤ x ∧ x < 20) (hdg : decode cc pc = .ok (.iaload, 1)) (kk : ∀ v : Int, v = u.1 1 x → W p l e R s m args below meth c H locs cells slots Q (F0 m (pc + 1) ls (.int (iI v) :: rest))) : W p l e R s m args below meth c H locs cells slots Q (F0 m pc ls (.int (iI x) :: .ref (a.2.1 1) :: rest)) := by
  refine va_iald F.1.1 F.1.2.1 F.2.1 I.1 2 1 rfl rfl (iI_in h (by decide)) hdg ?_
  have e1 : (((iI x).toNatClampNeg : Nat) : Int) = x := iI_cI h.1 (by omega)
  exact kk _ (by rw [e1])
theorem stM_1 (F : FM D a A p m c cc nL s args) (I : IM D a A s H locs u) {x v : Int} (h : 0 ≤ x ∧ x < 20) (hdg : decode cc pc = .ok (.iastore, 1)) (kk : ∀ (u2 : xSt) (H2 : Heap) (locs2 : List Loc), u2 = (up u.1 1 x v, u.2) → IM D a A s H2 locs2 u2 → W p l e R s m args below meth c H2 locs2 cells slots Q (F0 m (pc + 1) ls rest)) : W p l e R s m args below meth c H locs cells slots Q (F0 m pc ls (.int (iI v) :: .int (iI x) :: .ref (a.2.1 1) :: rest)) := by
  refine va_iast F.1.1 F.1.2.1 F.2.1 I.1 I.2.1 I.2.2 2 1 rfl rfl (iI_in h (by decide)) hdg (fun H2 locs2 hP hD hS => ?_)
  rw [upd_up u.1 1 h.1 (by omega) rfl] at hP hD
  exact kk (up u.1 1 x v, u.2) H2 locs2 rfl ⟨hP, hD, hS⟩
theorem ldM_3 (F : FM D a A p m c cc nL s args) (I : IM D a A s H locs u) {x : Int} (h : 0 ≤ x ∧ x < 4) (hdg : decode cc pc = .ok (.iaload, 1)) (kk : ∀ v : Int, v = u.1 3 x → W p l e R s m args below meth c H locs cells slots Q (F0 m (pc + 1) ls (.int (iI v) :: rest))) : W p l e R s m args below meth c H locs cells slots Q (F0 m pc ls (.int (iI x) :: .ref (a.2.1 3) :: rest)) := by
  refine va_iald F.1.1 F.1.2.1 F.2.1 I.1 3 2 rfl rfl (iI_in h (by decide)) hdg ?_
  have e1 : (((iI x).toNatClampNeg : Nat) : Int) = x := iI_cI h.1 (by omega)
  exact kk _ (by rw [e1])
theorem stM_3 (F : FM D a A p m c cc nL s args) (I : IM D a A s H locs u) {x v : Int} (h : 0 ≤ x ∧ x < 4) (hdg : decode cc pc = .ok (.iastore, 1)) (kk : ∀ (u2 : xSt) (H2 : Heap) (locs2 : List Loc), u2 = (up u.1 3 x v, u.2) → IM D a A s H2 locs2 u2 → W p l e R s m args below meth c H2 locs2 cells slots Q (F0 m (pc + 1) ls rest)) : W p l e R s m args below meth c H locs cells slots Q (F0 m pc ls (.int (iI v) :: .int (iI x) :: .ref (a.2.1 3) :: rest)) := by
  refine va_iast F.1.1 F.1.2.1 F.2.1 I.1 I.2.1 I.2.2 3 2 rfl rfl (iI_in h (by decide)) hdg (fun H2 locs2 hP hD hS => ?_)
  rw [upd_up u.1 3 h.1 (by omega) rfl] at hP hD
  exact kk (up u.1 3 x v, u.2) H2 locs2 rfl ⟨hP, hD, hS⟩
theorem ldM_4 (F : FM D a A p m c cc nL s args) (I : IM D a A s H locs u) {x : Int} (h : 0 ≤ x ∧ x < 2) (hdg : decode cc pc = .ok (.iaload, 1)) (kk : ∀ v : Int, v = u.1 4 x → W p l e R s m args below meth c H locs cells slots Q (F0 m (pc + 1) ls (.int (iI v) :: rest))) : W p l e R s m args below meth c H locs cells slots Q (F0 m pc ls (.int (iI x) :: .ref (a.2.1 4) :: rest)) := by
  refine va_iald F.1.1 F.1.2.1 F.2.1 I.1 4 3 rfl rfl (iI_in h (by decide)) hdg ?_
  have e1 : (((iI x).toNatClampNeg : Nat) : Int) = x := iI_cI h.1 (by omega)
  exact kk _ (by rw [e1])
theorem stM_4 (F : FM D a A p m c cc nL s args) (I : IM D a A s H locs u) {x v : Int} (h : 0 ≤ x ∧ x < 2) (hdg : decode cc pc = .ok (.iastore, 1)) (kk : ∀ (u2 : xSt) (H2 : Heap) (locs2 : List Loc), u2 = (up u.1 4 x v, u.2) → IM D a A s H2 locs2 u2 → W p l e R s m args below meth c H2 locs2 cells slots Q (F0 m (pc + 1) ls rest)) : W p l e R s m args below meth c H locs cells slots Q (F0 m pc ls (.int (iI v) :: .int (iI x) :: .ref (a.2.1 4) :: rest)) := by
  refine va_iast F.1.1 F.1.2.1 F.2.1 I.1 I.2.1 I.2.2 4 3 rfl rfl (iI_in h (by decide)) hdg (fun H2 locs2 hP hD hS => ?_)
  rw [upd_up u.1 4 h.1 (by omega) rfl] at hP hD
  exact kk (up u.1 4 x v, u.2) H2 locs2 rfl ⟨hP, hD, hS⟩
theorem ldM_5 (F : FM D a A p m c cc nL s args) (I : IM D a A s H locs u) {x : Int} (h : 0 ≤ x ∧ x < 6) (hdg : decode cc pc = .ok (.iaload, 1)) (kk : ∀ v : Int, v = u.1 5 x → W p l e R s m args below meth c H locs cells slots Q (F0 m (pc + 1) ls (.int (iI v) :: rest))) : W p l e R s m args below meth c H locs cells slots Q (F0 m pc ls (.int (iI x) :: .ref (a.2.1 5) :: rest)) := by
  refine va_iald F.1.1 F.1.2.1 F.2.1 I.1 5 4 rfl rfl (iI_in h (by decide)) hdg ?_
  have e1 : (((iI x).toNatClampNeg : Nat) : Int) = x := iI_cI h.1 (by omega)
  exact kk _ (by rw [e1])
theorem stM_5 (F : FM D a A p m c cc nL s args) (I : IM D a A s H locs u) {x v : Int} (h : 0 ≤ x ∧ x < 6) (hdg : decode cc pc = .ok (.iastore, 1)) (kk : ∀ (u2 : xSt) (H2 : Heap) (locs2 : List Loc), u2 = (up u.1 5 x v, u.2) → IM D a A s H2 locs2 u2 → W p l e R s m args below meth c H2 locs2 cells slots Q (F0 m (pc + 1) ls rest)) : W p l e R s m args below meth c H locs cells slots Q (F0 m pc ls (.int (iI v) :: .int (iI x) :: .ref (a.2.1 5) :: rest)) := by
  refine va_iast F.1.1 F.1.2.1 F.2.1 I.1 I.2.1 I.2.2 5 4 rfl rfl (iI_in h (by decide)) hdg (fun H2 locs2 hP hD hS => ?_)
  rw [upd_up u.1 5 h.1 (by omega) rfl] at hP hD
  exact kk (up u.1 5 x v, u.2) H2 locs2 rfl ⟨hP, hD, hS⟩
theorem ldM_6 (F : FM D a A p m c cc nL s args) (I : IM D a A s H locs u) {x : Int} (h : 0 ≤ x ∧ x < 12) (hdg : decode cc pc = .ok (.iaload, 1)) (kk : ∀ v : Int, v = u.1 6 x → W p l e R s m args below meth c H locs cells slots Q (F0 m (pc + 1) ls (.int (iI v) :: rest))) : W p l e R s m args below meth c H locs cells slots Q (F0 m pc ls (.int (iI x) :: .ref (a.2.1 6) :: rest)) := by
  refine va_iald F.1.1 F.1.2.1 F.2.1 I.1 6 5 rfl rfl (iI_in h (by decide)) hdg ?_
  have e1 : (((iI x).toNatClampNeg : Nat) : Int) = x := iI_cI h.1 (by omega)
  exact kk _ (by rw [e1])
theorem stM_6 (F : FM D a A p m c cc nL s args) (I : IM D a A s H locs u) {x v : Int} (h : 0 ≤ x ∧ x < 12) (hdg : decode cc pc = .ok (.iastore, 1)) (kk : ∀ (u2 : xSt) (H2 : Heap) (locs2 : List Loc), u2 = (up u.1 6 x v, u.2) → IM D a A s H2 locs2 u2 → W p l e R s m args below meth c H2 locs2 cells slots Q (F0 m (pc + 1) ls rest)) : W p l e R s m args below meth c H locs cells slots Q (F0 m pc ls (.int (iI v) :: .int (iI x) :: .ref (a.2.1 6) :: rest)) := by
  refine va_iast F.1.1 F.1.2.1 F.2.1 I.1 I.2.1 I.2.2 6 5 rfl rfl (iI_in h (by decide)) hdg (fun H2 locs2 hP hD hS => ?_)
  rw [upd_up u.1 6 h.1 (by omega) rfl] at hP hD
  exact kk (up u.1 6 x v, u.2) H2 locs2 rfl ⟨hP, hD, hS⟩
theorem ldM_7 (F : FM D a A p m c cc nL s args) (I : IM D a A s H locs u) {x : Int} (h : 0 ≤ x ∧ x < 3) (hdg : decode cc pc = .ok (.iaload, 1)) (kk : ∀ v : Int, v = u.1 7 x → W p l e R s m args below meth c H locs cells slots Q (F0 m (pc + 1) ls (.int (iI v) :: rest))) : W p l e R s m args below meth c H locs cells slots Q (F0 m pc ls (.int (iI x) :: .ref (a.2.1 7) :: rest)) := by
  refine va_iald F.1.1 F.1.2.1 F.2.1 I.1 7 6 rfl rfl (iI_in h (by decide)) hdg ?_
  have e1 : (((iI x).toNatClampNeg : Nat) : Int) = x := iI_cI h.1 (by omega)
  exact kk _ (by rw [e1])
theorem stM_7 (F : FM D a A p m c cc nL s args) (I : IM D a A s H locs u) {x v : Int} (h : 0 ≤ x ∧ x < 3) (hdg : decode cc pc = .ok (.iastore, 1)) (kk : ∀ (u2 : xSt) (H2 : Heap) (locs2 : List Loc), u2 = (up u.1 7 x v, u.2) → IM D a A s H2 locs2 u2 → W p l e R s m args below meth c H2 locs2 cells slots Q (F0 m (pc + 1) ls rest)) : W p l e R s m args below meth c H locs cells slots Q (F0 m pc ls (.int (iI v) :: .int (iI x) :: .ref (a.2.1 7) :: rest)) := by
  refine va_iast F.1.1 F.1.2.1 F.2.1 I.1 I.2.1 I.2.2 7 6 rfl rfl (iI_in h (by decide)) hdg (fun H2 locs2 hP hD hS => ?_)
  rw [upd_up u.1 7 h.1 (by omega) rfl] at hP hD
  exact kk (up u.1 7 x v, u.2) H2 locs2 rfl ⟨hP, hD, hS⟩
theorem ldM_8 (F : FM D a A p m c cc nL s args) (I : IM D a A s H locs u) {x : Int} (h : 0 ≤ x ∧ x < 4) (hdg : decode cc pc = .ok (.iaload, 1)) (kk : ∀ v : Int, v = u.1 8 x → W p l e R s m args below meth c H locs cells slots Q (F0 m (pc + 1) ls (.int (iI v) :: rest))) : W p l e R s m args below meth c H locs cells slots Q (F0 m pc ls (.int (iI x) :: .ref (a.2.1 8) :: rest)) := by
  refine va_iald F.1.1 F.1.2.1 F.2.1 I.1 8 7 rfl rfl (iI_in h (by decide)) hdg ?_
  have e1 : (((iI x).toNatClampNeg : Nat) : Int) = x := iI_cI h.1 (by omega)
  exact kk _ (by rw [e1])
theorem stM_8 (F : FM D a A p m c cc nL s args) (I : IM D a A s H locs u) {x v : Int} (h : 0 ≤ x ∧ x < 4) (hdg : decode cc pc = .ok (.iastore, 1)) (kk : ∀ (u2 : xSt) (H2 : Heap) (locs2 : List Loc), u2 = (up u.1 8 x v, u.2) → IM D a A s H2 locs2 u2 → W p l e R s m args below meth c H2 locs2 cells slots Q (F0 m (pc + 1) ls rest)) : W p l e R s m args below meth c H locs cells slots Q (F0 m pc ls (.int (iI v) :: .int (iI x) :: .ref (a.2.1 8) :: rest)) := by
  refine va_iast F.1.1 F.1.2.1 F.2.1 I.1 I.2.1 I.2.2 8 7 rfl rfl (iI_in h (by decide)) hdg (fun H2 locs2 hP hD hS => ?_)
  rw [upd_up u.1 8 h.1 (by omega) rfl] at hP hD
  exact kk (up u.1 8 x v, u.2) H2 locs2 rfl ⟨hP, hD, hS⟩
theorem ldM_9 (F : FM D a A p m c cc nL s args) (I : IM D a A s H locs u) {x : Int} (h : 0 ≤ x ∧ x < 49) (hdg : decode cc pc = .ok (.baload, 1)) (kk : ∀ v : Int, v = u.1 9 x → W p l e R s m args below meth c H locs cells slots Q (F0 m (pc + 1) ls (.int (iI v) :: rest))) : W p l e R s m args below meth c H locs cells slots Q (F0 m pc ls (.int (iI x) :: .ref (a.2.1 9) :: rest)) := by
  refine va_zald F.1.1 F.1.2.1 F.2.1 I.1 9 8 rfl rfl (iI_in h (by decide)) hdg ?_
  have e1 : (((iI x).toNatClampNeg : Nat) : Int) = x := iI_cI h.1 (by omega)
  exact kk _ (by rw [e1])
theorem stM_9 (F : FM D a A p m c cc nL s args) (I : IM D a A s H locs u) {x v : Int} (h : 0 ≤ x ∧ x < 49) (hv : v = 0 ∨ v = 1) (hdg : decode cc pc = .ok (.bastore, 1)) (kk : ∀ (u2 : xSt) (H2 : Heap) (locs2 : List Loc), u2 = (up u.1 9 x v, u.2) → IM D a A s H2 locs2 u2 → W p l e R s m args below meth c H2 locs2 cells slots Q (F0 m (pc + 1) ls rest)) : W p l e R s m args below meth c H locs cells slots Q (F0 m pc ls (.int (iI v) :: .int (iI x) :: .ref (a.2.1 9) :: rest)) := by
  refine va_zast F.1.1 F.1.2.1 F.2.1 I.1 I.2.1 I.2.2 9 8 rfl rfl (iI_in h (by decide)) hdg (fun H2 locs2 hP hD hS => ?_)
  rw [upd_up u.1 9 h.1 (by omega) (iI_nz hv)] at hP hD
  exact kk (up u.1 9 x v, u.2) H2 locs2 rfl ⟨hP, hD, hS⟩
theorem ldM_10 (F : FM D a A p m c cc nL s args) (I : IM D a A s H locs u) {x : Int} (h : 0 ≤ x ∧ x < 49) (hdg : decode cc pc = .ok (.baload, 1)) (kk : ∀ v : Int, v = u.1 10 x → W p l e R s m args below meth c H locs cells slots Q (F0 m (pc + 1) ls (.int (iI v) :: rest))) : W p l e R s m args below meth c H locs cells slots Q (F0 m pc ls (.int (iI x) :: .ref (a.2.1 10) :: rest)) := by
  refine va_zald F.1.1 F.1.2.1 F.2.1 I.1 10 9 rfl rfl (iI_in h (by decide)) hdg ?_
  have e1 : (((iI x).toNatClampNeg : Nat) : Int) = x := iI_cI h.1 (by omega)
  exact kk _ (by rw [e1])
theorem stM_10 (F : FM D a A p m c cc nL s args) (I : IM D a A s H locs u) {x v : Int} (h : 0 ≤ x ∧ x < 49) (hv : v = 0 ∨ v = 1) (hdg : decode cc pc = .ok (.bastore, 1)) (kk : ∀ (u2 : xSt) (H2 : Heap) (locs2 : List Loc), u2 = (up u.1 10 x v, u.2) → IM D a A s H2 locs2 u2 → W p l e R s m args below meth c H2 locs2 cells slots Q (F0 m (pc + 1) ls rest)) : W p l e R s m args below meth c H locs cells slots Q (F0 m pc ls (.int (iI v) :: .int (iI x) :: .ref (a.2.1 10) :: rest)) := by
  refine va_zast F.1.1 F.1.2.1 F.2.1 I.1 I.2.1 I.2.2 10 9 rfl rfl (iI_in h (by decide)) hdg (fun H2 locs2 hP hD hS => ?_)
  rw [upd_up u.1 10 h.1 (by omega) (iI_nz hv)] at hP hD
  exact kk (up u.1 10 x v, u.2) H2 locs2 rfl ⟨hP, hD, hS⟩
theorem ldM_11 (F : FM D a A p m c cc nL s args) (I : IM D a A s H locs u) {x : Int} (h : 0 ≤ x ∧ x < 49) (hdg : decode cc pc = .ok (.baload, 1)) (kk : ∀ v : Int, v = u.1 11 x → W p l e R s m args below meth c H locs cells slots Q (F0 m (pc + 1) ls (.int (iI v) :: rest))) : W p l e R s m args below meth c H locs cells slots Q (F0 m pc ls (.int (iI x) :: .ref (a.2.1 11) :: rest)) := by
  refine va_zald F.1.1 F.1.2.1 F.2.1 I.1 11 10 rfl rfl (iI_in h (by decide)) hdg ?_
  have e1 : (((iI x).toNatClampNeg : Nat) : Int) = x := iI_cI h.1 (by omega)
  exact kk _ (by rw [e1])
theorem stM_11 (F : FM D a A p m c cc nL s args) (I : IM D a A s H locs u) {x v : Int} (h : 0 ≤ x ∧ x < 49) (hv : v = 0 ∨ v = 1) (hdg : decode cc pc = .ok (.bastore, 1)) (kk : ∀ (u2 : xSt) (H2 : Heap) (locs2 : List Loc), u2 = (up u.1 11 x v, u.2) → IM D a A s H2 locs2 u2 → W p l e R s m args below meth c H2 locs2 cells slots Q (F0 m (pc + 1) ls rest)) : W p l e R s m args below meth c H locs cells slots Q (F0 m pc ls (.int (iI v) :: .int (iI x) :: .ref (a.2.1 11) :: rest)) := by
  refine va_zast F.1.1 F.1.2.1 F.2.1 I.1 I.2.1 I.2.2 11 10 rfl rfl (iI_in h (by decide)) hdg (fun H2 locs2 hP hD hS => ?_)
  rw [upd_up u.1 11 h.1 (by omega) (iI_nz hv)] at hP hD
  exact kk (up u.1 11 x v, u.2) H2 locs2 rfl ⟨hP, hD, hS⟩
theorem frM (I : IM D a A s H locs u) (hA : ∀ q : Nat, s.heap.size ≤ q → A q) : ∀ q, va_A (wM a u) H.size q → A q := by
  intro q h
  rcases h with ⟨k, e, h⟩ | h
  · exact I.2.1.2 k (q, e) h
  · exact hA q (Nat.le_trans I.2.2.1 h)
theorem caMi {y : MethodName} {bytes : ByteArray} {maxL index : Nat} {ret : Option FieldType} {rm : Room} {As st : List Value} {post : Int → xSt → Prop} (F : FM D a A p m c cc nL s args) (I : IM D a A s H locs u) (hM : MMi l D a y bytes maxL ret rm As u post) (hw : GoodIn lw_all (wsV RX1 index RX1 y (ws_ y bytes maxL ret))) (hd : y.cls = RX1 ∧ y.cls ≠ "java/lang/invoke/MethodHandle" ∧ y.cls ≠ "java/lang/invoke/VarHandle" ∧ (parseMethodDescriptor y.desc).map (fun d => d.parameters.length) = some As.length) (hRm : rm.cells = 0 ∧ rm.slots = 0) (hR : rm.frames + 1 ≤ R.frames ∧ 8 + (maxL + 11) + rm.locals ≤ R.locals) (hl : ls.size = nL) (hst : st = As.reverse ++ .ref a.1 :: rest) (hW : (rest.map fun v => v.category).sum ≤ 8) (hcs : cells ≤ R.cells ∧ slots ≤ R.slots) (hdg : decode cc pc = .ok (.invokevirtual index, 3)) (kk : ∀ (r : Int) (u2 : xSt) (H2 : Heap) (locs2 : List Loc), post r u2 → IM D a A s H2 locs2 u2 → W p l e R s m args below meth c H2 locs2 cells slots Q (F0 m (pc + 3) ls (.int (iI r) :: rest))) : W p l e R s m args below meth c H locs cells slots Q (F0 m pc ls st) := by
  have hF := frM I F.2.2
  refine va_calli (va_runV (As := As) (rest := rest) (C := RX1) F.1 (hM H.size) (cwV As.length F.1.2.2.2.2 hw rfl hRm.1 hRm.2 hd hR) ⟨fun a U g mk q => by obtain ⟨q0, q1, qP, qK, qD⟩ := q; exact ⟨q0, q1, qP, va_K.moved (u := U) (U := U.calling g mk a) (Vm.Alike.refl U.vm) qK, qD⟩, va_recv F.2.1 I.1 (ci := 1) (q0 := 0) rfl rfl, fun U hU hW => ⟨rfl, by rw [hU], by rw [hU]; exact I.1, va_K.moved hW.alike F.2.1, I.2.1.weaken (fun _ _ _ _ => trivial)⟩⟩ rfl rfl hl hst (lv_room hW) hdg hcs) I.2.2 (fun q _ h => hF q h) hF (fun r u2 t H2 locs2 ht hvm hp hB hz hk hS => ?_)
  obtain ⟨ri, rfl, hp⟩ := hp
  obtain ⟨hP1, hK1, hD1⟩ := hB
  rw [ht] at hP1
  exact kk ri u2 H2 locs2 hp ⟨hP1, hD1.weaken (fun k q _ h => hF q.1 h), hS⟩
theorem caMv {y : MethodName} {bytes : ByteArray} {maxL index : Nat} {rm : Room} {As st : List Value} {post : xSt → Prop} (F : FM D a A p m c cc nL s args) (I : IM D a A s H locs u) (hM : MMv l D a y bytes maxL rm As u post) (hw : GoodIn lw_all (wsV RX1 index RX1 y (ws_ y bytes maxL none))) (hd : y.cls = RX1 ∧ y.cls ≠ "java/lang/invoke/MethodHandle" ∧ y.cls ≠ "java/lang/invoke/VarHandle" ∧ (parseMethodDescriptor y.desc).map (fun d => d.parameters.length) = some As.length) (hRm : rm.cells = 0 ∧ rm.slots = 0) (hR : rm.frames + 1 ≤ R.frames ∧ 8 + (maxL + 11) + rm.locals ≤ R.locals) (hl : ls.size = nL) (hst : st = As.reverse ++ .ref a.1 :: rest) (hW : (rest.map fun v => v.category).sum ≤ 8) (hcs : cells ≤ R.cells ∧ slots ≤ R.slots) (hdg : decode cc pc = .ok (.invokevirtual index, 3)) (kk : ∀ (u2 : xSt) (H2 : Heap) (locs2 : List Loc), post u2 → IM D a A s H2 locs2 u2 → W p l e R s m args below meth c H2 locs2 cells slots Q (F0 m (pc + 3) ls rest)) : W p l e R s m args below meth c H locs cells slots Q (F0 m pc ls st) := by
  have hF := frM I F.2.2
  refine va_callv (va_runV (As := As) (rest := rest) (C := RX1) F.1 (hM H.size) (cwV As.length F.1.2.2.2.2 hw rfl hRm.1 hRm.2 hd hR) ⟨fun a U g mk q => by obtain ⟨q0, q1, qP, qK, qD⟩ := q; exact ⟨q0, q1, qP, va_K.moved (u := U) (U := U.calling g mk a) (Vm.Alike.refl U.vm) qK, qD⟩, va_recv F.2.1 I.1 (ci := 1) (q0 := 0) rfl rfl, fun U hU hW => ⟨rfl, by rw [hU], by rw [hU]; exact I.1, va_K.moved hW.alike F.2.1, I.2.1.weaken (fun _ _ _ _ => trivial)⟩⟩ rfl rfl hl hst (lv_room hW) hdg hcs) I.2.2 (fun q _ h => hF q h) hF (fun u2 t H2 locs2 ht hvm hp hB hz hk hS => ?_)
  obtain ⟨hP1, hK1, hD1⟩ := hB
  rw [ht] at hP1
  exact kk u2 H2 locs2 hp ⟨hP1, hD1.weaken (fun k q _ h => hF q.1 h), hS⟩
end ROWSM
/-- a method of the class, from its entry: Q is what its return gives -/
theorem enMi {l : Launch} {D : va_G} {a : xAd} {y : MethodName} {bytes : ByteArray} {maxL : Nat} {rm : Room} {As : List Value} {u : xSt} {post : Int → xSt → Prop} (hy : plainName y.cls = true) (hc : y.cls = RX1) (hlen : (lg_sl (Value.ref a.1 :: As)).length ≤ maxL)
    (body : ∀ (p : Program) (e : Env) (s : State) (m : MethodId) (below : List Frame) (meth : Method) (c : Code) (A : Nat → Prop) (Q : State → Prop) (ls : Array Slot), FM D a A p m c bytes maxL s (Value.ref a.1 :: As).toArray → IM D a A s s.heap [] u → (∀ (r : Int) (u2 : xSt) (H : Heap) (locs : List Loc), post r u2 → IM D a A s H locs u2 → ∀ (pc : Nat) (ls : Array Slot), decode bytes pc = .ok (.ireturn, 1) → W p l e rm s m (Value.ref a.1 :: As).toArray below meth c H locs 0 0 Q (F0 m pc ls [.int (iI r)])) → lv_has ls maxL (lv_args 0 (Value.ref a.1 :: As)) → W p l e rm s m (Value.ref a.1 :: As).toArray below meth c s.heap [] 0 0 Q (F0 m 0 ls [])) : MMi l D a y bytes maxL (some .int) rm As u post := by
  intro sz
  refine Met.ofW (cc := bytes) (maxL := maxL) (ret := (some .int)) hy rfl ?_
  intro p e s m args below meth c s₁ B hml hv
  obtain ⟨rfl, hsz, hP, hK, hD0⟩ := hv
  have hts := atoms_spec (ws := ws_ y bytes maxL (some .int)) B.pre
  have hts : ∀ w ∈ lw_all, w.before _ s = true := fun w h => hts w (List.mem_cons_of_mem _ h)
  have hown : s.vm.findClass RX1 = some m.cls := by rw [← hc]; exact findClass_of_methodNamed B.named
  have hlocks := B.notSynchronized
  subst hsz
  have hD := hD0.self (sz := s.heap.size)
  generalize hAe : va_A (wM a u) s.heap.size = A at hD ⊢
  have hA : ∀ q : Nat, s.heap.size ≤ q → A q := fun q h => by rw [← hAe]; exact Or.inr h
  have hl := lv_entry (Value.ref a.1 :: As) (n := maxL) hlen
  rw [lg_entry_eq]
  generalize (lg_sl (Value.ref a.1 :: As) ++ List.replicate (maxL - (lg_sl (Value.ref a.1 :: As)).length) Slot.unset).toArray = ls at hl ⊢
  have hr := B.returns
  refine body p e s m below meth c A _ ls ⟨⟨B.exec, B.bytes, hml, hown, hts⟩, hK, hA⟩ ⟨hP, hD, va_S.rf⟩ (fun r u2 H locs hp I pc ls hdg => ?_) hl
  exact W.iret B.exec B.bytes hr (fun t ht hW => ⟨⟨iI r, u2, rfl, ⟨r, rfl, hp⟩, by rw [ht]; exact I.1, va_K.moved hW.alike hK, I.2.1⟩, I.2.2.F ht⟩) I.2.2.2.2 hdg
/-- a method of the class, from its entry: Q is what its return gives -/
theorem enMz {l : Launch} {D : va_G} {a : xAd} {y : MethodName} {bytes : ByteArray} {maxL : Nat} {rm : Room} {As : List Value} {u : xSt} {post : Int → xSt → Prop} (hy : plainName y.cls = true) (hc : y.cls = RX1) (hlen : (lg_sl (Value.ref a.1 :: As)).length ≤ maxL)
    (body : ∀ (p : Program) (e : Env) (s : State) (m : MethodId) (below : List Frame) (meth : Method) (c : Code) (A : Nat → Prop) (Q : State → Prop) (ls : Array Slot), FM D a A p m c bytes maxL s (Value.ref a.1 :: As).toArray → IM D a A s s.heap [] u → (∀ (r : Int) (u2 : xSt) (H : Heap) (locs : List Loc), (r = 0 ∨ r = 1) → post r u2 → IM D a A s H locs u2 → ∀ (pc : Nat) (ls : Array Slot), decode bytes pc = .ok (.ireturn, 1) → W p l e rm s m (Value.ref a.1 :: As).toArray below meth c H locs 0 0 Q (F0 m pc ls [.int (iI r)])) → lv_has ls maxL (lv_args 0 (Value.ref a.1 :: As)) → W p l e rm s m (Value.ref a.1 :: As).toArray below meth c s.heap [] 0 0 Q (F0 m 0 ls [])) : MMi l D a y bytes maxL (some .boolean) rm As u post := by
  intro sz
  refine Met.ofW (cc := bytes) (maxL := maxL) (ret := (some .boolean)) hy rfl ?_
  intro p e s m args below meth c s₁ B hml hv
  obtain ⟨rfl, hsz, hP, hK, hD0⟩ := hv
  have hts := atoms_spec (ws := ws_ y bytes maxL (some .boolean)) B.pre
  have hts : ∀ w ∈ lw_all, w.before _ s = true := fun w h => hts w (List.mem_cons_of_mem _ h)
  have hown : s.vm.findClass RX1 = some m.cls := by rw [← hc]; exact findClass_of_methodNamed B.named
  have hlocks := B.notSynchronized
  subst hsz
  have hD := hD0.self (sz := s.heap.size)
  generalize hAe : va_A (wM a u) s.heap.size = A at hD ⊢
  have hA : ∀ q : Nat, s.heap.size ≤ q → A q := fun q h => by rw [← hAe]; exact Or.inr h
  have hl := lv_entry (Value.ref a.1 :: As) (n := maxL) hlen
  rw [lg_entry_eq]
  generalize (lg_sl (Value.ref a.1 :: As) ++ List.replicate (maxL - (lg_sl (Value.ref a.1 :: As)).length) Slot.unset).toArray = ls at hl ⊢
  have hr := B.returns
  refine body p e s m below meth c A _ ls ⟨⟨B.exec, B.bytes, hml, hown, hts⟩, hK, hA⟩ ⟨hP, hD, va_S.rf⟩ (fun r u2 H locs h01 hp I pc ls hdg => ?_) hl
  exact W.zret B.exec B.bytes hr (by rcases h01 with rfl | rfl <;> rfl) (fun t ht hW => ⟨⟨iI r, u2, rfl, ⟨r, rfl, hp⟩, by rw [ht]; exact I.1, va_K.moved hW.alike hK, I.2.1⟩, I.2.2.F ht⟩) I.2.2.2.2 hdg
/-- a method of the class, from its entry: Q is what its return gives -/
theorem enMv {l : Launch} {D : va_G} {a : xAd} {y : MethodName} {bytes : ByteArray} {maxL : Nat} {rm : Room} {As : List Value} {u : xSt} {post : xSt → Prop} (hy : plainName y.cls = true) (hc : y.cls = RX1) (hlen : (lg_sl (Value.ref a.1 :: As)).length ≤ maxL)
    (body : ∀ (p : Program) (e : Env) (s : State) (m : MethodId) (below : List Frame) (meth : Method) (c : Code) (A : Nat → Prop) (Q : State → Prop) (ls : Array Slot), FM D a A p m c bytes maxL s (Value.ref a.1 :: As).toArray → IM D a A s s.heap [] u → (∀ (u2 : xSt) (H : Heap) (locs : List Loc), post u2 → IM D a A s H locs u2 → ∀ (pc : Nat) (ls : Array Slot), decode bytes pc = .ok (.return_, 1) → W p l e rm s m (Value.ref a.1 :: As).toArray below meth c H locs 0 0 Q (F0 m pc ls [])) → lv_has ls maxL (lv_args 0 (Value.ref a.1 :: As)) → W p l e rm s m (Value.ref a.1 :: As).toArray below meth c s.heap [] 0 0 Q (F0 m 0 ls [])) : MMv l D a y bytes maxL rm As u post := by
  intro sz
  refine Met.ofW (cc := bytes) (maxL := maxL) (ret := none) hy rfl ?_
  intro p e s m args below meth c s₁ B hml hv
  obtain ⟨rfl, hsz, hP, hK, hD0⟩ := hv
  have hts := atoms_spec (ws := ws_ y bytes maxL none) B.pre
  have hts : ∀ w ∈ lw_all, w.before _ s = true := fun w h => hts w (List.mem_cons_of_mem _ h)
  have hown : s.vm.findClass RX1 = some m.cls := by rw [← hc]; exact findClass_of_methodNamed B.named
  have hlocks := B.notSynchronized
  subst hsz
  have hD := hD0.self (sz := s.heap.size)
  generalize hAe : va_A (wM a u) s.heap.size = A at hD ⊢
  have hA : ∀ q : Nat, s.heap.size ≤ q → A q := fun q h => by rw [← hAe]; exact Or.inr h
  have hl := lv_entry (Value.ref a.1 :: As) (n := maxL) hlen
  rw [lg_entry_eq]
  generalize (lg_sl (Value.ref a.1 :: As) ++ List.replicate (maxL - (lg_sl (Value.ref a.1 :: As)).length) Slot.unset).toArray = ls at hl ⊢
  have hr := B.returns
  refine body p e s m below meth c A _ ls ⟨⟨B.exec, B.bytes, hml, hown, hts⟩, hK, hA⟩ ⟨hP, hD, va_S.rf⟩ (fun u2 H locs hp I pc ls hdg => ?_) hl
  exact W.vret B.exec B.bytes hr (fun t ht hW => ⟨⟨u2, rfl, hp, by rw [ht]; exact I.1, va_K.moved hW.alike hK, I.2.1⟩, I.2.2.F ht⟩) I.2.2.2.2 hdg
end
section
set_option maxRecDepth 100000
theorem hdX_addRow : yX0_addRow.cls = RX0 ∧ yX0_addRow.cls ≠ "java/lang/invoke/MethodHandle" ∧ yX0_addRow.cls ≠ "java/lang/invoke/VarHandle" ∧ (parseMethodDescriptor yX0_addRow.desc).map (fun d => d.parameters.length) = some 3 := by decide +kernel
theorem hdX_isCellValue : yX0_isCellValue.cls = RX0 ∧ yX0_isCellValue.cls ≠ "java/lang/invoke/MethodHandle" ∧ yX0_isCellValue.cls ≠ "java/lang/invoke/VarHandle" ∧ (parseMethodDescriptor yX0_isCellValue.desc).map (fun d => d.parameters.length) = some 1 := by decide +kernel
theorem hdX_dropRow : yX0_dropRow.cls = RX0 ∧ yX0_dropRow.cls ≠ "java/lang/invoke/MethodHandle" ∧ yX0_dropRow.cls ≠ "java/lang/invoke/VarHandle" ∧ (parseMethodDescriptor yX0_dropRow.desc).map (fun d => d.parameters.length) = some 1 := by decide +kernel
theorem hdX_learn : yX0_learn.cls = RX0 ∧ yX0_learn.cls ≠ "java/lang/invoke/MethodHandle" ∧ yX0_learn.cls ≠ "java/lang/invoke/VarHandle" ∧ (parseMethodDescriptor yX0_learn.desc).map (fun d => d.parameters.length) = some 2 := by decide +kernel
theorem hdX_rule : yX0_rule.cls = RX0 ∧ yX0_rule.cls ≠ "java/lang/invoke/MethodHandle" ∧ yX0_rule.cls ≠ "java/lang/invoke/VarHandle" ∧ (parseMethodDescriptor yX0_rule.desc).map (fun d => d.parameters.length) = some 2 := by decide +kernel
theorem hdX_isTerm : yX0_isTerm.cls = RX0 ∧ yX0_isTerm.cls ≠ "java/lang/invoke/MethodHandle" ∧ yX0_isTerm.cls ≠ "java/lang/invoke/VarHandle" ∧ (parseMethodDescriptor yX0_isTerm.desc).map (fun d => d.parameters.length) = some 1 := by decide +kernel
theorem hdX_atom : yX0_atom.cls = RX0 ∧ yX0_atom.cls ≠ "java/lang/invoke/MethodHandle" ∧ yX0_atom.cls ≠ "java/lang/invoke/VarHandle" ∧ (parseMethodDescriptor yX0_atom.desc).map (fun d => d.parameters.length) = some 3 := by decide +kernel
theorem hdX_dropRules : yX0_dropRules.cls = RX0 ∧ yX0_dropRules.cls ≠ "java/lang/invoke/MethodHandle" ∧ yX0_dropRules.cls ≠ "java/lang/invoke/VarHandle" ∧ (parseMethodDescriptor yX0_dropRules.desc).map (fun d => d.parameters.length) = some 0 := by decide +kernel
theorem hdX_certain : yX0_certain.cls = RX0 ∧ yX0_certain.cls ≠ "java/lang/invoke/MethodHandle" ∧ yX0_certain.cls ≠ "java/lang/invoke/VarHandle" ∧ (parseMethodDescriptor yX0_certain.desc).map (fun d => d.parameters.length) = some 2 := by decide +kernel
theorem hdX_evaluate : yX0_evaluate.cls = RX0 ∧ yX0_evaluate.cls ≠ "java/lang/invoke/MethodHandle" ∧ yX0_evaluate.cls ≠ "java/lang/invoke/VarHandle" ∧ (parseMethodDescriptor yX0_evaluate.desc).map (fun d => d.parameters.length) = some 0 := by decide +kernel
theorem hdX_isSafe : yX0_isSafe.cls = RX0 ∧ yX0_isSafe.cls ≠ "java/lang/invoke/MethodHandle" ∧ yX0_isSafe.cls ≠ "java/lang/invoke/VarHandle" ∧ (parseMethodDescriptor yX0_isSafe.desc).map (fun d => d.parameters.length) = some 1 := by decide +kernel
theorem hdX_inBody : yX0_inBody.cls = RX0 ∧ yX0_inBody.cls ≠ "java/lang/invoke/MethodHandle" ∧ yX0_inBody.cls ≠ "java/lang/invoke/VarHandle" ∧ (parseMethodDescriptor yX0_inBody.desc).map (fun d => d.parameters.length) = some 2 := by decide +kernel
theorem hdX_matchRule : yX0_matchRule.cls = RX0 ∧ yX0_matchRule.cls ≠ "java/lang/invoke/MethodHandle" ∧ yX0_matchRule.cls ≠ "java/lang/invoke/VarHandle" ∧ (parseMethodDescriptor yX0_matchRule.desc).map (fun d => d.parameters.length) = some 1 := by decide +kernel
theorem hdX_save : yX0_save.cls = RX0 ∧ yX0_save.cls ≠ "java/lang/invoke/MethodHandle" ∧ yX0_save.cls ≠ "java/lang/invoke/VarHandle" ∧ (parseMethodDescriptor yX0_save.desc).map (fun d => d.parameters.length) = some 1 := by decide +kernel
theorem hdX_restore : yX0_restore.cls = RX0 ∧ yX0_restore.cls ≠ "java/lang/invoke/MethodHandle" ∧ yX0_restore.cls ≠ "java/lang/invoke/VarHandle" ∧ (parseMethodDescriptor yX0_restore.desc).map (fun d => d.parameters.length) = some 1 := by decide +kernel
theorem hdX_finish : yX0_finish.cls = RX0 ∧ yX0_finish.cls ≠ "java/lang/invoke/MethodHandle" ∧ yX0_finish.cls ≠ "java/lang/invoke/VarHandle" ∧ (parseMethodDescriptor yX0_finish.desc).map (fun d => d.parameters.length) = some 1 := by decide +kernel
theorem hdX_unify : yX0_unify.cls = RX0 ∧ yX0_unify.cls ≠ "java/lang/invoke/MethodHandle" ∧ yX0_unify.cls ≠ "java/lang/invoke/VarHandle" ∧ (parseMethodDescriptor yX0_unify.desc).map (fun d => d.parameters.length) = some 2 := by decide +kernel
theorem hdX_valueOf : yX0_valueOf.cls = RX0 ∧ yX0_valueOf.cls ≠ "java/lang/invoke/MethodHandle" ∧ yX0_valueOf.cls ≠ "java/lang/invoke/VarHandle" ∧ (parseMethodDescriptor yX0_valueOf.desc).map (fun d => d.parameters.length) = some 1 := by decide +kernel
theorem hdX_slotOf : yX0_slotOf.cls = RX0 ∧ yX0_slotOf.cls ≠ "java/lang/invoke/MethodHandle" ∧ yX0_slotOf.cls ≠ "java/lang/invoke/VarHandle" ∧ (parseMethodDescriptor yX0_slotOf.desc).map (fun d => d.parameters.length) = some 1 := by decide +kernel
theorem hdX_possible : yX0_possible.cls = RX0 ∧ yX0_possible.cls ≠ "java/lang/invoke/MethodHandle" ∧ yX0_possible.cls ≠ "java/lang/invoke/VarHandle" ∧ (parseMethodDescriptor yX0_possible.desc).map (fun d => d.parameters.length) = some 2 := by decide +kernel
theorem hdX_certainCount : yX0_certainCount.cls = RX0 ∧ yX0_certainCount.cls ≠ "java/lang/invoke/MethodHandle" ∧ yX0_certainCount.cls ≠ "java/lang/invoke/VarHandle" ∧ (parseMethodDescriptor yX0_certainCount.desc).map (fun d => d.parameters.length) = some 0 := by decide +kernel
theorem hdX_alwaysSome : yX0_alwaysSome.cls = RX0 ∧ yX0_alwaysSome.cls ≠ "java/lang/invoke/MethodHandle" ∧ yX0_alwaysSome.cls ≠ "java/lang/invoke/VarHandle" ∧ (parseMethodDescriptor yX0_alwaysSome.desc).map (fun d => d.parameters.length) = some 0 := by decide +kernel
section XT
variable {p : Program} {l : Launch} {e : Env} {R : Room} {s : State} {m : MethodId} {args : Array Value} {below : List Frame} {meth : Method} {c : Code} {H : Heap} {locs : List Loc} {cells slots : Nat} {Q : State → Prop} {pc : Nat} {ls : Array Slot} {rest : List Value}
theorem xi_top {x : Int} (k : ∀ z : Int, z = x → W p l e R s m args below meth c H locs cells slots Q (F0 m pc ls (.int (iI z) :: rest))) : W p l e R s m args below meth c H locs cells slots Q (F0 m pc ls (.int (iI x) :: rest)) := k x rfl
end XT
/-- a value of a cell; a term -/
abbrev isV (x : Int) : Prop := (0 ≤ x ∧ x ≤ 3) ∨ (10 ≤ x ∧ x ≤ 12)
abbrev isT (x : Int) : Prop := (0 ≤ x ∧ x ≤ 3) ∨ (20 ≤ x ∧ x ≤ 23)
abbrev i32 (x : Int) : Prop := -2147483648 ≤ x ∧ x < 2147483648
set_option maxHeartbeats 4000000 in
/-- isCellValue -/
theorem cX_isCellValue (l : Launch) (D : va_G) (a : xAd) (u : xSt) (v : Int) (hv : i32 v) : MXi l D a yX0_isCellValue cX0_isCellValue 2 (some .boolean) ({ frames := 0, cells := 0, slots := 0, locals := 0 } : Room) [.int (iI v)] u (fun r u2 => u2 = u ∧ ((r = 1 ∧ isV v) ∨ (r = 0 ∧ ¬ isV v))) := by
  refine enXz (by decide +kernel) rfl (Nat.le_of_ble_eq_true rfl) ?_
  intro p e s m below meth c A Q ls F I hret hl
  have hl : lv_has ls 2 [(0, .ref a.1), (1, .int (iI v))] := hl
  refine lv_iload_n (pc := 0) F.1.1 F.1.2.1 dX0_isCellValue_0 rfl (lv_at hl 1 rfl) ?_
  refine xi_zlt (pc := 1) (tgt := 9) F.1 (by omega) dX0_isCellValue_1 (by decide) (fun c1 => ?_) (fun c1 => ?_)
  · refine lv_iload_n (pc := 9) F.1.1 F.1.2.1 dX0_isCellValue_9 rfl (lv_at hl 1 rfl) ?_
    refine xi_bp (pc := 10) F.1 dX0_isCellValue_10 (by decide) ?_
    refine xi_clt (pc := 12) (tgt := 25) F.1 (by omega) dX0_isCellValue_12 (by decide) (fun c2 => ?_) (fun c2 => ?_)
    · refine xi_ic (pc := 25) F.1 dX0_isCellValue_25 ?_
      exact hret 0 u _ _ (by omega) (⟨rfl, by omega⟩) I _ _ dX0_isCellValue_26
    · refine lv_iload_n (pc := 15) F.1.1 F.1.2.1 dX0_isCellValue_15 rfl (lv_at hl 1 rfl) ?_
      refine xi_bp (pc := 16) F.1 dX0_isCellValue_16 (by decide) ?_
      refine xi_cgt (pc := 18) (tgt := 25) F.1 (by omega) dX0_isCellValue_18 (by decide) (fun c3 => ?_) (fun c3 => ?_)
      · refine xi_ic (pc := 25) F.1 dX0_isCellValue_25 ?_
        exact hret 0 u _ _ (by omega) (⟨rfl, by omega⟩) I _ _ dX0_isCellValue_26
      · refine xi_ic (pc := 21) F.1 dX0_isCellValue_21 ?_
        refine lv_goto (pc := 22) (tgt := 26) F.1.1 F.1.2.1 dX0_isCellValue_22 (by decide) ?_
        exact hret 1 u _ _ (by omega) (⟨rfl, by omega⟩) I _ _ dX0_isCellValue_26
  · refine lv_iload_n (pc := 4) F.1.1 F.1.2.1 dX0_isCellValue_4 rfl (lv_at hl 1 rfl) ?_
    refine xi_ic (pc := 5) F.1 dX0_isCellValue_5 ?_
    refine xi_cle (pc := 6) (tgt := 21) F.1 (by omega) dX0_isCellValue_6 (by decide) (fun c4 => ?_) (fun c4 => ?_)
    · refine xi_ic (pc := 21) F.1 dX0_isCellValue_21 ?_
      refine lv_goto (pc := 22) (tgt := 26) F.1.1 F.1.2.1 dX0_isCellValue_22 (by decide) ?_
      exact hret 1 u _ _ (by omega) (⟨rfl, by omega⟩) I _ _ dX0_isCellValue_26
    · refine lv_iload_n (pc := 9) F.1.1 F.1.2.1 dX0_isCellValue_9 rfl (lv_at hl 1 rfl) ?_
      refine xi_bp (pc := 10) F.1 dX0_isCellValue_10 (by decide) ?_
      refine xi_clt (pc := 12) (tgt := 25) F.1 (by omega) dX0_isCellValue_12 (by decide) (fun c5 => ?_) (fun c5 => ?_)
      · refine xi_ic (pc := 25) F.1 dX0_isCellValue_25 ?_
        exact hret 0 u _ _ (by omega) (⟨rfl, by omega⟩) I _ _ dX0_isCellValue_26
      · refine lv_iload_n (pc := 15) F.1.1 F.1.2.1 dX0_isCellValue_15 rfl (lv_at hl 1 rfl) ?_
        refine xi_bp (pc := 16) F.1 dX0_isCellValue_16 (by decide) ?_
        refine xi_cgt (pc := 18) (tgt := 25) F.1 (by omega) dX0_isCellValue_18 (by decide) (fun c6 => ?_) (fun c6 => ?_)
        · refine xi_ic (pc := 25) F.1 dX0_isCellValue_25 ?_
          exact hret 0 u _ _ (by omega) (⟨rfl, by omega⟩) I _ _ dX0_isCellValue_26
        · refine xi_ic (pc := 21) F.1 dX0_isCellValue_21 ?_
          refine lv_goto (pc := 22) (tgt := 26) F.1.1 F.1.2.1 dX0_isCellValue_22 (by decide) ?_
          exact hret 1 u _ _ (by omega) (⟨rfl, by omega⟩) I _ _ dX0_isCellValue_26
set_option maxHeartbeats 4000000 in
/-- isTerm -/
theorem cX_isTerm (l : Launch) (D : va_G) (a : xAd) (u : xSt) (v : Int) (hv : i32 v) : MXi l D a yX0_isTerm cX0_isTerm 2 (some .boolean) ({ frames := 0, cells := 0, slots := 0, locals := 0 } : Room) [.int (iI v)] u (fun r u2 => u2 = u ∧ ((r = 1 ∧ isT v) ∨ (r = 0 ∧ ¬ isT v))) := by
  refine enXz (by decide +kernel) rfl (Nat.le_of_ble_eq_true rfl) ?_
  intro p e s m below meth c A Q ls F I hret hl
  have hl : lv_has ls 2 [(0, .ref a.1), (1, .int (iI v))] := hl
  refine lv_iload_n (pc := 0) F.1.1 F.1.2.1 dX0_isTerm_0 rfl (lv_at hl 1 rfl) ?_
  refine xi_zlt (pc := 1) (tgt := 9) F.1 (by omega) dX0_isTerm_1 (by decide) (fun c1 => ?_) (fun c1 => ?_)
  · refine lv_iload_n (pc := 9) F.1.1 F.1.2.1 dX0_isTerm_9 rfl (lv_at hl 1 rfl) ?_
    refine xi_bp (pc := 10) F.1 dX0_isTerm_10 (by decide) ?_
    refine xi_clt (pc := 12) (tgt := 25) F.1 (by omega) dX0_isTerm_12 (by decide) (fun c2 => ?_) (fun c2 => ?_)
    · refine xi_ic (pc := 25) F.1 dX0_isTerm_25 ?_
      exact hret 0 u _ _ (by omega) (⟨rfl, by omega⟩) I _ _ dX0_isTerm_26
    · refine lv_iload_n (pc := 15) F.1.1 F.1.2.1 dX0_isTerm_15 rfl (lv_at hl 1 rfl) ?_
      refine xi_bp (pc := 16) F.1 dX0_isTerm_16 (by decide) ?_
      refine xi_cgt (pc := 18) (tgt := 25) F.1 (by omega) dX0_isTerm_18 (by decide) (fun c3 => ?_) (fun c3 => ?_)
      · refine xi_ic (pc := 25) F.1 dX0_isTerm_25 ?_
        exact hret 0 u _ _ (by omega) (⟨rfl, by omega⟩) I _ _ dX0_isTerm_26
      · refine xi_ic (pc := 21) F.1 dX0_isTerm_21 ?_
        refine lv_goto (pc := 22) (tgt := 26) F.1.1 F.1.2.1 dX0_isTerm_22 (by decide) ?_
        exact hret 1 u _ _ (by omega) (⟨rfl, by omega⟩) I _ _ dX0_isTerm_26
  · refine lv_iload_n (pc := 4) F.1.1 F.1.2.1 dX0_isTerm_4 rfl (lv_at hl 1 rfl) ?_
    refine xi_ic (pc := 5) F.1 dX0_isTerm_5 ?_
    refine xi_cle (pc := 6) (tgt := 21) F.1 (by omega) dX0_isTerm_6 (by decide) (fun c4 => ?_) (fun c4 => ?_)
    · refine xi_ic (pc := 21) F.1 dX0_isTerm_21 ?_
      refine lv_goto (pc := 22) (tgt := 26) F.1.1 F.1.2.1 dX0_isTerm_22 (by decide) ?_
      exact hret 1 u _ _ (by omega) (⟨rfl, by omega⟩) I _ _ dX0_isTerm_26
    · refine lv_iload_n (pc := 9) F.1.1 F.1.2.1 dX0_isTerm_9 rfl (lv_at hl 1 rfl) ?_
      refine xi_bp (pc := 10) F.1 dX0_isTerm_10 (by decide) ?_
      refine xi_clt (pc := 12) (tgt := 25) F.1 (by omega) dX0_isTerm_12 (by decide) (fun c5 => ?_) (fun c5 => ?_)
      · refine xi_ic (pc := 25) F.1 dX0_isTerm_25 ?_
        exact hret 0 u _ _ (by omega) (⟨rfl, by omega⟩) I _ _ dX0_isTerm_26
      · refine lv_iload_n (pc := 15) F.1.1 F.1.2.1 dX0_isTerm_15 rfl (lv_at hl 1 rfl) ?_
        refine xi_bp (pc := 16) F.1 dX0_isTerm_16 (by decide) ?_
        refine xi_cgt (pc := 18) (tgt := 25) F.1 (by omega) dX0_isTerm_18 (by decide) (fun c6 => ?_) (fun c6 => ?_)
        · refine xi_ic (pc := 25) F.1 dX0_isTerm_25 ?_
          exact hret 0 u _ _ (by omega) (⟨rfl, by omega⟩) I _ _ dX0_isTerm_26
        · refine xi_ic (pc := 21) F.1 dX0_isTerm_21 ?_
          refine lv_goto (pc := 22) (tgt := 26) F.1.1 F.1.2.1 dX0_isTerm_22 (by decide) ?_
          exact hret 1 u _ _ (by omega) (⟨rfl, by omega⟩) I _ _ dX0_isTerm_26
/-- the place of a code among the bindings -/
def slP (t : Int) : Int := if 20 ≤ t then t - 20 else if 10 ≤ t then t - 6 else -1
set_option maxHeartbeats 4000000 in
/-- slotOf -/
theorem cX_slotOf (l : Launch) (D : va_G) (a : xAd) (u : xSt) (t : Int) (ht : i32 t) : MXi l D a yX0_slotOf cX0_slotOf 2 (some .int) ({ frames := 0, cells := 0, slots := 0, locals := 0 } : Room) [.int (iI t)] u (fun r u2 => u2 = u ∧ r = slP t) := by
  refine enXi (by decide +kernel) rfl (Nat.le_of_ble_eq_true rfl) ?_
  intro p e s m below meth c A Q ls F I hret hl
  have hl : lv_has ls 2 [(0, .ref a.1), (1, .int (iI t))] := hl
  refine lv_iload_n (pc := 0) F.1.1 F.1.2.1 dX0_slotOf_0 rfl (lv_at hl 1 rfl) ?_
  refine xi_bp (pc := 1) F.1 dX0_slotOf_1 (by decide) ?_
  refine xi_clt (pc := 3) (tgt := 11) F.1 (by omega) dX0_slotOf_3 (by decide) (fun c1 => ?_) (fun c1 => ?_)
  · refine lv_iload_n (pc := 11) F.1.1 F.1.2.1 dX0_slotOf_11 rfl (lv_at hl 1 rfl) ?_
    refine xi_bp (pc := 12) F.1 dX0_slotOf_12 (by decide) ?_
    refine xi_clt (pc := 14) (tgt := 26) F.1 (by omega) dX0_slotOf_14 (by decide) (fun c2 => ?_) (fun c2 => ?_)
    · refine xi_ic (pc := 26) F.1 dX0_slotOf_26 ?_
      exact hret (-1) u _ _ (⟨rfl, by unfold slP; (repeat split) <;> omega⟩) I _ _ dX0_slotOf_27
    · refine xi_ic (pc := 17) F.1 dX0_slotOf_17 ?_
      refine lv_iload_n (pc := 18) F.1.1 F.1.2.1 dX0_slotOf_18 rfl (lv_at hl 1 rfl) ?_
      refine xi_iadd (pc := 19) F.1 dX0_slotOf_19 ?_
      refine xi_bp (pc := 20) F.1 dX0_slotOf_20 (by decide) ?_
      refine xi_isub (pc := 22) F.1 dX0_slotOf_22 ?_
      refine lv_goto (pc := 23) (tgt := 27) F.1.1 F.1.2.1 dX0_slotOf_23 (by decide) ?_
      exact hret ((4 + t) - 10) u _ _ (⟨rfl, by unfold slP; (repeat split) <;> omega⟩) I _ _ dX0_slotOf_27
  · refine lv_iload_n (pc := 6) F.1.1 F.1.2.1 dX0_slotOf_6 rfl (lv_at hl 1 rfl) ?_
    refine xi_bp (pc := 7) F.1 dX0_slotOf_7 (by decide) ?_
    refine xi_isub (pc := 9) F.1 dX0_slotOf_9 ?_
    exact hret (t - 20) u _ _ (⟨rfl, by unfold slP; (repeat split) <;> omega⟩) I _ _ dX0_slotOf_10
/-- what a new row does -/
def adG (g : xG) (t x y : Int) : xG := up (up (up (up g 1 (5 * t + g 0 t) x) 2 (5 * t + g 0 t) y) 0 t (g 0 t + 1)) 17 0 0
/-- a new rule, a new atom -/
def ruG (g : xG) (x y : Int) : xG := up (up (up (up (up g 4 (g 3 0) x) 5 (g 3 0) y) 6 (g 3 0) 0) 3 0 (g 3 0 + 1)) 17 0 0
def atG (g : xG) (t x y : Int) : xG := up (up (up (up (up g 7 (3 * (g 3 0 - 1) + g 6 (g 3 0 - 1)) t) 8 (3 * (g 3 0 - 1) + g 6 (g 3 0 - 1)) x) 9 (3 * (g 3 0 - 1) + g 6 (g 3 0 - 1)) y) 6 (g 3 0 - 1) (g 6 (g 3 0 - 1) + 1)) 17 0 0
def drG (g : xG) : xG := up (up g 3 0 0) 17 0 0
set_option maxHeartbeats 4000000 in
/-- addRow -/
theorem cX_addRow (l : Launch) (D : va_G) (a : xAd) (u : xSt) (t x y : Int) (ht : i32 t) (hx : i32 x) (hy : i32 y) (hR : Rng u.1) (hn : ∀ j, 0 ≤ j → j ≤ 1 → 0 ≤ u.1 0 j ∧ u.1 0 j ≤ 5) : MXi l D a yX0_addRow cX0_addRow 5 (some .int) ({ frames := 1, cells := 0, slots := 0, locals := 21 } : Room) [.int (iI t), .int (iI x), .int (iI y)] u (fun r u2 => (¬ ((0 ≤ t ∧ t ≤ 1) ∧ isV x ∧ isV y) ∧ r = -1 ∧ u2 = u) ∨ (((0 ≤ t ∧ t ≤ 1) ∧ isV x ∧ isV y) ∧ 5 ≤ u.1 0 t ∧ r = -2 ∧ u2 = u) ∨ (((0 ≤ t ∧ t ≤ 1) ∧ isV x ∧ isV y) ∧ u.1 0 t < 5 ∧ r = u.1 0 t + 1 ∧ u2 = (adG u.1 t x y, u.2))) := by
  refine enXi (by decide +kernel) rfl (Nat.le_of_ble_eq_true rfl) ?_
  intro p e s m below meth c A Q ls F I hret hl
  have hl : lv_has ls 5 [(0, .ref a.1), (1, .int (iI t)), (2, .int (iI x)), (3, .int (iI y))] := hl
  refine lv_iload_n (pc := 0) F.1.1 F.1.2.1 dX0_addRow_0 rfl (lv_at hl 1 rfl) ?_
  refine xi_zlt (pc := 1) (tgt := 25) F.1 (by omega) dX0_addRow_1 (by decide) (fun c1 => ?_) (fun c1 => ?_)
  · refine xi_ic (pc := 25) F.1 dX0_addRow_25 ?_
    exact hret (-1) u _ _ (Or.inl ⟨by omega, rfl, rfl⟩) I _ _ dX0_addRow_26
  · refine lv_iload_n (pc := 4) F.1.1 F.1.2.1 dX0_addRow_4 rfl (lv_at hl 1 rfl) ?_
    refine xi_ic (pc := 5) F.1 dX0_addRow_5 ?_
    refine xi_cgt (pc := 6) (tgt := 25) F.1 (by omega) dX0_addRow_6 (by decide) (fun c2 => ?_) (fun c2 => ?_)
    · refine xi_ic (pc := 25) F.1 dX0_addRow_25 ?_
      exact hret (-1) u _ _ (Or.inl ⟨by omega, rfl, rfl⟩) I _ _ dX0_addRow_26
    · refine lv_aload_n (pc := 9) F.1.1 F.1.2.1 dX0_addRow_9 rfl (lv_at hl 0 rfl) ?_
      refine lv_iload_n (pc := 10) F.1.1 F.1.2.1 dX0_addRow_10 rfl (lv_at hl 2 rfl) ?_
      refine caXi (pc := 11) (As := [.int (iI x)]) (rest := []) F I (cX_isCellValue l D a u x (by omega)) (lw_V q100 q102 qs0 q24 q103) hdX_isCellValue ⟨rfl, rfl⟩ ⟨Nat.le_of_ble_eq_true rfl, Nat.le_of_ble_eq_true rfl⟩ hl.1 rfl (Nat.le_of_ble_eq_true rfl) ⟨Nat.zero_le _, Nat.zero_le _⟩ dX0_addRow_11 (fun r4 u3 H locs hp4 I => ?_)
      rw [hp4.1] at I
      have hr4 := hp4.2
      refine xi_zeq (pc := 14) (tgt := 25) F.1 (by omega) dX0_addRow_14 (by decide) (fun c5 => ?_) (fun c5 => ?_)
      · refine xi_ic (pc := 25) F.1 dX0_addRow_25 ?_
        exact hret (-1) u _ _ (Or.inl ⟨by omega, rfl, rfl⟩) I _ _ dX0_addRow_26
      · refine lv_aload_n (pc := 17) F.1.1 F.1.2.1 dX0_addRow_17 rfl (lv_at hl 0 rfl) ?_
        refine lv_iload_n (pc := 18) F.1.1 F.1.2.1 dX0_addRow_18 rfl (lv_at hl 3 rfl) ?_
        refine caXi (pc := 19) (As := [.int (iI y)]) (rest := []) F I (cX_isCellValue l D a u y (by omega)) (lw_V q100 q102 qs0 q24 q103) hdX_isCellValue ⟨rfl, rfl⟩ ⟨Nat.le_of_ble_eq_true rfl, Nat.le_of_ble_eq_true rfl⟩ hl.1 rfl (Nat.le_of_ble_eq_true rfl) ⟨Nat.zero_le _, Nat.zero_le _⟩ dX0_addRow_19 (fun r7 u6 H locs hp7 I => ?_)
        rw [hp7.1] at I
        have hr7 := hp7.2
        refine xi_zne (pc := 22) (tgt := 27) F.1 (by omega) dX0_addRow_22 (by decide) (fun c8 => ?_) (fun c8 => ?_)
        · refine lv_aload_n (pc := 27) F.1.1 F.1.2.1 dX0_addRow_27 rfl (lv_at hl 0 rfl) ?_
          refine gX_0 (pc := 28) F I dX0_addRow_28 ?_
          refine lv_iload_n (pc := 31) F.1.1 F.1.2.1 dX0_addRow_31 rfl (lv_at hl 1 rfl) ?_
          refine ldX_0 (pc := 32) F I (by omega) dX0_addRow_32 (fun v9 hv9 => ?_)
          have rv9 : -1 ≤ v9 ∧ v9 ≤ 127 := by rw [hv9]; exact hR 0 _
          refine xi_ic (pc := 33) F.1 dX0_addRow_33 ?_
          refine xi_clt (pc := 34) (tgt := 40) F.1 (by omega) dX0_addRow_34 (by decide) (fun c10 => ?_) (fun c10 => ?_)
          · have hnt := hn t (by omega) (by omega)
            refine xi_ic (pc := 40) F.1 dX0_addRow_40 ?_
            refine lv_iload_n (pc := 41) F.1.1 F.1.2.1 dX0_addRow_41 rfl (lv_at hl 1 rfl) ?_
            refine xi_imul (pc := 42) F.1 dX0_addRow_42 ?_
            refine lv_aload_n (pc := 43) F.1.1 F.1.2.1 dX0_addRow_43 rfl (lv_at hl 0 rfl) ?_
            refine gX_0 (pc := 44) F I dX0_addRow_44 ?_
            refine lv_iload_n (pc := 47) F.1.1 F.1.2.1 dX0_addRow_47 rfl (lv_at hl 1 rfl) ?_
            refine ldX_0 (pc := 48) F I (by omega) dX0_addRow_48 (fun v11 hv11 => ?_)
            have rv11 : -1 ≤ v11 ∧ v11 ≤ 127 := by rw [hv11]; exact hR 0 _
            refine xi_iadd (pc := 49) F.1 dX0_addRow_49 ?_
            refine xi_top (fun z12 hz12 => ?_)
            refine lv_istore (pc := 50) (lv' := [(4, .int (iI z12)), (0, .ref a.1), (1, .int (iI t)), (2, .int (iI x)), (3, .int (iI y))]) F.1.1 F.1.2.1 dX0_addRow_50 hl (by decide) rfl (fun ls hl => ?_)
            refine lv_aload_n (pc := 52) F.1.1 F.1.2.1 dX0_addRow_52 rfl (lv_at hl 1 rfl) ?_
            refine gX_1 (pc := 53) F I dX0_addRow_53 ?_
            refine lv_iload (pc := 56) F.1.1 F.1.2.1 dX0_addRow_56 (lv_at hl 0 rfl) ?_
            refine lv_iload_n (pc := 58) F.1.1 F.1.2.1 dX0_addRow_58 rfl (lv_at hl 3 rfl) ?_
            refine xi_i2b (pc := 59) F.1 (by omega) dX0_addRow_59 ?_
            refine stX_1 (pc := 60) F I (by omega) (by omega) dX0_addRow_60 (fun u13 H locs hu13 I => ?_)
            have hR : Rng u13.1 := by rw [hu13]; exact Rng_up hR (by omega)
            refine lv_aload_n (pc := 61) F.1.1 F.1.2.1 dX0_addRow_61 rfl (lv_at hl 1 rfl) ?_
            refine gX_2 (pc := 62) F I dX0_addRow_62 ?_
            refine lv_iload (pc := 65) F.1.1 F.1.2.1 dX0_addRow_65 (lv_at hl 0 rfl) ?_
            refine lv_iload_n (pc := 67) F.1.1 F.1.2.1 dX0_addRow_67 rfl (lv_at hl 4 rfl) ?_
            refine xi_i2b (pc := 68) F.1 (by omega) dX0_addRow_68 ?_
            refine stX_2 (pc := 69) F I (by omega) (by omega) dX0_addRow_69 (fun u14 H locs hu14 I => ?_)
            have hR : Rng u14.1 := by rw [hu14]; exact Rng_up hR (by omega)
            refine lv_aload_n (pc := 70) F.1.1 F.1.2.1 dX0_addRow_70 rfl (lv_at hl 1 rfl) ?_
            refine gX_0 (pc := 71) F I dX0_addRow_71 ?_
            refine lv_iload_n (pc := 74) F.1.1 F.1.2.1 dX0_addRow_74 rfl (lv_at hl 2 rfl) ?_
            refine lv_dup2_11 (pc := 75) F.1.1 F.1.2.1 dX0_addRow_75 rfl rfl ?_
            refine ldX_0 (pc := 76) F I (by omega) dX0_addRow_76 (fun v15 hv15 => ?_)
            have rv15 : -1 ≤ v15 ∧ v15 ≤ 127 := by rw [hv15]; exact hR 0 _
            have ev15 : v15 = u.1 0 t := by simp [hv15, hu14, hu13, up]
            refine xi_ic (pc := 77) F.1 dX0_addRow_77 ?_
            refine xi_iadd (pc := 78) F.1 dX0_addRow_78 ?_
            refine xi_i2b (pc := 79) F.1 (by omega) dX0_addRow_79 ?_
            refine stX_0 (pc := 80) F I (by omega) (by omega) dX0_addRow_80 (fun u16 H locs hu16 I => ?_)
            have hR : Rng u16.1 := by rw [hu16]; exact Rng_up hR (by omega)
            refine lv_aload_n (pc := 81) F.1.1 F.1.2.1 dX0_addRow_81 rfl (lv_at hl 1 rfl) ?_
            refine xi_ic (pc := 82) F.1 dX0_addRow_82 ?_
            refine pX_17 (pc := 83) F I (by omega) dX0_addRow_83 (fun u17 H locs hu17 I => ?_)
            have hR : Rng u17.1 := by rw [hu17]; exact Rng_up hR (by omega)
            refine lv_aload_n (pc := 86) F.1.1 F.1.2.1 dX0_addRow_86 rfl (lv_at hl 1 rfl) ?_
            refine gX_0 (pc := 87) F I dX0_addRow_87 ?_
            refine lv_iload_n (pc := 90) F.1.1 F.1.2.1 dX0_addRow_90 rfl (lv_at hl 2 rfl) ?_
            refine ldX_0 (pc := 91) F I (by omega) dX0_addRow_91 (fun v18 hv18 => ?_)
            have rv18 : -1 ≤ v18 ∧ v18 ≤ 127 := by rw [hv18]; exact hR 0 _
            have ev18 : v18 = (v15 + 1) := by simp [hv18, hu17, hu16, hu14, hu13, up]
            exact hret v18 u17 _ _ (Or.inr (Or.inr ⟨by omega, by omega, by omega, by simp only [adG, hu17, hu16, hu14, hu13, hv9, hv11, hz12, ev15, ev18]⟩)) I _ _ dX0_addRow_92
          · refine xi_bp (pc := 37) F.1 dX0_addRow_37 (by decide) ?_
            exact hret (-2) u _ _ (Or.inr (Or.inl ⟨by omega, by omega, rfl, rfl⟩)) I _ _ dX0_addRow_39
        · refine xi_ic (pc := 25) F.1 dX0_addRow_25 ?_
          exact hret (-1) u _ _ (Or.inl ⟨by omega, rfl, rfl⟩) I _ _ dX0_addRow_26
set_option maxHeartbeats 4000000 in
/-- rule -/
theorem cX_rule (l : Launch) (D : va_G) (a : xAd) (u : xSt) (x y : Int) (hx : i32 x) (hy : i32 y) (hR : Rng u.1) (hn : 0 ≤ u.1 3 0 ∧ u.1 3 0 ≤ 2) : MXi l D a yX0_rule cX0_rule 3 (some .int) ({ frames := 1, cells := 0, slots := 0, locals := 21 } : Room) [.int (iI x), .int (iI y)] u (fun r u2 => (¬ (isT x ∧ isT y) ∧ r = -1 ∧ u2 = u) ∨ ((isT x ∧ isT y) ∧ 2 ≤ u.1 3 0 ∧ r = -2 ∧ u2 = u) ∨ ((isT x ∧ isT y) ∧ u.1 3 0 < 2 ∧ r = u.1 3 0 + 1 ∧ u2 = (ruG u.1 x y, u.2))) := by
  refine enXi (by decide +kernel) rfl (Nat.le_of_ble_eq_true rfl) ?_
  intro p e s m below meth c A Q ls F I hret hl
  have hl : lv_has ls 3 [(0, .ref a.1), (1, .int (iI x)), (2, .int (iI y))] := hl
  refine lv_aload_n (pc := 0) F.1.1 F.1.2.1 dX0_rule_0 rfl (lv_at hl 0 rfl) ?_
  refine lv_iload_n (pc := 1) F.1.1 F.1.2.1 dX0_rule_1 rfl (lv_at hl 1 rfl) ?_
  refine caXi (pc := 2) (As := [.int (iI x)]) (rest := []) F I (cX_isTerm l D a u x (by omega)) (lw_V q116 q118 qs1 q24 q119) hdX_isTerm ⟨rfl, rfl⟩ ⟨Nat.le_of_ble_eq_true rfl, Nat.le_of_ble_eq_true rfl⟩ hl.1 rfl (Nat.le_of_ble_eq_true rfl) ⟨Nat.zero_le _, Nat.zero_le _⟩ dX0_rule_2 (fun r2 u1 H locs hp2 I => ?_)
  rw [hp2.1] at I
  have hr2 := hp2.2
  refine xi_zeq (pc := 5) (tgt := 16) F.1 (by omega) dX0_rule_5 (by decide) (fun c3 => ?_) (fun c3 => ?_)
  · refine xi_ic (pc := 16) F.1 dX0_rule_16 ?_
    exact hret (-1) u _ _ (Or.inl ⟨by omega, rfl, rfl⟩) I _ _ dX0_rule_17
  · refine lv_aload_n (pc := 8) F.1.1 F.1.2.1 dX0_rule_8 rfl (lv_at hl 0 rfl) ?_
    refine lv_iload_n (pc := 9) F.1.1 F.1.2.1 dX0_rule_9 rfl (lv_at hl 2 rfl) ?_
    refine caXi (pc := 10) (As := [.int (iI y)]) (rest := []) F I (cX_isTerm l D a u y (by omega)) (lw_V q116 q118 qs1 q24 q119) hdX_isTerm ⟨rfl, rfl⟩ ⟨Nat.le_of_ble_eq_true rfl, Nat.le_of_ble_eq_true rfl⟩ hl.1 rfl (Nat.le_of_ble_eq_true rfl) ⟨Nat.zero_le _, Nat.zero_le _⟩ dX0_rule_10 (fun r5 u4 H locs hp5 I => ?_)
    rw [hp5.1] at I
    have hr5 := hp5.2
    refine xi_zne (pc := 13) (tgt := 18) F.1 (by omega) dX0_rule_13 (by decide) (fun c6 => ?_) (fun c6 => ?_)
    · refine lv_aload_n (pc := 18) F.1.1 F.1.2.1 dX0_rule_18 rfl (lv_at hl 0 rfl) ?_
      refine gX_3 (pc := 19) F I dX0_rule_19 (fun v7 hv7 => ?_)
      have rv7 : -1 ≤ v7 ∧ v7 ≤ 127 := by rw [hv7]; exact hR 3 0
      refine xi_ic (pc := 22) F.1 dX0_rule_22 ?_
      refine xi_clt (pc := 23) (tgt := 29) F.1 (by omega) dX0_rule_23 (by decide) (fun c8 => ?_) (fun c8 => ?_)
      · refine lv_aload_n (pc := 29) F.1.1 F.1.2.1 dX0_rule_29 rfl (lv_at hl 0 rfl) ?_
        refine gX_4 (pc := 30) F I dX0_rule_30 ?_
        refine lv_aload_n (pc := 33) F.1.1 F.1.2.1 dX0_rule_33 rfl (lv_at hl 0 rfl) ?_
        refine gX_3 (pc := 34) F I dX0_rule_34 (fun v9 hv9 => ?_)
        have rv9 : -1 ≤ v9 ∧ v9 ≤ 127 := by rw [hv9]; exact hR 3 0
        refine lv_iload_n (pc := 37) F.1.1 F.1.2.1 dX0_rule_37 rfl (lv_at hl 1 rfl) ?_
        refine xi_i2b (pc := 38) F.1 (by omega) dX0_rule_38 ?_
        refine stX_4 (pc := 39) F I (by omega) (by omega) dX0_rule_39 (fun u10 H locs hu10 I => ?_)
        have hR : Rng u10.1 := by rw [hu10]; exact Rng_up hR (by omega)
        refine lv_aload_n (pc := 40) F.1.1 F.1.2.1 dX0_rule_40 rfl (lv_at hl 0 rfl) ?_
        refine gX_5 (pc := 41) F I dX0_rule_41 ?_
        refine lv_aload_n (pc := 44) F.1.1 F.1.2.1 dX0_rule_44 rfl (lv_at hl 0 rfl) ?_
        refine gX_3 (pc := 45) F I dX0_rule_45 (fun v11 hv11 => ?_)
        have rv11 : -1 ≤ v11 ∧ v11 ≤ 127 := by rw [hv11]; exact hR 3 0
        have ev11 : v11 = u.1 3 0 := by simp [hv11, hu10, up]
        refine lv_iload_n (pc := 48) F.1.1 F.1.2.1 dX0_rule_48 rfl (lv_at hl 2 rfl) ?_
        refine xi_i2b (pc := 49) F.1 (by omega) dX0_rule_49 ?_
        refine stX_5 (pc := 50) F I (by omega) (by omega) dX0_rule_50 (fun u12 H locs hu12 I => ?_)
        have hR : Rng u12.1 := by rw [hu12]; exact Rng_up hR (by omega)
        refine lv_aload_n (pc := 51) F.1.1 F.1.2.1 dX0_rule_51 rfl (lv_at hl 0 rfl) ?_
        refine gX_6 (pc := 52) F I dX0_rule_52 ?_
        refine lv_aload_n (pc := 55) F.1.1 F.1.2.1 dX0_rule_55 rfl (lv_at hl 0 rfl) ?_
        refine gX_3 (pc := 56) F I dX0_rule_56 (fun v13 hv13 => ?_)
        have rv13 : -1 ≤ v13 ∧ v13 ≤ 127 := by rw [hv13]; exact hR 3 0
        have ev13 : v13 = u.1 3 0 := by simp [hv13, hu12, hu10, up]
        refine xi_ic (pc := 59) F.1 dX0_rule_59 ?_
        refine stX_6 (pc := 60) F I (by omega) (by omega) dX0_rule_60 (fun u14 H locs hu14 I => ?_)
        have hR : Rng u14.1 := by rw [hu14]; exact Rng_up hR (by omega)
        refine lv_aload_n (pc := 61) F.1.1 F.1.2.1 dX0_rule_61 rfl (lv_at hl 0 rfl) ?_
        refine lv_dup (pc := 62) F.1.1 F.1.2.1 dX0_rule_62 rfl ?_
        refine gX_3 (pc := 63) F I dX0_rule_63 (fun v15 hv15 => ?_)
        have rv15 : -1 ≤ v15 ∧ v15 ≤ 127 := by rw [hv15]; exact hR 3 0
        have ev15 : v15 = u.1 3 0 := by simp [hv15, hu14, hu12, hu10, up]
        refine xi_ic (pc := 66) F.1 dX0_rule_66 ?_
        refine xi_iadd (pc := 67) F.1 dX0_rule_67 ?_
        refine pX_3 (pc := 68) F I dX0_rule_68 (fun u16 H locs hu16 I => ?_)
        have hR : Rng u16.1 := by rw [hu16]; exact Rng_up hR (by omega)
        refine lv_aload_n (pc := 71) F.1.1 F.1.2.1 dX0_rule_71 rfl (lv_at hl 0 rfl) ?_
        refine xi_ic (pc := 72) F.1 dX0_rule_72 ?_
        refine pX_17 (pc := 73) F I (by omega) dX0_rule_73 (fun u17 H locs hu17 I => ?_)
        have hR : Rng u17.1 := by rw [hu17]; exact Rng_up hR (by omega)
        refine lv_aload_n (pc := 76) F.1.1 F.1.2.1 dX0_rule_76 rfl (lv_at hl 0 rfl) ?_
        refine gX_3 (pc := 77) F I dX0_rule_77 (fun v18 hv18 => ?_)
        have rv18 : -1 ≤ v18 ∧ v18 ≤ 127 := by rw [hv18]; exact hR 3 0
        have ev18 : v18 = (v15 + 1) := by simp [hv18, hu17, hu16, hu14, hu12, hu10, up]
        exact hret v18 u17 _ _ (Or.inr (Or.inr ⟨by omega, by omega, by omega, by simp only [ruG, hu17, hu16, hu14, hu12, hu10, hv7, hv9, ev11, ev13, ev15, ev18]⟩)) I _ _ dX0_rule_80
      · refine xi_bp (pc := 26) F.1 dX0_rule_26 (by decide) ?_
        exact hret (-2) u _ _ (Or.inr (Or.inl ⟨by omega, by omega, rfl, rfl⟩)) I _ _ dX0_rule_28
    · refine xi_ic (pc := 16) F.1 dX0_rule_16 ?_
      exact hret (-1) u _ _ (Or.inl ⟨by omega, rfl, rfl⟩) I _ _ dX0_rule_17
set_option maxHeartbeats 4000000 in
/-- atom -/
theorem cX_atom (l : Launch) (D : va_G) (a : xAd) (u : xSt) (t x y : Int) (ht : i32 t) (hx : i32 x) (hy : i32 y) (hR : Rng u.1) (hn : 0 ≤ u.1 3 0 ∧ u.1 3 0 ≤ 2) (hq : 0 < u.1 3 0 → 0 ≤ u.1 6 (u.1 3 0 - 1) ∧ u.1 6 (u.1 3 0 - 1) ≤ 3) : MXi l D a yX0_atom cX0_atom 6 (some .int) ({ frames := 1, cells := 0, slots := 0, locals := 21 } : Room) [.int (iI t), .int (iI x), .int (iI y)] u (fun r u2 => (¬ ((0 ≤ t ∧ t ≤ 1) ∧ isT x ∧ isT y) ∧ r = -1 ∧ u2 = u) ∨ (((0 ≤ t ∧ t ≤ 1) ∧ isT x ∧ isT y) ∧ u.1 3 0 = 0 ∧ r = -3 ∧ u2 = u) ∨ (((0 ≤ t ∧ t ≤ 1) ∧ isT x ∧ isT y) ∧ 0 < u.1 3 0 ∧ 3 ≤ u.1 6 (u.1 3 0 - 1) ∧ r = -2 ∧ u2 = u) ∨ (((0 ≤ t ∧ t ≤ 1) ∧ isT x ∧ isT y) ∧ 0 < u.1 3 0 ∧ u.1 6 (u.1 3 0 - 1) < 3 ∧ r = u.1 6 (u.1 3 0 - 1) + 1 ∧ u2 = (atG u.1 t x y, u.2))) := by
  refine enXi (by decide +kernel) rfl (Nat.le_of_ble_eq_true rfl) ?_
  intro p e s m below meth c A Q ls F I hret hl
  have hl : lv_has ls 6 [(0, .ref a.1), (1, .int (iI t)), (2, .int (iI x)), (3, .int (iI y))] := hl
  refine lv_iload_n (pc := 0) F.1.1 F.1.2.1 dX0_atom_0 rfl (lv_at hl 1 rfl) ?_
  refine xi_zlt (pc := 1) (tgt := 25) F.1 (by omega) dX0_atom_1 (by decide) (fun c1 => ?_) (fun c1 => ?_)
  · refine xi_ic (pc := 25) F.1 dX0_atom_25 ?_
    exact hret (-1) u _ _ (Or.inl ⟨by omega, rfl, rfl⟩) I _ _ dX0_atom_26
  · refine lv_iload_n (pc := 4) F.1.1 F.1.2.1 dX0_atom_4 rfl (lv_at hl 1 rfl) ?_
    refine xi_ic (pc := 5) F.1 dX0_atom_5 ?_
    refine xi_cgt (pc := 6) (tgt := 25) F.1 (by omega) dX0_atom_6 (by decide) (fun c2 => ?_) (fun c2 => ?_)
    · refine xi_ic (pc := 25) F.1 dX0_atom_25 ?_
      exact hret (-1) u _ _ (Or.inl ⟨by omega, rfl, rfl⟩) I _ _ dX0_atom_26
    · refine lv_aload_n (pc := 9) F.1.1 F.1.2.1 dX0_atom_9 rfl (lv_at hl 0 rfl) ?_
      refine lv_iload_n (pc := 10) F.1.1 F.1.2.1 dX0_atom_10 rfl (lv_at hl 2 rfl) ?_
      refine caXi (pc := 11) (As := [.int (iI x)]) (rest := []) F I (cX_isTerm l D a u x (by omega)) (lw_V q116 q118 qs1 q24 q119) hdX_isTerm ⟨rfl, rfl⟩ ⟨Nat.le_of_ble_eq_true rfl, Nat.le_of_ble_eq_true rfl⟩ hl.1 rfl (Nat.le_of_ble_eq_true rfl) ⟨Nat.zero_le _, Nat.zero_le _⟩ dX0_atom_11 (fun r4 u3 H locs hp4 I => ?_)
      rw [hp4.1] at I
      have hr4 := hp4.2
      refine xi_zeq (pc := 14) (tgt := 25) F.1 (by omega) dX0_atom_14 (by decide) (fun c5 => ?_) (fun c5 => ?_)
      · refine xi_ic (pc := 25) F.1 dX0_atom_25 ?_
        exact hret (-1) u _ _ (Or.inl ⟨by omega, rfl, rfl⟩) I _ _ dX0_atom_26
      · refine lv_aload_n (pc := 17) F.1.1 F.1.2.1 dX0_atom_17 rfl (lv_at hl 0 rfl) ?_
        refine lv_iload_n (pc := 18) F.1.1 F.1.2.1 dX0_atom_18 rfl (lv_at hl 3 rfl) ?_
        refine caXi (pc := 19) (As := [.int (iI y)]) (rest := []) F I (cX_isTerm l D a u y (by omega)) (lw_V q116 q118 qs1 q24 q119) hdX_isTerm ⟨rfl, rfl⟩ ⟨Nat.le_of_ble_eq_true rfl, Nat.le_of_ble_eq_true rfl⟩ hl.1 rfl (Nat.le_of_ble_eq_true rfl) ⟨Nat.zero_le _, Nat.zero_le _⟩ dX0_atom_19 (fun r7 u6 H locs hp7 I => ?_)
        rw [hp7.1] at I
        have hr7 := hp7.2
        refine xi_zne (pc := 22) (tgt := 27) F.1 (by omega) dX0_atom_22 (by decide) (fun c8 => ?_) (fun c8 => ?_)
        · refine lv_aload_n (pc := 27) F.1.1 F.1.2.1 dX0_atom_27 rfl (lv_at hl 0 rfl) ?_
          refine gX_3 (pc := 28) F I dX0_atom_28 (fun v9 hv9 => ?_)
          have rv9 : -1 ≤ v9 ∧ v9 ≤ 127 := by rw [hv9]; exact hR 3 0
          refine xi_zne (pc := 31) (tgt := 37) F.1 (by omega) dX0_atom_31 (by decide) (fun c10 => ?_) (fun c10 => ?_)
          · refine lv_aload_n (pc := 37) F.1.1 F.1.2.1 dX0_atom_37 rfl (lv_at hl 0 rfl) ?_
            refine gX_3 (pc := 38) F I dX0_atom_38 (fun v11 hv11 => ?_)
            have rv11 : -1 ≤ v11 ∧ v11 ≤ 127 := by rw [hv11]; exact hR 3 0
            refine xi_ic (pc := 41) F.1 dX0_atom_41 ?_
            refine xi_isub (pc := 42) F.1 dX0_atom_42 ?_
            refine xi_top (fun z12 hz12 => ?_)
            refine lv_istore (pc := 43) (lv' := [(4, .int (iI z12)), (0, .ref a.1), (1, .int (iI t)), (2, .int (iI x)), (3, .int (iI y))]) F.1.1 F.1.2.1 dX0_atom_43 hl (by decide) rfl (fun ls hl => ?_)
            refine lv_aload_n (pc := 45) F.1.1 F.1.2.1 dX0_atom_45 rfl (lv_at hl 1 rfl) ?_
            refine gX_6 (pc := 46) F I dX0_atom_46 ?_
            refine lv_iload (pc := 49) F.1.1 F.1.2.1 dX0_atom_49 (lv_at hl 0 rfl) ?_
            refine ldX_6 (pc := 51) F I (by omega) dX0_atom_51 (fun v13 hv13 => ?_)
            have rv13 : -1 ≤ v13 ∧ v13 ≤ 127 := by rw [hv13]; exact hR 6 _
            have hz2 : z12 = u.1 3 0 - 1 := by omega
            have hq1 := hq (by omega)
            rw [hz2] at hv13
            refine xi_ic (pc := 52) F.1 dX0_atom_52 ?_
            refine xi_clt (pc := 53) (tgt := 59) F.1 (by omega) dX0_atom_53 (by decide) (fun c14 => ?_) (fun c14 => ?_)
            · refine xi_ic (pc := 59) F.1 dX0_atom_59 ?_
              refine lv_iload (pc := 60) F.1.1 F.1.2.1 dX0_atom_60 (lv_at hl 0 rfl) ?_
              refine xi_imul (pc := 62) F.1 dX0_atom_62 ?_
              refine lv_aload_n (pc := 63) F.1.1 F.1.2.1 dX0_atom_63 rfl (lv_at hl 1 rfl) ?_
              refine gX_6 (pc := 64) F I dX0_atom_64 ?_
              refine lv_iload (pc := 67) F.1.1 F.1.2.1 dX0_atom_67 (lv_at hl 0 rfl) ?_
              refine ldX_6 (pc := 69) F I (by omega) dX0_atom_69 (fun v15 hv15 => ?_)
              have rv15 : -1 ≤ v15 ∧ v15 ≤ 127 := by rw [hv15]; exact hR 6 _
              rw [hz2] at hv15
              refine xi_iadd (pc := 70) F.1 dX0_atom_70 ?_
              refine xi_top (fun z16 hz16 => ?_)
              refine lv_istore (pc := 71) (lv' := [(5, .int (iI z16)), (4, .int (iI z12)), (0, .ref a.1), (1, .int (iI t)), (2, .int (iI x)), (3, .int (iI y))]) F.1.1 F.1.2.1 dX0_atom_71 hl (by decide) rfl (fun ls hl => ?_)
              refine lv_aload_n (pc := 73) F.1.1 F.1.2.1 dX0_atom_73 rfl (lv_at hl 2 rfl) ?_
              refine gX_7 (pc := 74) F I dX0_atom_74 ?_
              refine lv_iload (pc := 77) F.1.1 F.1.2.1 dX0_atom_77 (lv_at hl 0 rfl) ?_
              refine lv_iload_n (pc := 79) F.1.1 F.1.2.1 dX0_atom_79 rfl (lv_at hl 3 rfl) ?_
              refine xi_i2b (pc := 80) F.1 (by omega) dX0_atom_80 ?_
              refine stX_7 (pc := 81) F I (by omega) (by omega) dX0_atom_81 (fun u17 H locs hu17 I => ?_)
              have hR : Rng u17.1 := by rw [hu17]; exact Rng_up hR (by omega)
              refine lv_aload_n (pc := 82) F.1.1 F.1.2.1 dX0_atom_82 rfl (lv_at hl 2 rfl) ?_
              refine gX_8 (pc := 83) F I dX0_atom_83 ?_
              refine lv_iload (pc := 86) F.1.1 F.1.2.1 dX0_atom_86 (lv_at hl 0 rfl) ?_
              refine lv_iload_n (pc := 88) F.1.1 F.1.2.1 dX0_atom_88 rfl (lv_at hl 4 rfl) ?_
              refine xi_i2b (pc := 89) F.1 (by omega) dX0_atom_89 ?_
              refine stX_8 (pc := 90) F I (by omega) (by omega) dX0_atom_90 (fun u18 H locs hu18 I => ?_)
              have hR : Rng u18.1 := by rw [hu18]; exact Rng_up hR (by omega)
              refine lv_aload_n (pc := 91) F.1.1 F.1.2.1 dX0_atom_91 rfl (lv_at hl 2 rfl) ?_
              refine gX_9 (pc := 92) F I dX0_atom_92 ?_
              refine lv_iload (pc := 95) F.1.1 F.1.2.1 dX0_atom_95 (lv_at hl 0 rfl) ?_
              refine lv_iload_n (pc := 97) F.1.1 F.1.2.1 dX0_atom_97 rfl (lv_at hl 5 rfl) ?_
              refine xi_i2b (pc := 98) F.1 (by omega) dX0_atom_98 ?_
              refine stX_9 (pc := 99) F I (by omega) (by omega) dX0_atom_99 (fun u19 H locs hu19 I => ?_)
              have hR : Rng u19.1 := by rw [hu19]; exact Rng_up hR (by omega)
              refine lv_aload_n (pc := 100) F.1.1 F.1.2.1 dX0_atom_100 rfl (lv_at hl 2 rfl) ?_
              refine gX_6 (pc := 101) F I dX0_atom_101 ?_
              refine lv_iload (pc := 104) F.1.1 F.1.2.1 dX0_atom_104 (lv_at hl 1 rfl) ?_
              refine lv_dup2_11 (pc := 106) F.1.1 F.1.2.1 dX0_atom_106 rfl rfl ?_
              refine ldX_6 (pc := 107) F I (by omega) dX0_atom_107 (fun v20 hv20 => ?_)
              have rv20 : -1 ≤ v20 ∧ v20 ≤ 127 := by rw [hv20]; exact hR 6 _
              have ev20 : v20 = u.1 6 z12 := by simp [hv20, hu19, hu18, hu17, up]
              rw [hz2] at ev20
              refine xi_ic (pc := 108) F.1 dX0_atom_108 ?_
              refine xi_iadd (pc := 109) F.1 dX0_atom_109 ?_
              refine xi_i2b (pc := 110) F.1 (by omega) dX0_atom_110 ?_
              refine stX_6 (pc := 111) F I (by omega) (by omega) dX0_atom_111 (fun u21 H locs hu21 I => ?_)
              have hR : Rng u21.1 := by rw [hu21]; exact Rng_up hR (by omega)
              refine lv_aload_n (pc := 112) F.1.1 F.1.2.1 dX0_atom_112 rfl (lv_at hl 2 rfl) ?_
              refine xi_ic (pc := 113) F.1 dX0_atom_113 ?_
              refine pX_17 (pc := 114) F I (by omega) dX0_atom_114 (fun u22 H locs hu22 I => ?_)
              have hR : Rng u22.1 := by rw [hu22]; exact Rng_up hR (by omega)
              refine lv_aload_n (pc := 117) F.1.1 F.1.2.1 dX0_atom_117 rfl (lv_at hl 2 rfl) ?_
              refine gX_6 (pc := 118) F I dX0_atom_118 ?_
              refine lv_iload (pc := 121) F.1.1 F.1.2.1 dX0_atom_121 (lv_at hl 1 rfl) ?_
              refine ldX_6 (pc := 123) F I (by omega) dX0_atom_123 (fun v23 hv23 => ?_)
              have rv23 : -1 ≤ v23 ∧ v23 ≤ 127 := by rw [hv23]; exact hR 6 _
              have ev23 : v23 = (v20 + 1) := by simp [hv23, hu22, hu21, hu19, hu18, hu17, up]
              exact hret v23 u22 _ _ (Or.inr (Or.inr (Or.inr ⟨by omega, by omega, by omega, by omega, by simp only [atG, hu22, hu21, hu19, hu18, hu17, hv9, hv11, hz12, hv13, hv15, hz16, ev20, ev23]⟩))) I _ _ dX0_atom_124
            · refine xi_bp (pc := 56) F.1 dX0_atom_56 (by decide) ?_
              exact hret (-2) u _ _ (Or.inr (Or.inr (Or.inl ⟨by omega, by omega, by omega, rfl, rfl⟩))) I _ _ dX0_atom_58
          · refine xi_bp (pc := 34) F.1 dX0_atom_34 (by decide) ?_
            exact hret (-3) u _ _ (Or.inr (Or.inl ⟨by omega, by omega, rfl, rfl⟩)) I _ _ dX0_atom_36
        · refine xi_ic (pc := 25) F.1 dX0_atom_25 ?_
          exact hret (-1) u _ _ (Or.inl ⟨by omega, rfl, rfl⟩) I _ _ dX0_atom_26
set_option maxHeartbeats 4000000 in
/-- dropRules -/
theorem cX_dropRules (l : Launch) (D : va_G) (a : xAd) (u : xSt) (hR : Rng u.1) : MXi l D a yX0_dropRules cX0_dropRules 2 (some .int) ({ frames := 0, cells := 0, slots := 0, locals := 0 } : Room) [] u (fun r u2 => r = u.1 3 0 ∧ u2 = (drG u.1, u.2)) := by
  refine enXi (by decide +kernel) rfl (Nat.le_of_ble_eq_true rfl) ?_
  intro p e s m below meth c A Q ls F I hret hl
  have hl : lv_has ls 2 [(0, .ref a.1)] := hl
  refine lv_aload_n (pc := 0) F.1.1 F.1.2.1 dX0_dropRules_0 rfl (lv_at hl 0 rfl) ?_
  refine gX_3 (pc := 1) F I dX0_dropRules_1 (fun v1 hv1 => ?_)
  have rv1 : -1 ≤ v1 ∧ v1 ≤ 127 := by rw [hv1]; exact hR 3 0
  refine lv_istore_n (pc := 4) (lv' := [(1, .int (iI v1)), (0, .ref a.1)]) F.1.1 F.1.2.1 dX0_dropRules_4 rfl hl (by decide) rfl (fun ls hl => ?_)
  refine lv_aload_n (pc := 5) F.1.1 F.1.2.1 dX0_dropRules_5 rfl (lv_at hl 1 rfl) ?_
  refine xi_ic (pc := 6) F.1 dX0_dropRules_6 ?_
  refine pX_3 (pc := 7) F I dX0_dropRules_7 (fun u2 H locs hu2 I => ?_)
  have hR : Rng u2.1 := by rw [hu2]; exact Rng_up hR (by omega)
  refine lv_aload_n (pc := 10) F.1.1 F.1.2.1 dX0_dropRules_10 rfl (lv_at hl 1 rfl) ?_
  refine xi_ic (pc := 11) F.1 dX0_dropRules_11 ?_
  refine pX_17 (pc := 12) F I (by omega) dX0_dropRules_12 (fun u3 H locs hu3 I => ?_)
  have hR : Rng u3.1 := by rw [hu3]; exact Rng_up hR (by omega)
  refine lv_iload_n (pc := 15) F.1.1 F.1.2.1 dX0_dropRules_15 rfl (lv_at hl 0 rfl) ?_
  exact hret v1 u3 _ _ (⟨by omega, by simp only [drG, hu3, hu2, hv1]⟩) I _ _ dX0_dropRules_16
end
section
set_option maxRecDepth 100000
/-- a binding array saved into its frame, up to place i; and restored -/
def svL (g : xG) (d i : Int) : xG := fun k j => if k = 12 ∧ 7 * d ≤ j ∧ j < 7 * d + i then g 10 (j - 7 * d) else g k j
def rsL (g : xG) (d i : Int) : xG := fun k j => if k = 10 ∧ 0 ≤ j ∧ j < i then g 12 (7 * d + j) else g k j
theorem svL_0 (g : xG) (d : Int) : svL g d 0 = g := by
  funext k j
  unfold svL
  rw [if_neg (by omega)]
theorem rsL_0 (g : xG) (d : Int) : rsL g d 0 = g := by
  funext k j
  unfold rsL
  rw [if_neg (by omega)]
theorem svL_s (g : xG) {d i : Int} (hi : 0 ≤ i) : up (svL g d i) 12 (7 * d + i) (svL g d i 10 i) = svL g d (i + 1) := by
  funext k j
  have e1 : svL g d i 10 i = g 10 i := by unfold svL; rw [if_neg (by omega)]
  rw [e1]
  unfold up svL
  by_cases h1 : k = 12 ∧ j = 7 * d + i
  · rw [if_pos h1, if_pos (by omega)]
    congr 1
    omega
  · rw [if_neg h1]
    by_cases h2 : k = 12 ∧ 7 * d ≤ j ∧ j < 7 * d + i
    · rw [if_pos h2, if_pos (by omega)]
    · rw [if_neg h2, if_neg (by omega)]
theorem rsL_s (g : xG) {d i : Int} (hi : 0 ≤ i) : up (rsL g d i) 10 i (rsL g d i 12 (7 * d + i)) = rsL g d (i + 1) := by
  funext k j
  have e1 : rsL g d i 12 (7 * d + i) = g 12 (7 * d + i) := by unfold rsL; rw [if_neg (by omega)]
  rw [e1]
  unfold up rsL
  by_cases h1 : k = 10 ∧ j = i
  · rw [if_pos h1, if_pos (by omega), h1.2]
  · rw [if_neg h1]
    by_cases h2 : k = 10 ∧ 0 ≤ j ∧ j < i
    · rw [if_pos h2, if_pos (by omega)]
    · rw [if_neg h2, if_neg (by omega)]
/-- a code: a constant, an unknown, a variable -/
abbrev cod (x : Int) : Prop := (0 ≤ x ∧ x < 10) ∨ (10 ≤ x ∧ x ≤ 12) ∨ (20 ≤ x ∧ x ≤ 23)
def valP : Nat → (Int → Int) → Int → Int
  | 0, _, v => v
  | n + 1, b, v => if slP v < 0 ∨ b (slP v) < 0 then v else valP n b (b (slP v))
theorem slP_r {v : Int} (h : cod v) : (slP v = -1 ∧ 0 ≤ v ∧ v < 10) ∨ (0 ≤ slP v ∧ slP v < 7 ∧ 10 ≤ v) := by
  unfold slP
  split
  · omega
  · split
    · omega
    · omega
/-- every binding is none, or a code -/
def bOk (b : Int → Int) : Prop := ∀ i, 0 ≤ i → i < 7 → b i < 0 ∨ cod (b i)
theorem valP_cod {b : Int → Int} (hb : bOk b) : ∀ (n : Nat) (v : Int), cod v → cod (valP n b v) := by
  intro n
  induction n with
  | zero => intro v h; exact h
  | succ n ih =>
    intro v h
    unfold valP
    split
    · exact h
    · have h1 := slP_r h
      have h2 := hb (slP v) (by omega) (by omega)
      exact ih _ (by omega)
def setb (b : Int → Int) (i v : Int) : Int → Int := fun j => if j = i then v else b j
def frP (g : xG) : Int := if g 13 0 = 0 then 10 else 20
def uniP (free : Int) (b : Int → Int) (s t : Int) : Option (Int → Int) :=
  if valP 8 b s = valP 8 b t then some b else if free ≤ valP 8 b s ∧ valP 8 b t ≤ valP 8 b s then some (setb b (slP (valP 8 b s)) (valP 8 b t))
  else if valP 8 b t < free then none else some (setb b (slP (valP 8 b t)) (valP 8 b s))
theorem up_10 (g : xG) (i v : Int) : up g 10 i v 10 = setb (g 10) i v := by
  funext j
  unfold up setb
  by_cases h : j = i
  · rw [if_pos h, if_pos ⟨rfl, h⟩]
  · rw [if_neg h, if_neg (fun q => h q.2)]
theorem up_o (g : xG) {k k' : Nat} (i v : Int) (h : k' ≠ k) : up g k i v k' = g k' := by
  funext j
  exact up_k h
def inBd (g : xG) (r t : Int) : Prop := t < 20 ∨ ∃ k, 0 ≤ k ∧ k < g 6 r ∧ (g 8 (3 * r + k) = t ∨ g 9 (3 * r + k) = t)
def safG (g : xG) (r : Int) : Prop := inBd g r (g 4 r) ∧ inBd g r (g 5 r)
set_option maxHeartbeats 4000000 in
/-- save -/
theorem cX_save (l : Launch) (D : va_G) (a : xAd) (u : xSt) (d : Int) (hd : 0 ≤ d ∧ d ≤ 3) (hR : Rng u.1) : MXv l D a yX0_save cX0_save 3 ({ frames := 0, cells := 0, slots := 0, locals := 0 } : Room) [.int (iI d)] u (fun u2 => u2 = (svL u.1 d 7, u.2) ∧ Rng u2.1) := by
  refine enXv (by decide +kernel) rfl (Nat.le_of_ble_eq_true rfl) ?_
  intro p e s m below meth c A Q ls F I hret hl
  have hl : lv_has ls 3 [(0, .ref a.1), (1, .int (iI d))] := hl
  have loop : ∀ (n : Nat) (i : Int) (v : xSt) (H : Heap) (locs : List Loc) (ls : Array Slot), 0 ≤ i → i + n = 7 → v = (svL u.1 d i, u.2) → Rng v.1 → IX D a A s H locs v → lv_has ls 3 [(2, .int (iI i)), (0, .ref a.1), (1, .int (iI d))] → W p l e ({ frames := 0, cells := 0, slots := 0, locals := 0 } : Room) s m (Value.ref a.1 :: [.int (iI d)]).toArray below meth c H locs 0 0 Q (F0 m 2 ls []) := by
    intro n
    induction n with
    | zero =>
      intro i v H locs ls h0 hn hv hR I hl
      refine lv_iload_n (pc := 2) F.1.1 F.1.2.1 dX0_save_2 rfl (lv_at hl 0 rfl) ?_
      refine xi_bp (pc := 3) F.1 dX0_save_3 (by decide) ?_
      refine xi_cge (pc := 5) (tgt := 31) F.1 (by omega) dX0_save_5 (by decide) (fun c1 => ?_) (fun c1 => ?_)
      · exact hret v _ _ (⟨by rw [hv]; congr 2; omega, hR⟩) I _ _ dX0_save_31
      · exfalso; omega
    | succ n ih =>
      intro i v H locs ls h0 hn hv hR I hl
      refine lv_iload_n (pc := 2) F.1.1 F.1.2.1 dX0_save_2 rfl (lv_at hl 0 rfl) ?_
      refine xi_bp (pc := 3) F.1 dX0_save_3 (by decide) ?_
      refine xi_cge (pc := 5) (tgt := 31) F.1 (by omega) dX0_save_5 (by decide) (fun c1 => ?_) (fun c1 => ?_)
      · exfalso; omega
      · refine lv_aload_n (pc := 8) F.1.1 F.1.2.1 dX0_save_8 rfl (lv_at hl 1 rfl) ?_
        refine gX_12 (pc := 9) F I dX0_save_9 ?_
        refine xi_bp (pc := 12) F.1 dX0_save_12 (by decide) ?_
        refine lv_iload_n (pc := 14) F.1.1 F.1.2.1 dX0_save_14 rfl (lv_at hl 2 rfl) ?_
        refine xi_imul (pc := 15) F.1 dX0_save_15 ?_
        refine lv_iload_n (pc := 16) F.1.1 F.1.2.1 dX0_save_16 rfl (lv_at hl 0 rfl) ?_
        refine xi_iadd (pc := 17) F.1 dX0_save_17 ?_
        refine lv_aload_n (pc := 18) F.1.1 F.1.2.1 dX0_save_18 rfl (lv_at hl 1 rfl) ?_
        refine gX_10 (pc := 19) F I dX0_save_19 ?_
        refine lv_iload_n (pc := 22) F.1.1 F.1.2.1 dX0_save_22 rfl (lv_at hl 0 rfl) ?_
        refine ldX_10 (pc := 23) F I (by omega) dX0_save_23 (fun v2 hv2 => ?_)
        have rv2 : -1 ≤ v2 ∧ v2 ≤ 127 := by rw [hv2]; exact hR 10 _
        refine stX_12 (pc := 24) F I (by omega) (by omega) dX0_save_24 (fun u3 H locs hu3 I => ?_)
        have hR : Rng u3.1 := by rw [hu3]; exact Rng_up hR (by omega)
        refine xi_iinc (pc := 25) (lv' := [(2, .int (iI (i + 1))), (0, .ref a.1), (1, .int (iI d))]) F.1 dX0_save_25 hl (k := 0) rfl (by decide) rfl (fun ls hl => ?_)
        refine lv_goto (pc := 28) (tgt := 2) F.1.1 F.1.2.1 dX0_save_28 (by decide) ?_
        exact ih (i + 1) u3 _ _ ls (by omega) (by omega) (by rw [hu3, hv2, hv, svL_s u.1 h0]) hR I hl
  refine xi_ic (pc := 0) F.1 dX0_save_0 ?_
  refine lv_istore_n (pc := 1) (lv' := [(2, .int (iI 0)), (0, .ref a.1), (1, .int (iI d))]) F.1.1 F.1.2.1 dX0_save_1 rfl hl (by decide) rfl (fun ls hl => ?_)
  exact loop 7 0 u _ _ ls (by omega) (by omega) (by rw [svL_0]) hR I hl
set_option maxHeartbeats 4000000 in
/-- restore -/
theorem cX_restore (l : Launch) (D : va_G) (a : xAd) (u : xSt) (d : Int) (hd : 0 ≤ d ∧ d ≤ 3) (hR : Rng u.1) : MXv l D a yX0_restore cX0_restore 3 ({ frames := 0, cells := 0, slots := 0, locals := 0 } : Room) [.int (iI d)] u (fun u2 => u2 = (rsL u.1 d 7, u.2) ∧ Rng u2.1) := by
  refine enXv (by decide +kernel) rfl (Nat.le_of_ble_eq_true rfl) ?_
  intro p e s m below meth c A Q ls F I hret hl
  have hl : lv_has ls 3 [(0, .ref a.1), (1, .int (iI d))] := hl
  have loop : ∀ (n : Nat) (i : Int) (v : xSt) (H : Heap) (locs : List Loc) (ls : Array Slot), 0 ≤ i → i + n = 7 → v = (rsL u.1 d i, u.2) → Rng v.1 → IX D a A s H locs v → lv_has ls 3 [(2, .int (iI i)), (0, .ref a.1), (1, .int (iI d))] → W p l e ({ frames := 0, cells := 0, slots := 0, locals := 0 } : Room) s m (Value.ref a.1 :: [.int (iI d)]).toArray below meth c H locs 0 0 Q (F0 m 2 ls []) := by
    intro n
    induction n with
    | zero =>
      intro i v H locs ls h0 hn hv hR I hl
      refine lv_iload_n (pc := 2) F.1.1 F.1.2.1 dX0_restore_2 rfl (lv_at hl 0 rfl) ?_
      refine xi_bp (pc := 3) F.1 dX0_restore_3 (by decide) ?_
      refine xi_cge (pc := 5) (tgt := 31) F.1 (by omega) dX0_restore_5 (by decide) (fun c1 => ?_) (fun c1 => ?_)
      · exact hret v _ _ (⟨by rw [hv]; congr 2; omega, hR⟩) I _ _ dX0_restore_31
      · exfalso; omega
    | succ n ih =>
      intro i v H locs ls h0 hn hv hR I hl
      refine lv_iload_n (pc := 2) F.1.1 F.1.2.1 dX0_restore_2 rfl (lv_at hl 0 rfl) ?_
      refine xi_bp (pc := 3) F.1 dX0_restore_3 (by decide) ?_
      refine xi_cge (pc := 5) (tgt := 31) F.1 (by omega) dX0_restore_5 (by decide) (fun c1 => ?_) (fun c1 => ?_)
      · exfalso; omega
      · refine lv_aload_n (pc := 8) F.1.1 F.1.2.1 dX0_restore_8 rfl (lv_at hl 1 rfl) ?_
        refine gX_10 (pc := 9) F I dX0_restore_9 ?_
        refine lv_iload_n (pc := 12) F.1.1 F.1.2.1 dX0_restore_12 rfl (lv_at hl 0 rfl) ?_
        refine lv_aload_n (pc := 13) F.1.1 F.1.2.1 dX0_restore_13 rfl (lv_at hl 1 rfl) ?_
        refine gX_12 (pc := 14) F I dX0_restore_14 ?_
        refine xi_bp (pc := 17) F.1 dX0_restore_17 (by decide) ?_
        refine lv_iload_n (pc := 19) F.1.1 F.1.2.1 dX0_restore_19 rfl (lv_at hl 2 rfl) ?_
        refine xi_imul (pc := 20) F.1 dX0_restore_20 ?_
        refine lv_iload_n (pc := 21) F.1.1 F.1.2.1 dX0_restore_21 rfl (lv_at hl 0 rfl) ?_
        refine xi_iadd (pc := 22) F.1 dX0_restore_22 ?_
        refine ldX_12 (pc := 23) F I (by omega) dX0_restore_23 (fun v2 hv2 => ?_)
        have rv2 : -1 ≤ v2 ∧ v2 ≤ 127 := by rw [hv2]; exact hR 12 _
        refine stX_10 (pc := 24) F I (by omega) (by omega) dX0_restore_24 (fun u3 H locs hu3 I => ?_)
        have hR : Rng u3.1 := by rw [hu3]; exact Rng_up hR (by omega)
        refine xi_iinc (pc := 25) (lv' := [(2, .int (iI (i + 1))), (0, .ref a.1), (1, .int (iI d))]) F.1 dX0_restore_25 hl (k := 0) rfl (by decide) rfl (fun ls hl => ?_)
        refine lv_goto (pc := 28) (tgt := 2) F.1.1 F.1.2.1 dX0_restore_28 (by decide) ?_
        exact ih (i + 1) u3 _ _ ls (by omega) (by omega) (by rw [hu3, hv2, hv, rsL_s u.1 h0]) hR I hl
  refine xi_ic (pc := 0) F.1 dX0_restore_0 ?_
  refine lv_istore_n (pc := 1) (lv' := [(2, .int (iI 0)), (0, .ref a.1), (1, .int (iI d))]) F.1.1 F.1.2.1 dX0_restore_1 rfl hl (by decide) rfl (fun ls hl => ?_)
  exact loop 7 0 u _ _ ls (by omega) (by omega) (by rw [rsL_0]) hR I hl
set_option maxHeartbeats 4000000 in
/-- valueOf -/
theorem cX_valueOf (l : Launch) (D : va_G) (a : xAd) (u : xSt) (t : Int) (ht : cod t) (hb : bOk (u.1 10)) (hR : Rng u.1) : MXi l D a yX0_valueOf cX0_valueOf 5 (some .int) ({ frames := 1, cells := 0, slots := 0, locals := 21 } : Room) [.int (iI t)] u (fun r u2 => u2 = u ∧ r = valP 8 (u.1 10) t) := by
  refine enXi (by decide +kernel) rfl (Nat.le_of_ble_eq_true rfl) ?_
  intro p e s m below meth c A Q ls F I hret hl
  have hl : lv_has ls 5 [(0, .ref a.1), (1, .int (iI t))] := hl
  have loop : ∀ (n : Nat) (i v : Int) (H : Heap) (locs : List Loc) (ls : Array Slot), 0 ≤ i → i + n = 8 → cod v → valP 8 (u.1 10) t = valP n (u.1 10) v → IX D a A s H locs u → lv_has ls 5 [(3, .int (iI i)), (2, .int (iI v)), (0, .ref a.1), (1, .int (iI t))] → W p l e ({ frames := 1, cells := 0, slots := 0, locals := 21 } : Room) s m (Value.ref a.1 :: [.int (iI t)]).toArray below meth c H locs 0 0 Q (F0 m 4 ls []) := by
    intro n
    induction n with
    | zero =>
      intro i v H locs ls h0 hn hc hv I hl
      refine lv_iload_n (pc := 4) F.1.1 F.1.2.1 dX0_valueOf_4 rfl (lv_at hl 0 rfl) ?_
      refine xi_bp (pc := 5) F.1 dX0_valueOf_5 (by decide) ?_
      refine xi_cge (pc := 7) (tgt := 48) F.1 (by omega) dX0_valueOf_7 (by decide) (fun c1 => ?_) (fun c1 => ?_)
      · refine lv_iload_n (pc := 48) F.1.1 F.1.2.1 dX0_valueOf_48 rfl (lv_at hl 1 rfl) ?_
        exact hret v u _ _ (⟨rfl, by rw [hv]; rfl⟩) I _ _ dX0_valueOf_49
      · exfalso; omega
    | succ n ih =>
      intro i v H locs ls h0 hn hc hv I hl
      refine lv_iload_n (pc := 4) F.1.1 F.1.2.1 dX0_valueOf_4 rfl (lv_at hl 0 rfl) ?_
      refine xi_bp (pc := 5) F.1 dX0_valueOf_5 (by decide) ?_
      refine xi_cge (pc := 7) (tgt := 48) F.1 (by omega) dX0_valueOf_7 (by decide) (fun c1 => ?_) (fun c1 => ?_)
      · exfalso; omega
      · refine lv_aload_n (pc := 10) F.1.1 F.1.2.1 dX0_valueOf_10 rfl (lv_at hl 2 rfl) ?_
        refine lv_iload_n (pc := 11) F.1.1 F.1.2.1 dX0_valueOf_11 rfl (lv_at hl 1 rfl) ?_
        refine caXi (pc := 12) (As := [.int (iI v)]) (rest := []) F I (cX_slotOf l D a u v (by omega)) (lw_V q168 q170 qs11 q24 q171) hdX_slotOf ⟨rfl, rfl⟩ ⟨Nat.le_of_ble_eq_true rfl, Nat.le_of_ble_eq_true rfl⟩ hl.1 rfl (Nat.le_of_ble_eq_true rfl) ⟨Nat.zero_le _, Nat.zero_le _⟩ dX0_valueOf_12 (fun r3 u2 H locs hp3 I => ?_)
        rw [hp3.1] at I
        have hr3 := hp3.2
        have hs := slP_r hc
        have hbs := hb (slP v)
        rw [← hr3] at hs hbs
        have hvn : valP (n + 1) (u.1 10) v = if slP v < 0 ∨ u.1 10 (slP v) < 0 then v else valP n (u.1 10) (u.1 10 (slP v)) := rfl
        rw [← hr3] at hvn
        refine lv_istore (pc := 15) (lv' := [(4, .int (iI r3)), (3, .int (iI i)), (2, .int (iI v)), (0, .ref a.1), (1, .int (iI t))]) F.1.1 F.1.2.1 dX0_valueOf_15 hl (by decide) rfl (fun ls hl => ?_)
        refine lv_iload (pc := 17) F.1.1 F.1.2.1 dX0_valueOf_17 (lv_at hl 0 rfl) ?_
        refine xi_zlt (pc := 19) (tgt := 32) F.1 (by omega) dX0_valueOf_19 (by decide) (fun c4 => ?_) (fun c4 => ?_)
        · refine lv_iload_n (pc := 32) F.1.1 F.1.2.1 dX0_valueOf_32 rfl (lv_at hl 2 rfl) ?_
          exact hret v u _ _ (⟨rfl, by rw [hv, hvn, if_pos (by omega)]⟩) I _ _ dX0_valueOf_33
        · refine lv_aload_n (pc := 22) F.1.1 F.1.2.1 dX0_valueOf_22 rfl (lv_at hl 3 rfl) ?_
          refine gX_10 (pc := 23) F I dX0_valueOf_23 ?_
          refine lv_iload (pc := 26) F.1.1 F.1.2.1 dX0_valueOf_26 (lv_at hl 0 rfl) ?_
          refine ldX_10 (pc := 28) F I (by omega) dX0_valueOf_28 (fun v5 hv5 => ?_)
          have rv5 : -1 ≤ v5 ∧ v5 ≤ 127 := by rw [hv5]; exact hR 10 _
          refine xi_zge (pc := 29) (tgt := 34) F.1 (by omega) dX0_valueOf_29 (by decide) (fun c6 => ?_) (fun c6 => ?_)
          · refine lv_aload_n (pc := 34) F.1.1 F.1.2.1 dX0_valueOf_34 rfl (lv_at hl 3 rfl) ?_
            refine gX_10 (pc := 35) F I dX0_valueOf_35 ?_
            refine lv_iload (pc := 38) F.1.1 F.1.2.1 dX0_valueOf_38 (lv_at hl 0 rfl) ?_
            refine ldX_10 (pc := 40) F I (by omega) dX0_valueOf_40 (fun v7 hv7 => ?_)
            have rv7 : -1 ≤ v7 ∧ v7 ≤ 127 := by rw [hv7]; exact hR 10 _
            refine lv_istore_n (pc := 41) (lv' := [(2, .int (iI v7)), (4, .int (iI r3)), (3, .int (iI i)), (0, .ref a.1), (1, .int (iI t))]) F.1.1 F.1.2.1 dX0_valueOf_41 rfl hl (by decide) rfl (fun ls hl => ?_)
            refine xi_iinc (pc := 42) (lv' := [(3, .int (iI (i + 1))), (2, .int (iI v7)), (4, .int (iI r3)), (0, .ref a.1), (1, .int (iI t))]) F.1 dX0_valueOf_42 hl (k := 2) rfl (by decide) rfl (fun ls hl => ?_)
            refine lv_goto (pc := 45) (tgt := 4) F.1.1 F.1.2.1 dX0_valueOf_45 (by decide) ?_
            have hbs2 := hbs (by omega) (by omega)
            exact ih (i + 1) v7 _ _ ls (by omega) (by omega) (by omega) (by rw [hv, hvn, if_neg (by omega), hv7]) I (lv_sub hl [0, 1, 3, 4] rfl)
          · refine lv_iload_n (pc := 32) F.1.1 F.1.2.1 dX0_valueOf_32 rfl (lv_at hl 2 rfl) ?_
            exact hret v u _ _ (⟨rfl, by rw [hv, hvn, if_pos (by omega)]⟩) I _ _ dX0_valueOf_33
  refine lv_iload_n (pc := 0) F.1.1 F.1.2.1 dX0_valueOf_0 rfl (lv_at hl 1 rfl) ?_
  refine lv_istore_n (pc := 1) (lv' := [(2, .int (iI t)), (0, .ref a.1), (1, .int (iI t))]) F.1.1 F.1.2.1 dX0_valueOf_1 rfl hl (by decide) rfl (fun ls hl => ?_)
  refine xi_ic (pc := 2) F.1 dX0_valueOf_2 ?_
  refine lv_istore_n (pc := 3) (lv' := [(3, .int (iI 0)), (2, .int (iI t)), (0, .ref a.1), (1, .int (iI t))]) F.1.1 F.1.2.1 dX0_valueOf_3 rfl hl (by decide) rfl (fun ls hl => ?_)
  exact loop 8 0 t _ _ ls (by omega) (by omega) ht rfl I hl
set_option maxHeartbeats 4000000 in
/-- unify -/
theorem cX_unify (l : Launch) (D : va_G) (a : xAd) (u : xSt) (x y : Int) (hx : cod x) (hy : cod y) (hb : bOk (u.1 10)) (hR : Rng u.1) : MXi l D a yX0_unify cX0_unify 6 (some .boolean) ({ frames := 2, cells := 0, slots := 0, locals := 45 } : Room) [.int (iI x), .int (iI y)] u (fun r u2 => (r = 1 ∧ uniP (frP u.1) (u.1 10) x y = some (u2.1 10) ∧ (∀ k, k ≠ 10 → u2.1 k = u.1 k) ∧ u2.2 = u.2 ∧ Rng u2.1) ∨ (r = 0 ∧ uniP (frP u.1) (u.1 10) x y = none ∧ u2 = u)) := by
  refine enXz (by decide +kernel) rfl (Nat.le_of_ble_eq_true rfl) ?_
  intro p e s m below meth c A Q ls F I hret hl
  have hl : lv_has ls 6 [(0, .ref a.1), (1, .int (iI x)), (2, .int (iI y))] := hl
  refine lv_aload_n (pc := 0) F.1.1 F.1.2.1 dX0_unify_0 rfl (lv_at hl 0 rfl) ?_
  refine lv_iload_n (pc := 1) F.1.1 F.1.2.1 dX0_unify_1 rfl (lv_at hl 1 rfl) ?_
  refine caXi (pc := 2) (As := [.int (iI x)]) (rest := []) F I (cX_valueOf l D a u x (by omega) hb hR) (lw_V q164 q166 qs10 q24 q167) hdX_valueOf ⟨rfl, rfl⟩ ⟨Nat.le_of_ble_eq_true rfl, Nat.le_of_ble_eq_true rfl⟩ hl.1 rfl (Nat.le_of_ble_eq_true rfl) ⟨Nat.zero_le _, Nat.zero_le _⟩ dX0_unify_2 (fun r2 u1 H locs hp2 I => ?_)
  rw [hp2.1] at I
  have hr2 := hp2.2
  have cr2 : cod r2 := by rw [hr2]; exact valP_cod hb 8 _ (by omega)
  refine lv_istore_n (pc := 5) (lv' := [(3, .int (iI r2)), (0, .ref a.1), (1, .int (iI x)), (2, .int (iI y))]) F.1.1 F.1.2.1 dX0_unify_5 rfl hl (by decide) rfl (fun ls hl => ?_)
  refine lv_aload_n (pc := 6) F.1.1 F.1.2.1 dX0_unify_6 rfl (lv_at hl 1 rfl) ?_
  refine lv_iload_n (pc := 7) F.1.1 F.1.2.1 dX0_unify_7 rfl (lv_at hl 3 rfl) ?_
  refine caXi (pc := 8) (As := [.int (iI y)]) (rest := []) F I (cX_valueOf l D a u y (by omega) hb hR) (lw_V q164 q166 qs10 q24 q167) hdX_valueOf ⟨rfl, rfl⟩ ⟨Nat.le_of_ble_eq_true rfl, Nat.le_of_ble_eq_true rfl⟩ hl.1 rfl (Nat.le_of_ble_eq_true rfl) ⟨Nat.zero_le _, Nat.zero_le _⟩ dX0_unify_8 (fun r4 u3 H locs hp4 I => ?_)
  rw [hp4.1] at I
  have hr4 := hp4.2
  have cr4 : cod r4 := by rw [hr4]; exact valP_cod hb 8 _ (by omega)
  refine lv_istore (pc := 11) (lv' := [(4, .int (iI r4)), (3, .int (iI r2)), (0, .ref a.1), (1, .int (iI x)), (2, .int (iI y))]) F.1.1 F.1.2.1 dX0_unify_11 hl (by decide) rfl (fun ls hl => ?_)
  refine lv_iload_n (pc := 13) F.1.1 F.1.2.1 dX0_unify_13 rfl (lv_at hl 1 rfl) ?_
  refine lv_iload (pc := 14) F.1.1 F.1.2.1 dX0_unify_14 (lv_at hl 0 rfl) ?_
  refine xi_cne (pc := 16) (tgt := 21) F.1 (by omega) dX0_unify_16 (by decide) (fun c5 => ?_) (fun c5 => ?_)
  · refine lv_aload_n (pc := 21) F.1.1 F.1.2.1 dX0_unify_21 rfl (lv_at hl 2 rfl) ?_
    refine gX_13 (pc := 22) F I dX0_unify_22 (fun v6 hv6 => ?_)
    have rv6 : -1 ≤ v6 ∧ v6 ≤ 127 := by rw [hv6]; exact hR 13 0
    refine xi_zeq (pc := 25) (tgt := 33) F.1 (by omega) dX0_unify_25 (by decide) (fun c7 => ?_) (fun c7 => ?_)
    · refine xi_bp (pc := 33) F.1 dX0_unify_33 (by decide) ?_
      refine lv_istore (pc := 35) (lv' := [(5, .int (iI 10)), (4, .int (iI r4)), (3, .int (iI r2)), (0, .ref a.1), (1, .int (iI x)), (2, .int (iI y))]) F.1.1 F.1.2.1 dX0_unify_35 hl (by decide) rfl (fun ls hl => ?_)
      refine lv_iload_n (pc := 37) F.1.1 F.1.2.1 dX0_unify_37 rfl (lv_at hl 2 rfl) ?_
      refine lv_iload (pc := 38) F.1.1 F.1.2.1 dX0_unify_38 (lv_at hl 0 rfl) ?_
      refine xi_clt (pc := 40) (tgt := 64) F.1 (by omega) dX0_unify_40 (by decide) (fun c8 => ?_) (fun c8 => ?_)
      · refine lv_iload (pc := 64) F.1.1 F.1.2.1 dX0_unify_64 (lv_at hl 1 rfl) ?_
        refine lv_iload (pc := 66) F.1.1 F.1.2.1 dX0_unify_66 (lv_at hl 0 rfl) ?_
        refine xi_cge (pc := 68) (tgt := 73) F.1 (by omega) dX0_unify_68 (by decide) (fun c9 => ?_) (fun c9 => ?_)
        · refine lv_aload_n (pc := 73) F.1.1 F.1.2.1 dX0_unify_73 rfl (lv_at hl 3 rfl) ?_
          refine gX_10 (pc := 74) F I dX0_unify_74 ?_
          refine lv_aload_n (pc := 77) F.1.1 F.1.2.1 dX0_unify_77 rfl (lv_at hl 3 rfl) ?_
          refine lv_iload (pc := 78) F.1.1 F.1.2.1 dX0_unify_78 (lv_at hl 1 rfl) ?_
          refine caXi (pc := 80) (As := [.int (iI r4)]) (rest := [.ref (a.2.1 10)]) F I (cX_slotOf l D a u r4 (by omega)) (lw_V q168 q170 qs11 q24 q171) hdX_slotOf ⟨rfl, rfl⟩ ⟨Nat.le_of_ble_eq_true rfl, Nat.le_of_ble_eq_true rfl⟩ hl.1 rfl (Nat.le_of_ble_eq_true rfl) ⟨Nat.zero_le _, Nat.zero_le _⟩ dX0_unify_80 (fun r11 u10 H locs hp11 I => ?_)
          rw [hp11.1] at I
          have hr11 := hp11.2
          have hs := slP_r cr4
          rw [← hr11] at hs
          refine lv_iload_n (pc := 83) F.1.1 F.1.2.1 dX0_unify_83 rfl (lv_at hl 2 rfl) ?_
          refine xi_i2b (pc := 84) F.1 (by omega) dX0_unify_84 ?_
          refine stX_10 (pc := 85) F I (by omega) (by omega) dX0_unify_85 (fun u12 H locs hu12 I => ?_)
          have hR : Rng u12.1 := by rw [hu12]; exact Rng_up hR (by omega)
          refine xi_ic (pc := 86) F.1 dX0_unify_86 ?_
          exact hret 1 u12 _ _ (by omega) (Or.inl ⟨rfl, by have hfr : frP u.1 = 10 := (by unfold frP; rw [← hv6]; rw [if_pos (by omega)]); unfold uniP; rw [← hr2, ← hr4, hfr, if_neg (by omega), if_neg (by omega), if_neg (by omega), hu12, ← hr11]; exact congrArg some (up_10 _ _ _).symm, fun k hk => by rw [hu12]; exact up_o _ _ _ hk, by rw [hu12], hR⟩) I _ _ dX0_unify_87
        · refine xi_ic (pc := 71) F.1 dX0_unify_71 ?_
          exact hret 0 u _ _ (by omega) (Or.inr ⟨rfl, by have hfr : frP u.1 = 10 := (by unfold frP; rw [← hv6]; rw [if_pos (by omega)]); unfold uniP; rw [← hr2, ← hr4, hfr, if_neg (by omega), if_neg (by omega), if_pos (by omega)], rfl⟩) I _ _ dX0_unify_72
      · refine lv_iload_n (pc := 43) F.1.1 F.1.2.1 dX0_unify_43 rfl (lv_at hl 2 rfl) ?_
        refine lv_iload (pc := 44) F.1.1 F.1.2.1 dX0_unify_44 (lv_at hl 1 rfl) ?_
        refine xi_clt (pc := 46) (tgt := 64) F.1 (by omega) dX0_unify_46 (by decide) (fun c13 => ?_) (fun c13 => ?_)
        · refine lv_iload (pc := 64) F.1.1 F.1.2.1 dX0_unify_64 (lv_at hl 1 rfl) ?_
          refine lv_iload (pc := 66) F.1.1 F.1.2.1 dX0_unify_66 (lv_at hl 0 rfl) ?_
          refine xi_cge (pc := 68) (tgt := 73) F.1 (by omega) dX0_unify_68 (by decide) (fun c14 => ?_) (fun c14 => ?_)
          · refine lv_aload_n (pc := 73) F.1.1 F.1.2.1 dX0_unify_73 rfl (lv_at hl 3 rfl) ?_
            refine gX_10 (pc := 74) F I dX0_unify_74 ?_
            refine lv_aload_n (pc := 77) F.1.1 F.1.2.1 dX0_unify_77 rfl (lv_at hl 3 rfl) ?_
            refine lv_iload (pc := 78) F.1.1 F.1.2.1 dX0_unify_78 (lv_at hl 1 rfl) ?_
            refine caXi (pc := 80) (As := [.int (iI r4)]) (rest := [.ref (a.2.1 10)]) F I (cX_slotOf l D a u r4 (by omega)) (lw_V q168 q170 qs11 q24 q171) hdX_slotOf ⟨rfl, rfl⟩ ⟨Nat.le_of_ble_eq_true rfl, Nat.le_of_ble_eq_true rfl⟩ hl.1 rfl (Nat.le_of_ble_eq_true rfl) ⟨Nat.zero_le _, Nat.zero_le _⟩ dX0_unify_80 (fun r16 u15 H locs hp16 I => ?_)
            rw [hp16.1] at I
            have hr16 := hp16.2
            have hs := slP_r cr4
            rw [← hr16] at hs
            refine lv_iload_n (pc := 83) F.1.1 F.1.2.1 dX0_unify_83 rfl (lv_at hl 2 rfl) ?_
            refine xi_i2b (pc := 84) F.1 (by omega) dX0_unify_84 ?_
            refine stX_10 (pc := 85) F I (by omega) (by omega) dX0_unify_85 (fun u17 H locs hu17 I => ?_)
            have hR : Rng u17.1 := by rw [hu17]; exact Rng_up hR (by omega)
            refine xi_ic (pc := 86) F.1 dX0_unify_86 ?_
            exact hret 1 u17 _ _ (by omega) (Or.inl ⟨rfl, by have hfr : frP u.1 = 10 := (by unfold frP; rw [← hv6]; rw [if_pos (by omega)]); unfold uniP; rw [← hr2, ← hr4, hfr, if_neg (by omega), if_neg (by omega), if_neg (by omega), hu17, ← hr16]; exact congrArg some (up_10 _ _ _).symm, fun k hk => by rw [hu17]; exact up_o _ _ _ hk, by rw [hu17], hR⟩) I _ _ dX0_unify_87
          · refine xi_ic (pc := 71) F.1 dX0_unify_71 ?_
            exact hret 0 u _ _ (by omega) (Or.inr ⟨rfl, by have hfr : frP u.1 = 10 := (by unfold frP; rw [← hv6]; rw [if_pos (by omega)]); unfold uniP; rw [← hr2, ← hr4, hfr, if_neg (by omega), if_neg (by omega), if_pos (by omega)], rfl⟩) I _ _ dX0_unify_72
        · refine lv_aload_n (pc := 49) F.1.1 F.1.2.1 dX0_unify_49 rfl (lv_at hl 3 rfl) ?_
          refine gX_10 (pc := 50) F I dX0_unify_50 ?_
          refine lv_aload_n (pc := 53) F.1.1 F.1.2.1 dX0_unify_53 rfl (lv_at hl 3 rfl) ?_
          refine lv_iload_n (pc := 54) F.1.1 F.1.2.1 dX0_unify_54 rfl (lv_at hl 2 rfl) ?_
          refine caXi (pc := 55) (As := [.int (iI r2)]) (rest := [.ref (a.2.1 10)]) F I (cX_slotOf l D a u r2 (by omega)) (lw_V q168 q170 qs11 q24 q171) hdX_slotOf ⟨rfl, rfl⟩ ⟨Nat.le_of_ble_eq_true rfl, Nat.le_of_ble_eq_true rfl⟩ hl.1 rfl (Nat.le_of_ble_eq_true rfl) ⟨Nat.zero_le _, Nat.zero_le _⟩ dX0_unify_55 (fun r19 u18 H locs hp19 I => ?_)
          rw [hp19.1] at I
          have hr19 := hp19.2
          have hs := slP_r cr2
          rw [← hr19] at hs
          refine lv_iload (pc := 58) F.1.1 F.1.2.1 dX0_unify_58 (lv_at hl 1 rfl) ?_
          refine xi_i2b (pc := 60) F.1 (by omega) dX0_unify_60 ?_
          refine stX_10 (pc := 61) F I (by omega) (by omega) dX0_unify_61 (fun u20 H locs hu20 I => ?_)
          have hR : Rng u20.1 := by rw [hu20]; exact Rng_up hR (by omega)
          refine xi_ic (pc := 62) F.1 dX0_unify_62 ?_
          exact hret 1 u20 _ _ (by omega) (Or.inl ⟨rfl, by have hfr : frP u.1 = 10 := (by unfold frP; rw [← hv6]; rw [if_pos (by omega)]); unfold uniP; rw [← hr2, ← hr4, hfr, if_neg (by omega), if_pos (by omega), hu20, ← hr19]; exact congrArg some (up_10 _ _ _).symm, fun k hk => by rw [hu20]; exact up_o _ _ _ hk, by rw [hu20], hR⟩) I _ _ dX0_unify_63
    · refine xi_bp (pc := 28) F.1 dX0_unify_28 (by decide) ?_
      refine lv_goto (pc := 30) (tgt := 35) F.1.1 F.1.2.1 dX0_unify_30 (by decide) ?_
      refine lv_istore (pc := 35) (lv' := [(5, .int (iI 20)), (4, .int (iI r4)), (3, .int (iI r2)), (0, .ref a.1), (1, .int (iI x)), (2, .int (iI y))]) F.1.1 F.1.2.1 dX0_unify_35 hl (by decide) rfl (fun ls hl => ?_)
      refine lv_iload_n (pc := 37) F.1.1 F.1.2.1 dX0_unify_37 rfl (lv_at hl 2 rfl) ?_
      refine lv_iload (pc := 38) F.1.1 F.1.2.1 dX0_unify_38 (lv_at hl 0 rfl) ?_
      refine xi_clt (pc := 40) (tgt := 64) F.1 (by omega) dX0_unify_40 (by decide) (fun c21 => ?_) (fun c21 => ?_)
      · refine lv_iload (pc := 64) F.1.1 F.1.2.1 dX0_unify_64 (lv_at hl 1 rfl) ?_
        refine lv_iload (pc := 66) F.1.1 F.1.2.1 dX0_unify_66 (lv_at hl 0 rfl) ?_
        refine xi_cge (pc := 68) (tgt := 73) F.1 (by omega) dX0_unify_68 (by decide) (fun c22 => ?_) (fun c22 => ?_)
        · refine lv_aload_n (pc := 73) F.1.1 F.1.2.1 dX0_unify_73 rfl (lv_at hl 3 rfl) ?_
          refine gX_10 (pc := 74) F I dX0_unify_74 ?_
          refine lv_aload_n (pc := 77) F.1.1 F.1.2.1 dX0_unify_77 rfl (lv_at hl 3 rfl) ?_
          refine lv_iload (pc := 78) F.1.1 F.1.2.1 dX0_unify_78 (lv_at hl 1 rfl) ?_
          refine caXi (pc := 80) (As := [.int (iI r4)]) (rest := [.ref (a.2.1 10)]) F I (cX_slotOf l D a u r4 (by omega)) (lw_V q168 q170 qs11 q24 q171) hdX_slotOf ⟨rfl, rfl⟩ ⟨Nat.le_of_ble_eq_true rfl, Nat.le_of_ble_eq_true rfl⟩ hl.1 rfl (Nat.le_of_ble_eq_true rfl) ⟨Nat.zero_le _, Nat.zero_le _⟩ dX0_unify_80 (fun r24 u23 H locs hp24 I => ?_)
          rw [hp24.1] at I
          have hr24 := hp24.2
          have hs := slP_r cr4
          rw [← hr24] at hs
          refine lv_iload_n (pc := 83) F.1.1 F.1.2.1 dX0_unify_83 rfl (lv_at hl 2 rfl) ?_
          refine xi_i2b (pc := 84) F.1 (by omega) dX0_unify_84 ?_
          refine stX_10 (pc := 85) F I (by omega) (by omega) dX0_unify_85 (fun u25 H locs hu25 I => ?_)
          have hR : Rng u25.1 := by rw [hu25]; exact Rng_up hR (by omega)
          refine xi_ic (pc := 86) F.1 dX0_unify_86 ?_
          exact hret 1 u25 _ _ (by omega) (Or.inl ⟨rfl, by have hfr : frP u.1 = 20 := (by unfold frP; rw [← hv6]; rw [if_neg (by omega)]); unfold uniP; rw [← hr2, ← hr4, hfr, if_neg (by omega), if_neg (by omega), if_neg (by omega), hu25, ← hr24]; exact congrArg some (up_10 _ _ _).symm, fun k hk => by rw [hu25]; exact up_o _ _ _ hk, by rw [hu25], hR⟩) I _ _ dX0_unify_87
        · refine xi_ic (pc := 71) F.1 dX0_unify_71 ?_
          exact hret 0 u _ _ (by omega) (Or.inr ⟨rfl, by have hfr : frP u.1 = 20 := (by unfold frP; rw [← hv6]; rw [if_neg (by omega)]); unfold uniP; rw [← hr2, ← hr4, hfr, if_neg (by omega), if_neg (by omega), if_pos (by omega)], rfl⟩) I _ _ dX0_unify_72
      · refine lv_iload_n (pc := 43) F.1.1 F.1.2.1 dX0_unify_43 rfl (lv_at hl 2 rfl) ?_
        refine lv_iload (pc := 44) F.1.1 F.1.2.1 dX0_unify_44 (lv_at hl 1 rfl) ?_
        refine xi_clt (pc := 46) (tgt := 64) F.1 (by omega) dX0_unify_46 (by decide) (fun c26 => ?_) (fun c26 => ?_)
        · refine lv_iload (pc := 64) F.1.1 F.1.2.1 dX0_unify_64 (lv_at hl 1 rfl) ?_
          refine lv_iload (pc := 66) F.1.1 F.1.2.1 dX0_unify_66 (lv_at hl 0 rfl) ?_
          refine xi_cge (pc := 68) (tgt := 73) F.1 (by omega) dX0_unify_68 (by decide) (fun c27 => ?_) (fun c27 => ?_)
          · refine lv_aload_n (pc := 73) F.1.1 F.1.2.1 dX0_unify_73 rfl (lv_at hl 3 rfl) ?_
            refine gX_10 (pc := 74) F I dX0_unify_74 ?_
            refine lv_aload_n (pc := 77) F.1.1 F.1.2.1 dX0_unify_77 rfl (lv_at hl 3 rfl) ?_
            refine lv_iload (pc := 78) F.1.1 F.1.2.1 dX0_unify_78 (lv_at hl 1 rfl) ?_
            refine caXi (pc := 80) (As := [.int (iI r4)]) (rest := [.ref (a.2.1 10)]) F I (cX_slotOf l D a u r4 (by omega)) (lw_V q168 q170 qs11 q24 q171) hdX_slotOf ⟨rfl, rfl⟩ ⟨Nat.le_of_ble_eq_true rfl, Nat.le_of_ble_eq_true rfl⟩ hl.1 rfl (Nat.le_of_ble_eq_true rfl) ⟨Nat.zero_le _, Nat.zero_le _⟩ dX0_unify_80 (fun r29 u28 H locs hp29 I => ?_)
            rw [hp29.1] at I
            have hr29 := hp29.2
            have hs := slP_r cr4
            rw [← hr29] at hs
            refine lv_iload_n (pc := 83) F.1.1 F.1.2.1 dX0_unify_83 rfl (lv_at hl 2 rfl) ?_
            refine xi_i2b (pc := 84) F.1 (by omega) dX0_unify_84 ?_
            refine stX_10 (pc := 85) F I (by omega) (by omega) dX0_unify_85 (fun u30 H locs hu30 I => ?_)
            have hR : Rng u30.1 := by rw [hu30]; exact Rng_up hR (by omega)
            refine xi_ic (pc := 86) F.1 dX0_unify_86 ?_
            exact hret 1 u30 _ _ (by omega) (Or.inl ⟨rfl, by have hfr : frP u.1 = 20 := (by unfold frP; rw [← hv6]; rw [if_neg (by omega)]); unfold uniP; rw [← hr2, ← hr4, hfr, if_neg (by omega), if_neg (by omega), if_neg (by omega), hu30, ← hr29]; exact congrArg some (up_10 _ _ _).symm, fun k hk => by rw [hu30]; exact up_o _ _ _ hk, by rw [hu30], hR⟩) I _ _ dX0_unify_87
          · refine xi_ic (pc := 71) F.1 dX0_unify_71 ?_
            exact hret 0 u _ _ (by omega) (Or.inr ⟨rfl, by have hfr : frP u.1 = 20 := (by unfold frP; rw [← hv6]; rw [if_neg (by omega)]); unfold uniP; rw [← hr2, ← hr4, hfr, if_neg (by omega), if_neg (by omega), if_pos (by omega)], rfl⟩) I _ _ dX0_unify_72
        · refine lv_aload_n (pc := 49) F.1.1 F.1.2.1 dX0_unify_49 rfl (lv_at hl 3 rfl) ?_
          refine gX_10 (pc := 50) F I dX0_unify_50 ?_
          refine lv_aload_n (pc := 53) F.1.1 F.1.2.1 dX0_unify_53 rfl (lv_at hl 3 rfl) ?_
          refine lv_iload_n (pc := 54) F.1.1 F.1.2.1 dX0_unify_54 rfl (lv_at hl 2 rfl) ?_
          refine caXi (pc := 55) (As := [.int (iI r2)]) (rest := [.ref (a.2.1 10)]) F I (cX_slotOf l D a u r2 (by omega)) (lw_V q168 q170 qs11 q24 q171) hdX_slotOf ⟨rfl, rfl⟩ ⟨Nat.le_of_ble_eq_true rfl, Nat.le_of_ble_eq_true rfl⟩ hl.1 rfl (Nat.le_of_ble_eq_true rfl) ⟨Nat.zero_le _, Nat.zero_le _⟩ dX0_unify_55 (fun r32 u31 H locs hp32 I => ?_)
          rw [hp32.1] at I
          have hr32 := hp32.2
          have hs := slP_r cr2
          rw [← hr32] at hs
          refine lv_iload (pc := 58) F.1.1 F.1.2.1 dX0_unify_58 (lv_at hl 1 rfl) ?_
          refine xi_i2b (pc := 60) F.1 (by omega) dX0_unify_60 ?_
          refine stX_10 (pc := 61) F I (by omega) (by omega) dX0_unify_61 (fun u33 H locs hu33 I => ?_)
          have hR : Rng u33.1 := by rw [hu33]; exact Rng_up hR (by omega)
          refine xi_ic (pc := 62) F.1 dX0_unify_62 ?_
          exact hret 1 u33 _ _ (by omega) (Or.inl ⟨rfl, by have hfr : frP u.1 = 20 := (by unfold frP; rw [← hv6]; rw [if_neg (by omega)]); unfold uniP; rw [← hr2, ← hr4, hfr, if_neg (by omega), if_pos (by omega), hu33, ← hr32]; exact congrArg some (up_10 _ _ _).symm, fun k hk => by rw [hu33]; exact up_o _ _ _ hk, by rw [hu33], hR⟩) I _ _ dX0_unify_63
  · refine xi_ic (pc := 19) F.1 dX0_unify_19 ?_
    exact hret 1 u _ _ (by omega) (Or.inl ⟨rfl, by unfold uniP; rw [← hr2, ← hr4, if_pos (by omega)], fun _ _ => rfl, rfl, hR⟩) I _ _ dX0_unify_20
set_option maxHeartbeats 4000000 in
/-- inBody -/
theorem cX_inBody (l : Launch) (D : va_G) (a : xAd) (u : xSt) (r0 t : Int) (hr0 : 0 ≤ r0 ∧ r0 ≤ 1) (ht : i32 t) (hn : 0 ≤ u.1 6 r0 ∧ u.1 6 r0 ≤ 3) (hR : Rng u.1) : MXi l D a yX0_inBody cX0_inBody 4 (some .boolean) ({ frames := 0, cells := 0, slots := 0, locals := 0 } : Room) [.int (iI r0), .int (iI t)] u (fun r u2 => u2 = u ∧ ((r = 1 ∧ inBd u.1 r0 t) ∨ (r = 0 ∧ ¬ inBd u.1 r0 t))) := by
  refine enXz (by decide +kernel) rfl (Nat.le_of_ble_eq_true rfl) ?_
  intro p e s m below meth c A Q ls F I hret hl
  have hl : lv_has ls 4 [(0, .ref a.1), (1, .int (iI r0)), (2, .int (iI t))] := hl
  have loop : 20 ≤ t → ∀ (n : Nat) (i : Int) (H : Heap) (locs : List Loc) (ls : Array Slot), 3 * r0 ≤ i → i + n = 3 * r0 + u.1 6 r0 → (∀ k, 0 ≤ k → 3 * r0 + k < i → u.1 8 (3 * r0 + k) ≠ t ∧ u.1 9 (3 * r0 + k) ≠ t) → IX D a A s H locs u → lv_has ls 4 [(3, .int (iI i)), (0, .ref a.1), (1, .int (iI r0)), (2, .int (iI t))] → W p l e ({ frames := 0, cells := 0, slots := 0, locals := 0 } : Room) s m (Value.ref a.1 :: [.int (iI r0), .int (iI t)]).toArray below meth c H locs 0 0 Q (F0 m 12 ls []) := by
    intro h20 n
    induction n with
    | zero =>
      intro i H locs ls h0 hi hv I hl
      refine lv_iload_n (pc := 12) F.1.1 F.1.2.1 dX0_inBody_12 rfl (lv_at hl 0 rfl) ?_
      refine xi_ic (pc := 13) F.1 dX0_inBody_13 ?_
      refine lv_iload_n (pc := 14) F.1.1 F.1.2.1 dX0_inBody_14 rfl (lv_at hl 2 rfl) ?_
      refine xi_imul (pc := 15) F.1 dX0_inBody_15 ?_
      refine lv_aload_n (pc := 16) F.1.1 F.1.2.1 dX0_inBody_16 rfl (lv_at hl 1 rfl) ?_
      refine gX_6 (pc := 17) F I dX0_inBody_17 ?_
      refine lv_iload_n (pc := 20) F.1.1 F.1.2.1 dX0_inBody_20 rfl (lv_at hl 2 rfl) ?_
      refine ldX_6 (pc := 21) F I (by omega) dX0_inBody_21 (fun v1 hv1 => ?_)
      have rv1 : -1 ≤ v1 ∧ v1 ≤ 127 := by rw [hv1]; exact hR 6 _
      refine xi_iadd (pc := 22) F.1 dX0_inBody_22 ?_
      refine xi_cge (pc := 23) (tgt := 54) F.1 (by omega) dX0_inBody_23 (by decide) (fun c2 => ?_) (fun c2 => ?_)
      · refine xi_ic (pc := 54) F.1 dX0_inBody_54 ?_
        exact hret 0 u _ _ (by omega) (⟨rfl, Or.inr ⟨rfl, fun q => by
        rcases q with q | ⟨k, k0, k1, k2⟩
        · omega
        · have := hv k k0 (by omega); omega⟩⟩) I _ _ dX0_inBody_55
      · exfalso; omega
    | succ n ih =>
      intro i H locs ls h0 hi hv I hl
      refine lv_iload_n (pc := 12) F.1.1 F.1.2.1 dX0_inBody_12 rfl (lv_at hl 0 rfl) ?_
      refine xi_ic (pc := 13) F.1 dX0_inBody_13 ?_
      refine lv_iload_n (pc := 14) F.1.1 F.1.2.1 dX0_inBody_14 rfl (lv_at hl 2 rfl) ?_
      refine xi_imul (pc := 15) F.1 dX0_inBody_15 ?_
      refine lv_aload_n (pc := 16) F.1.1 F.1.2.1 dX0_inBody_16 rfl (lv_at hl 1 rfl) ?_
      refine gX_6 (pc := 17) F I dX0_inBody_17 ?_
      refine lv_iload_n (pc := 20) F.1.1 F.1.2.1 dX0_inBody_20 rfl (lv_at hl 2 rfl) ?_
      refine ldX_6 (pc := 21) F I (by omega) dX0_inBody_21 (fun v1 hv1 => ?_)
      have rv1 : -1 ≤ v1 ∧ v1 ≤ 127 := by rw [hv1]; exact hR 6 _
      refine xi_iadd (pc := 22) F.1 dX0_inBody_22 ?_
      refine xi_cge (pc := 23) (tgt := 54) F.1 (by omega) dX0_inBody_23 (by decide) (fun c2 => ?_) (fun c2 => ?_)
      · exfalso; omega
      · refine lv_aload_n (pc := 26) F.1.1 F.1.2.1 dX0_inBody_26 rfl (lv_at hl 1 rfl) ?_
        refine gX_8 (pc := 27) F I dX0_inBody_27 ?_
        refine lv_iload_n (pc := 30) F.1.1 F.1.2.1 dX0_inBody_30 rfl (lv_at hl 0 rfl) ?_
        refine ldX_8 (pc := 31) F I (by omega) dX0_inBody_31 (fun v3 hv3 => ?_)
        have rv3 : -1 ≤ v3 ∧ v3 ≤ 127 := by rw [hv3]; exact hR 8 _
        refine lv_iload_n (pc := 32) F.1.1 F.1.2.1 dX0_inBody_32 rfl (lv_at hl 3 rfl) ?_
        refine xi_ceq (pc := 33) (tgt := 46) F.1 (by omega) dX0_inBody_33 (by decide) (fun c4 => ?_) (fun c4 => ?_)
        · refine xi_ic (pc := 46) F.1 dX0_inBody_46 ?_
          exact hret 1 u _ _ (by omega) (⟨rfl, Or.inl ⟨rfl, Or.inr ⟨i - 3 * r0, by omega, by omega, by rw [show 3 * r0 + (i - 3 * r0) = i by omega]; omega⟩⟩⟩) I _ _ dX0_inBody_47
        · refine lv_aload_n (pc := 36) F.1.1 F.1.2.1 dX0_inBody_36 rfl (lv_at hl 1 rfl) ?_
          refine gX_9 (pc := 37) F I dX0_inBody_37 ?_
          refine lv_iload_n (pc := 40) F.1.1 F.1.2.1 dX0_inBody_40 rfl (lv_at hl 0 rfl) ?_
          refine ldX_9 (pc := 41) F I (by omega) dX0_inBody_41 (fun v5 hv5 => ?_)
          have rv5 : -1 ≤ v5 ∧ v5 ≤ 127 := by rw [hv5]; exact hR 9 _
          refine lv_iload_n (pc := 42) F.1.1 F.1.2.1 dX0_inBody_42 rfl (lv_at hl 3 rfl) ?_
          refine xi_cne (pc := 43) (tgt := 48) F.1 (by omega) dX0_inBody_43 (by decide) (fun c6 => ?_) (fun c6 => ?_)
          · refine xi_iinc (pc := 48) (lv' := [(3, .int (iI (i + 1))), (0, .ref a.1), (1, .int (iI r0)), (2, .int (iI t))]) F.1 dX0_inBody_48 hl (k := 0) rfl (by decide) rfl (fun ls hl => ?_)
            refine lv_goto (pc := 51) (tgt := 12) F.1.1 F.1.2.1 dX0_inBody_51 (by decide) ?_
            exact ih (i + 1) _ _ ls (by omega) (by omega) (fun k k0 k1 => by
        by_cases hk : 3 * r0 + k < i
        · exact hv k k0 hk
        · rw [show 3 * r0 + k = i by omega]; omega) I hl
          · refine xi_ic (pc := 46) F.1 dX0_inBody_46 ?_
            exact hret 1 u _ _ (by omega) (⟨rfl, Or.inl ⟨rfl, Or.inr ⟨i - 3 * r0, by omega, by omega, by rw [show 3 * r0 + (i - 3 * r0) = i by omega]; omega⟩⟩⟩) I _ _ dX0_inBody_47
  refine lv_iload_n (pc := 0) F.1.1 F.1.2.1 dX0_inBody_0 rfl (lv_at hl 2 rfl) ?_
  refine xi_bp (pc := 1) F.1 dX0_inBody_1 (by decide) ?_
  refine xi_cge (pc := 3) (tgt := 8) F.1 (by omega) dX0_inBody_3 (by decide) (fun c1 => ?_) (fun c1 => ?_)
  · refine xi_ic (pc := 8) F.1 dX0_inBody_8 ?_
    refine lv_iload_n (pc := 9) F.1.1 F.1.2.1 dX0_inBody_9 rfl (lv_at hl 1 rfl) ?_
    refine xi_imul (pc := 10) F.1 dX0_inBody_10 ?_
    refine xi_top (fun z2 hz2 => ?_)
    refine lv_istore_n (pc := 11) (lv' := [(3, .int (iI z2)), (0, .ref a.1), (1, .int (iI r0)), (2, .int (iI t))]) F.1.1 F.1.2.1 dX0_inBody_11 rfl hl (by decide) rfl (fun ls hl => ?_)
    obtain ⟨n, hn2⟩ := Int.eq_ofNat_of_zero_le hn.1
    exact loop (by omega) n z2 _ _ ls (by omega) (by omega) (fun k k0 k1 => by omega) I hl
  · refine xi_ic (pc := 6) F.1 dX0_inBody_6 ?_
    exact hret 1 u _ _ (by omega) (⟨rfl, Or.inl ⟨rfl, Or.inl (by omega)⟩⟩) I _ _ dX0_inBody_7
set_option maxHeartbeats 4000000 in
/-- isSafe -/
theorem cX_isSafe (l : Launch) (D : va_G) (a : xAd) (u : xSt) (r0 : Int) (hr0 : 0 ≤ r0 ∧ r0 ≤ 1) (hn : 0 ≤ u.1 6 r0 ∧ u.1 6 r0 ≤ 3) (hR : Rng u.1) : MXi l D a yX0_isSafe cX0_isSafe 2 (some .boolean) ({ frames := 1, cells := 0, slots := 0, locals := 23 } : Room) [.int (iI r0)] u (fun r u2 => u2 = u ∧ ((r = 1 ∧ safG u.1 r0) ∨ (r = 0 ∧ ¬ safG u.1 r0))) := by
  refine enXz (by decide +kernel) rfl (Nat.le_of_ble_eq_true rfl) ?_
  intro p e s m below meth c A Q ls F I hret hl
  have hl : lv_has ls 2 [(0, .ref a.1), (1, .int (iI r0))] := hl
  refine lv_aload_n (pc := 0) F.1.1 F.1.2.1 dX0_isSafe_0 rfl (lv_at hl 0 rfl) ?_
  refine lv_iload_n (pc := 1) F.1.1 F.1.2.1 dX0_isSafe_1 rfl (lv_at hl 1 rfl) ?_
  refine lv_aload_n (pc := 2) F.1.1 F.1.2.1 dX0_isSafe_2 rfl (lv_at hl 0 rfl) ?_
  refine gX_4 (pc := 3) F I dX0_isSafe_3 ?_
  refine lv_iload_n (pc := 6) F.1.1 F.1.2.1 dX0_isSafe_6 rfl (lv_at hl 1 rfl) ?_
  refine ldX_4 (pc := 7) F I (by omega) dX0_isSafe_7 (fun v1 hv1 => ?_)
  have rv1 : -1 ≤ v1 ∧ v1 ≤ 127 := by rw [hv1]; exact hR 4 _
  refine caXi (pc := 8) (As := [.int (iI r0), .int (iI v1)]) (rest := []) F I (cX_inBody l D a u r0 v1 hr0 (by omega) hn hR) (lw_V q140 q142 qs4 q24 q143) hdX_inBody ⟨rfl, rfl⟩ ⟨Nat.le_of_ble_eq_true rfl, Nat.le_of_ble_eq_true rfl⟩ hl.1 rfl (Nat.le_of_ble_eq_true rfl) ⟨Nat.zero_le _, Nat.zero_le _⟩ dX0_isSafe_8 (fun r3 u2 H locs hp3 I => ?_)
  rw [hp3.1] at I
  have hr3 := hp3.2
  rw [hv1] at hr3
  refine xi_zeq (pc := 11) (tgt := 32) F.1 (by omega) dX0_isSafe_11 (by decide) (fun c4 => ?_) (fun c4 => ?_)
  · refine xi_ic (pc := 32) F.1 dX0_isSafe_32 ?_
    exact hret 0 u _ _ (by omega) (⟨rfl, Or.inr ⟨rfl, fun q => hr3.elim (fun z => absurd z.1 (by omega)) (fun z => z.2 q.1)⟩⟩) I _ _ dX0_isSafe_33
  · refine lv_aload_n (pc := 14) F.1.1 F.1.2.1 dX0_isSafe_14 rfl (lv_at hl 0 rfl) ?_
    refine lv_iload_n (pc := 15) F.1.1 F.1.2.1 dX0_isSafe_15 rfl (lv_at hl 1 rfl) ?_
    refine lv_aload_n (pc := 16) F.1.1 F.1.2.1 dX0_isSafe_16 rfl (lv_at hl 0 rfl) ?_
    refine gX_5 (pc := 17) F I dX0_isSafe_17 ?_
    refine lv_iload_n (pc := 20) F.1.1 F.1.2.1 dX0_isSafe_20 rfl (lv_at hl 1 rfl) ?_
    refine ldX_5 (pc := 21) F I (by omega) dX0_isSafe_21 (fun v5 hv5 => ?_)
    have rv5 : -1 ≤ v5 ∧ v5 ≤ 127 := by rw [hv5]; exact hR 5 _
    refine caXi (pc := 22) (As := [.int (iI r0), .int (iI v5)]) (rest := []) F I (cX_inBody l D a u r0 v5 hr0 (by omega) hn hR) (lw_V q140 q142 qs4 q24 q143) hdX_inBody ⟨rfl, rfl⟩ ⟨Nat.le_of_ble_eq_true rfl, Nat.le_of_ble_eq_true rfl⟩ hl.1 rfl (Nat.le_of_ble_eq_true rfl) ⟨Nat.zero_le _, Nat.zero_le _⟩ dX0_isSafe_22 (fun r7 u6 H locs hp7 I => ?_)
    rw [hp7.1] at I
    have hr7 := hp7.2
    rw [hv5] at hr7
    refine xi_zeq (pc := 25) (tgt := 32) F.1 (by omega) dX0_isSafe_25 (by decide) (fun c8 => ?_) (fun c8 => ?_)
    · refine xi_ic (pc := 32) F.1 dX0_isSafe_32 ?_
      exact hret 0 u _ _ (by omega) (⟨rfl, Or.inr ⟨rfl, fun q => hr7.elim (fun z => absurd z.1 (by omega)) (fun z => z.2 q.2)⟩⟩) I _ _ dX0_isSafe_33
    · refine xi_ic (pc := 28) F.1 dX0_isSafe_28 ?_
      refine lv_goto (pc := 29) (tgt := 33) F.1.1 F.1.2.1 dX0_isSafe_29 (by decide) ?_
      exact hret 1 u _ _ (by omega) (⟨rfl, Or.inl ⟨rfl, hr3.elim (fun z => z.2) (fun z => absurd z.1 (by omega)), hr7.elim (fun z => z.2) (fun z => absurd z.1 (by omega))⟩⟩) I _ _ dX0_isSafe_33
end
section
set_option maxRecDepth 100000
/-- the rows of table t shifted by one, up to place i -/
def dpL (g : xG) (t i : Int) : xG := fun k j => if (k = 1 ∨ k = 2) ∧ 5 * t ≤ j ∧ j < i then g k (j + 1) else g k j
def dpG (g : xG) (t : Int) : xG := up (dpL (up g 0 t (g 0 t - 1)) t (5 * t + (g 0 t - 1))) 17 0 0
theorem dpL_0 (g : xG) (t : Int) : dpL g t (5 * t) = g := by
  funext k j
  unfold dpL
  rw [if_neg (by omega)]
theorem dpL_s (g : xG) {t i : Int} (hi : 5 * t ≤ i) : up (up (dpL g t i) 1 i (dpL g t i 1 (i + 1))) 2 i (dpL g t i 2 (i + 1)) = dpL g t (i + 1) := by
  funext k j
  have e1 : dpL g t i 1 (i + 1) = g 1 (i + 1) := by unfold dpL; rw [if_neg (by omega)]
  have e2 : dpL g t i 2 (i + 1) = g 2 (i + 1) := by unfold dpL; rw [if_neg (by omega)]
  rw [e1, e2]
  unfold up dpL
  by_cases h2 : k = 2 ∧ j = i
  · obtain ⟨rfl, rfl⟩ := h2
    rw [if_pos ⟨rfl, rfl⟩, if_pos (by omega)]
  · rw [if_neg h2]
    by_cases h1 : k = 1 ∧ j = i
    · obtain ⟨rfl, rfl⟩ := h1
      rw [if_pos ⟨rfl, rfl⟩, if_pos (by omega)]
    · rw [if_neg h1]
      by_cases h3 : (k = 1 ∨ k = 2) ∧ 5 * t ≤ j ∧ j < i
      · rw [if_pos h3, if_pos (by omega)]
      · rw [if_neg h3, if_neg (by omega)]
/-- what is learnt, up to place i; how many places that were -/
def lnL (g : xG) (x y i : Int) : xG := fun k j => if (k = 1 ∨ k = 2) ∧ 0 ≤ j ∧ j < i ∧ j % 5 < g 0 (j / 5) ∧ g k j = x then y else g k j
def cnL (g : xG) (x : Int) : Nat → Int
  | 0 => 0
  | n + 1 => cnL g x n + (if (n : Int) % 5 < g 0 ((n : Int) / 5) ∧ g 1 (n : Int) = x then 1 else 0) + (if (n : Int) % 5 < g 0 ((n : Int) / 5) ∧ g 2 (n : Int) = x then 1 else 0)
def lnG (g : xG) (x y : Int) : xG := up (lnL g x y 10) 17 0 0
theorem lnL_0 (g : xG) (x y : Int) : lnL g x y 0 = g := by
  funext k j
  unfold lnL
  rw [if_neg (by omega)]
theorem lnL_at (g : xG) {x y i : Int} (hi : 0 ≤ i) (k : Nat) (j : Int) : lnL g x y (i + 1) k j = if (k = 1 ∨ k = 2) ∧ j = i ∧ i % 5 < g 0 (i / 5) ∧ g k i = x then y else lnL g x y i k j := by
  unfold lnL
  by_cases hj : j = i
  · subst hj
    by_cases h1 : (k = 1 ∨ k = 2) ∧ j % 5 < g 0 (j / 5) ∧ g k j = x
    · rw [if_pos ⟨h1.1, by omega, by omega, h1.2⟩, if_pos ⟨h1.1, rfl, h1.2⟩]
    · rw [if_neg (fun q => h1 ⟨q.1, q.2.2.2⟩), if_neg (fun q => h1 ⟨q.1, q.2.2⟩), if_neg (by omega)]
  · rw [if_neg (fun q : (k = 1 ∨ k = 2) ∧ j = i ∧ i % 5 < g 0 (i / 5) ∧ g k i = x => hj q.2.1)]
    by_cases h1 : (k = 1 ∨ k = 2) ∧ 0 ≤ j ∧ j < i ∧ j % 5 < g 0 (j / 5) ∧ g k j = x
    · rw [if_pos h1, if_pos ⟨h1.1, h1.2.1, by omega, h1.2.2.2⟩]
    · rw [if_neg h1, if_neg (fun q => h1 ⟨q.1, q.2.1, by omega, q.2.2.2⟩)]
theorem lnL_n (g : xG) {x y i : Int} (hi : 0 ≤ i) (h : ¬ i % 5 < g 0 (i / 5)) : lnL g x y i = lnL g x y (i + 1) := by
  funext k j
  rw [lnL_at g hi, if_neg (fun q => h q.2.2.1)]
theorem lnL_ff (g : xG) {x y i : Int} (hi : 0 ≤ i) (h1 : g 1 i ≠ x) (h2 : g 2 i ≠ x) : lnL g x y i = lnL g x y (i + 1) := by
  funext k j
  rw [lnL_at g hi, if_neg]
  rintro ⟨q | q, _, _, q2⟩ <;> subst q
  · exact h1 q2
  · exact h2 q2
theorem lnL_tf (g : xG) {x y i : Int} (hi : 0 ≤ i) (h : i % 5 < g 0 (i / 5)) (h1 : g 1 i = x) (h2 : g 2 i ≠ x) : up (lnL g x y i) 1 i y = lnL g x y (i + 1) := by
  funext k j
  rw [lnL_at g hi]
  unfold up
  by_cases h3 : k = 1 ∧ j = i
  · obtain ⟨rfl, rfl⟩ := h3
    rw [if_pos ⟨rfl, rfl⟩, if_pos ⟨Or.inl rfl, rfl, h, h1⟩]
  · rw [if_neg h3, if_neg]
    rintro ⟨q | q, q1, _, q2⟩
    · exact h3 ⟨q, q1⟩
    · subst q; exact h2 q2
theorem lnL_ft (g : xG) {x y i : Int} (hi : 0 ≤ i) (h : i % 5 < g 0 (i / 5)) (h1 : g 1 i ≠ x) (h2 : g 2 i = x) : up (lnL g x y i) 2 i y = lnL g x y (i + 1) := by
  funext k j
  rw [lnL_at g hi]
  unfold up
  by_cases h3 : k = 2 ∧ j = i
  · obtain ⟨rfl, rfl⟩ := h3
    rw [if_pos ⟨rfl, rfl⟩, if_pos ⟨Or.inr rfl, rfl, h, h2⟩]
  · rw [if_neg h3, if_neg]
    rintro ⟨q | q, q1, _, q2⟩
    · subst q; exact h1 q2
    · exact h3 ⟨q, q1⟩
theorem lnL_tt (g : xG) {x y i : Int} (hi : 0 ≤ i) (h : i % 5 < g 0 (i / 5)) (h1 : g 1 i = x) (h2 : g 2 i = x) : up (up (lnL g x y i) 1 i y) 2 i y = lnL g x y (i + 1) := by
  funext k j
  rw [lnL_at g hi]
  unfold up
  by_cases h3 : k = 2 ∧ j = i
  · obtain ⟨rfl, rfl⟩ := h3
    rw [if_pos ⟨rfl, rfl⟩, if_pos ⟨Or.inr rfl, rfl, h, h2⟩]
  · rw [if_neg h3]
    by_cases h4 : k = 1 ∧ j = i
    · obtain ⟨rfl, rfl⟩ := h4
      rw [if_pos ⟨rfl, rfl⟩, if_pos ⟨Or.inl rfl, rfl, h, h1⟩]
    · rw [if_neg h4, if_neg]
      rintro ⟨q | q, q1, _, q2⟩
      · exact h4 ⟨q, q1⟩
      · exact h3 ⟨q, q1⟩
set_option maxHeartbeats 4000000 in
/-- dropRow -/
theorem cX_dropRow (l : Launch) (D : va_G) (a : xAd) (u : xSt) (t : Int) (ht : i32 t) (hR : Rng u.1) (hn : ∀ j, 0 ≤ j → j ≤ 1 → 0 ≤ u.1 0 j ∧ u.1 0 j ≤ 5) : MXi l D a yX0_dropRow cX0_dropRow 3 (some .int) ({ frames := 0, cells := 0, slots := 0, locals := 0 } : Room) [.int (iI t)] u (fun r u2 => (¬ ((0 ≤ t ∧ t ≤ 1) ∧ u.1 0 t ≠ 0) ∧ r = -1 ∧ u2 = u) ∨ (((0 ≤ t ∧ t ≤ 1) ∧ u.1 0 t ≠ 0) ∧ r = u.1 0 t - 1 ∧ u2 = (dpG u.1 t, u.2))) := by
  refine enXi (by decide +kernel) rfl (Nat.le_of_ble_eq_true rfl) ?_
  intro p e s m below meth c A Q ls F I hret hl
  have hl : lv_has ls 3 [(0, .ref a.1), (1, .int (iI t))] := hl
  have loop : (0 ≤ t ∧ t ≤ 1) → u.1 0 t ≠ 0 → ∀ (n : Nat) (i : Int) (w : xSt) (H : Heap) (locs : List Loc) (ls : Array Slot), 5 * t ≤ i → i + n = 5 * t + (u.1 0 t - 1) → w = (dpL (up u.1 0 t (u.1 0 t - 1)) t i, u.2) → Rng w.1 → IX D a A s H locs w → lv_has ls 3 [(2, .int (iI i)), (0, .ref a.1), (1, .int (iI t))] → W p l e ({ frames := 0, cells := 0, slots := 0, locals := 0 } : Room) s m (Value.ref a.1 :: [.int (iI t)]).toArray below meth c H locs 0 0 Q (F0 m 35 ls []) := by
    intro ht1 ht2 n
    have hnt := hn t ht1.1 ht1.2
    induction n with
    | zero =>
      intro i w H locs ls h0 hi hw hR I hl
      have hN : w.1 0 t = u.1 0 t - 1 := by rw [hw]; simp [dpL, up]
      refine lv_iload_n (pc := 35) F.1.1 F.1.2.1 dX0_dropRow_35 rfl (lv_at hl 0 rfl) ?_
      refine xi_ic (pc := 36) F.1 dX0_dropRow_36 ?_
      refine lv_iload_n (pc := 37) F.1.1 F.1.2.1 dX0_dropRow_37 rfl (lv_at hl 2 rfl) ?_
      refine xi_imul (pc := 38) F.1 dX0_dropRow_38 ?_
      refine lv_aload_n (pc := 39) F.1.1 F.1.2.1 dX0_dropRow_39 rfl (lv_at hl 1 rfl) ?_
      refine gX_0 (pc := 40) F I dX0_dropRow_40 ?_
      refine lv_iload_n (pc := 43) F.1.1 F.1.2.1 dX0_dropRow_43 rfl (lv_at hl 2 rfl) ?_
      refine ldX_0 (pc := 44) F I (by omega) dX0_dropRow_44 (fun v1 hv1 => ?_)
      have rv1 : -1 ≤ v1 ∧ v1 ≤ 127 := by rw [hv1]; exact hR 0 _
      refine xi_iadd (pc := 45) F.1 dX0_dropRow_45 ?_
      refine xi_cge (pc := 46) (tgt := 83) F.1 (by omega) dX0_dropRow_46 (by decide) (fun c2 => ?_) (fun c2 => ?_)
      · refine lv_aload_n (pc := 83) F.1.1 F.1.2.1 dX0_dropRow_83 rfl (lv_at hl 1 rfl) ?_
        refine xi_ic (pc := 84) F.1 dX0_dropRow_84 ?_
        refine pX_17 (pc := 85) F I (by omega) dX0_dropRow_85 (fun u3 H locs hu3 I => ?_)
        have hR : Rng u3.1 := by rw [hu3]; exact Rng_up hR (by omega)
        refine lv_aload_n (pc := 88) F.1.1 F.1.2.1 dX0_dropRow_88 rfl (lv_at hl 1 rfl) ?_
        refine gX_0 (pc := 89) F I dX0_dropRow_89 ?_
        refine lv_iload_n (pc := 92) F.1.1 F.1.2.1 dX0_dropRow_92 rfl (lv_at hl 2 rfl) ?_
        refine ldX_0 (pc := 93) F I (by omega) dX0_dropRow_93 (fun v4 hv4 => ?_)
        have rv4 : -1 ≤ v4 ∧ v4 ≤ 127 := by rw [hv4]; exact hR 0 _
        have ev4 : v4 = w.1 0 t := by simp [hv4, hu3, up]
        exact hret v4 u3 _ _ (Or.inr ⟨⟨ht1, ht2⟩, by omega, by rw [hu3, hw]; unfold dpG; rw [show i = 5 * t + (u.1 0 t - 1) by omega]⟩) I _ _ dX0_dropRow_94
      · exfalso; omega
    | succ n ih =>
      intro i w H locs ls h0 hi hw hR I hl
      have hN : w.1 0 t = u.1 0 t - 1 := by rw [hw]; simp [dpL, up]
      refine lv_iload_n (pc := 35) F.1.1 F.1.2.1 dX0_dropRow_35 rfl (lv_at hl 0 rfl) ?_
      refine xi_ic (pc := 36) F.1 dX0_dropRow_36 ?_
      refine lv_iload_n (pc := 37) F.1.1 F.1.2.1 dX0_dropRow_37 rfl (lv_at hl 2 rfl) ?_
      refine xi_imul (pc := 38) F.1 dX0_dropRow_38 ?_
      refine lv_aload_n (pc := 39) F.1.1 F.1.2.1 dX0_dropRow_39 rfl (lv_at hl 1 rfl) ?_
      refine gX_0 (pc := 40) F I dX0_dropRow_40 ?_
      refine lv_iload_n (pc := 43) F.1.1 F.1.2.1 dX0_dropRow_43 rfl (lv_at hl 2 rfl) ?_
      refine ldX_0 (pc := 44) F I (by omega) dX0_dropRow_44 (fun v1 hv1 => ?_)
      have rv1 : -1 ≤ v1 ∧ v1 ≤ 127 := by rw [hv1]; exact hR 0 _
      refine xi_iadd (pc := 45) F.1 dX0_dropRow_45 ?_
      refine xi_cge (pc := 46) (tgt := 83) F.1 (by omega) dX0_dropRow_46 (by decide) (fun c2 => ?_) (fun c2 => ?_)
      · exfalso; omega
      · refine lv_aload_n (pc := 49) F.1.1 F.1.2.1 dX0_dropRow_49 rfl (lv_at hl 1 rfl) ?_
        refine gX_1 (pc := 50) F I dX0_dropRow_50 ?_
        refine lv_iload_n (pc := 53) F.1.1 F.1.2.1 dX0_dropRow_53 rfl (lv_at hl 0 rfl) ?_
        refine lv_aload_n (pc := 54) F.1.1 F.1.2.1 dX0_dropRow_54 rfl (lv_at hl 1 rfl) ?_
        refine gX_1 (pc := 55) F I dX0_dropRow_55 ?_
        refine lv_iload_n (pc := 58) F.1.1 F.1.2.1 dX0_dropRow_58 rfl (lv_at hl 0 rfl) ?_
        refine xi_ic (pc := 59) F.1 dX0_dropRow_59 ?_
        refine xi_iadd (pc := 60) F.1 dX0_dropRow_60 ?_
        refine ldX_1 (pc := 61) F I (by omega) dX0_dropRow_61 (fun v3 hv3 => ?_)
        have rv3 : -1 ≤ v3 ∧ v3 ≤ 127 := by rw [hv3]; exact hR 1 _
        refine stX_1 (pc := 62) F I (by omega) (by omega) dX0_dropRow_62 (fun u4 H locs hu4 I => ?_)
        have hR : Rng u4.1 := by rw [hu4]; exact Rng_up hR (by omega)
        refine lv_aload_n (pc := 63) F.1.1 F.1.2.1 dX0_dropRow_63 rfl (lv_at hl 1 rfl) ?_
        refine gX_2 (pc := 64) F I dX0_dropRow_64 ?_
        refine lv_iload_n (pc := 67) F.1.1 F.1.2.1 dX0_dropRow_67 rfl (lv_at hl 0 rfl) ?_
        refine lv_aload_n (pc := 68) F.1.1 F.1.2.1 dX0_dropRow_68 rfl (lv_at hl 1 rfl) ?_
        refine gX_2 (pc := 69) F I dX0_dropRow_69 ?_
        refine lv_iload_n (pc := 72) F.1.1 F.1.2.1 dX0_dropRow_72 rfl (lv_at hl 0 rfl) ?_
        refine xi_ic (pc := 73) F.1 dX0_dropRow_73 ?_
        refine xi_iadd (pc := 74) F.1 dX0_dropRow_74 ?_
        refine ldX_2 (pc := 75) F I (by omega) dX0_dropRow_75 (fun v5 hv5 => ?_)
        have rv5 : -1 ≤ v5 ∧ v5 ≤ 127 := by rw [hv5]; exact hR 2 _
        have ev5 : v5 = w.1 2 (i + 1) := by simp [hv5, hu4, up]
        refine stX_2 (pc := 76) F I (by omega) (by omega) dX0_dropRow_76 (fun u6 H locs hu6 I => ?_)
        have hR : Rng u6.1 := by rw [hu6]; exact Rng_up hR (by omega)
        refine xi_iinc (pc := 77) (lv' := [(2, .int (iI (i + 1))), (0, .ref a.1), (1, .int (iI t))]) F.1 dX0_dropRow_77 hl (k := 0) rfl (by decide) rfl (fun ls hl => ?_)
        refine lv_goto (pc := 80) (tgt := 35) F.1.1 F.1.2.1 dX0_dropRow_80 (by decide) ?_
        exact ih (i + 1) u6 _ _ ls (by omega) (by omega) (by rw [hu6, hu4, hv3, ev5, hw, dpL_s _ h0]) hR I hl
  refine lv_iload_n (pc := 0) F.1.1 F.1.2.1 dX0_dropRow_0 rfl (lv_at hl 1 rfl) ?_
  refine xi_zlt (pc := 1) (tgt := 18) F.1 (by omega) dX0_dropRow_1 (by decide) (fun c1 => ?_) (fun c1 => ?_)
  · refine xi_ic (pc := 18) F.1 dX0_dropRow_18 ?_
    exact hret (-1) u _ _ (Or.inl ⟨by omega, rfl, rfl⟩) I _ _ dX0_dropRow_19
  · refine lv_iload_n (pc := 4) F.1.1 F.1.2.1 dX0_dropRow_4 rfl (lv_at hl 1 rfl) ?_
    refine xi_ic (pc := 5) F.1 dX0_dropRow_5 ?_
    refine xi_cgt (pc := 6) (tgt := 18) F.1 (by omega) dX0_dropRow_6 (by decide) (fun c2 => ?_) (fun c2 => ?_)
    · refine xi_ic (pc := 18) F.1 dX0_dropRow_18 ?_
      exact hret (-1) u _ _ (Or.inl ⟨by omega, rfl, rfl⟩) I _ _ dX0_dropRow_19
    · refine lv_aload_n (pc := 9) F.1.1 F.1.2.1 dX0_dropRow_9 rfl (lv_at hl 0 rfl) ?_
      refine gX_0 (pc := 10) F I dX0_dropRow_10 ?_
      refine lv_iload_n (pc := 13) F.1.1 F.1.2.1 dX0_dropRow_13 rfl (lv_at hl 1 rfl) ?_
      refine ldX_0 (pc := 14) F I (by omega) dX0_dropRow_14 (fun v3 hv3 => ?_)
      have rv3 : -1 ≤ v3 ∧ v3 ≤ 127 := by rw [hv3]; exact hR 0 _
      refine xi_zne (pc := 15) (tgt := 20) F.1 (by omega) dX0_dropRow_15 (by decide) (fun c4 => ?_) (fun c4 => ?_)
      · have hnt := hn t (by omega) (by omega)
        refine lv_aload_n (pc := 20) F.1.1 F.1.2.1 dX0_dropRow_20 rfl (lv_at hl 0 rfl) ?_
        refine gX_0 (pc := 21) F I dX0_dropRow_21 ?_
        refine lv_iload_n (pc := 24) F.1.1 F.1.2.1 dX0_dropRow_24 rfl (lv_at hl 1 rfl) ?_
        refine lv_dup2_11 (pc := 25) F.1.1 F.1.2.1 dX0_dropRow_25 rfl rfl ?_
        refine ldX_0 (pc := 26) F I (by omega) dX0_dropRow_26 (fun v5 hv5 => ?_)
        have rv5 : -1 ≤ v5 ∧ v5 ≤ 127 := by rw [hv5]; exact hR 0 _
        refine xi_ic (pc := 27) F.1 dX0_dropRow_27 ?_
        refine xi_isub (pc := 28) F.1 dX0_dropRow_28 ?_
        refine xi_i2b (pc := 29) F.1 (by omega) dX0_dropRow_29 ?_
        refine stX_0 (pc := 30) F I (by omega) (by omega) dX0_dropRow_30 (fun u6 H locs hu6 I => ?_)
        have hR : Rng u6.1 := by rw [hu6]; exact Rng_up hR (by omega)
        refine xi_ic (pc := 31) F.1 dX0_dropRow_31 ?_
        refine lv_iload_n (pc := 32) F.1.1 F.1.2.1 dX0_dropRow_32 rfl (lv_at hl 1 rfl) ?_
        refine xi_imul (pc := 33) F.1 dX0_dropRow_33 ?_
        refine xi_top (fun z7 hz7 => ?_)
        refine lv_istore_n (pc := 34) (lv' := [(2, .int (iI z7)), (0, .ref a.1), (1, .int (iI t))]) F.1.1 F.1.2.1 dX0_dropRow_34 rfl hl (by decide) rfl (fun ls hl => ?_)
        obtain ⟨n, hn2⟩ := Int.eq_ofNat_of_zero_le (show 0 ≤ u.1 0 t - 1 by omega)
        exact loop (by omega) (by omega) n z7 u6 _ _ ls (by omega) (by omega) (by rw [hu6, hz7, dpL_0, hv5]) hR I hl
      · refine xi_ic (pc := 18) F.1 dX0_dropRow_18 ?_
        exact hret (-1) u _ _ (Or.inl ⟨by omega, rfl, rfl⟩) I _ _ dX0_dropRow_19
set_option maxHeartbeats 4000000 in
/-- learn -/
theorem cX_learn (l : Launch) (D : va_G) (a : xAd) (u : xSt) (x y : Int) (hx : i32 x) (hy : i32 y) (hR : Rng u.1) : MXi l D a yX0_learn cX0_learn 5 (some .int) ({ frames := 0, cells := 0, slots := 0, locals := 0 } : Room) [.int (iI x), .int (iI y)] u (fun r u2 => (¬ ((10 ≤ x ∧ x ≤ 12) ∧ 0 ≤ y ∧ y ≤ 3) ∧ r = -1 ∧ u2 = u) ∨ (((10 ≤ x ∧ x ≤ 12) ∧ 0 ≤ y ∧ y ≤ 3) ∧ r = cnL u.1 x 10 ∧ u2 = (lnG u.1 x y, u.2))) := by
  refine enXi (by decide +kernel) rfl (Nat.le_of_ble_eq_true rfl) ?_
  intro p e s m below meth c A Q ls F I hret hl
  have hl : lv_has ls 5 [(0, .ref a.1), (1, .int (iI x)), (2, .int (iI y))] := hl
  have loop : ((10 ≤ x ∧ x ≤ 12) ∧ 0 ≤ y ∧ y ≤ 3) → ∀ (n k : Nat) (i q : Int) (w : xSt) (H : Heap) (locs : List Loc) (ls : Array Slot), i = k → k + n = 10 → q = cnL u.1 x k → w = (lnL u.1 x y i, u.2) → Rng w.1 → IX D a A s H locs w → lv_has ls 5 [(4, .int (iI i)), (3, .int (iI q)), (0, .ref a.1), (1, .int (iI x)), (2, .int (iI y))] → W p l e ({ frames := 0, cells := 0, slots := 0, locals := 0 } : Room) s m (Value.ref a.1 :: [.int (iI x), .int (iI y)]).toArray below meth c H locs 0 0 Q (F0 m 28 ls []) := by
    intro hxy n
    induction n with
    | zero =>
      intro k i q w H locs ls hik hk hq hw hR I hl
      refine lv_iload (pc := 28) F.1.1 F.1.2.1 dX0_learn_28 (lv_at hl 0 rfl) ?_
      refine xi_bp (pc := 30) F.1 dX0_learn_30 (by decide) ?_
      refine xi_cge (pc := 32) (tgt := 106) F.1 (by omega) dX0_learn_32 (by decide) (fun c1 => ?_) (fun c1 => ?_)
      · refine lv_aload_n (pc := 106) F.1.1 F.1.2.1 dX0_learn_106 rfl (lv_at hl 2 rfl) ?_
        refine xi_ic (pc := 107) F.1 dX0_learn_107 ?_
        refine pX_17 (pc := 108) F I (by omega) dX0_learn_108 (fun u2 H locs hu2 I => ?_)
        have hR : Rng u2.1 := by rw [hu2]; exact Rng_up hR (by omega)
        refine lv_iload_n (pc := 111) F.1.1 F.1.2.1 dX0_learn_111 rfl (lv_at hl 1 rfl) ?_
        exact hret q u2 _ _ (Or.inr ⟨hxy, by rw [hq, show k = 10 by omega], by rw [hu2, hw]; unfold lnG; rw [show i = 10 by omega]⟩) I _ _ dX0_learn_112
      · exfalso; omega
    | succ n ih =>
      intro k i q w H locs ls hik hk hq hw hR I hl
      have hi0 : 0 ≤ i := by omega
      have w0 : w.1 0 (i / 5) = u.1 0 (i / 5) := by rw [hw]; simp [lnL]
      have w1 : w.1 1 i = u.1 1 i := by rw [hw]; simp [lnL]
      have w2 : w.1 2 i = u.1 2 i := by rw [hw]; simp [lnL]
      have hc : cnL u.1 x (k + 1) = q + (if i % 5 < u.1 0 (i / 5) ∧ u.1 1 i = x then 1 else 0) + (if i % 5 < u.1 0 (i / 5) ∧ u.1 2 i = x then 1 else 0) := by rw [hq, hik]; rfl
      refine lv_iload (pc := 28) F.1.1 F.1.2.1 dX0_learn_28 (lv_at hl 0 rfl) ?_
      refine xi_bp (pc := 30) F.1 dX0_learn_30 (by decide) ?_
      refine xi_cge (pc := 32) (tgt := 106) F.1 (by omega) dX0_learn_32 (by decide) (fun c1 => ?_) (fun c1 => ?_)
      · exfalso; omega
      · refine lv_iload (pc := 35) F.1.1 F.1.2.1 dX0_learn_35 (lv_at hl 0 rfl) ?_
        refine xi_ic (pc := 37) F.1 dX0_learn_37 ?_
        refine xi_irem (pc := 38) F.1 (by omega) dX0_learn_38 ?_
        refine lv_aload_n (pc := 39) F.1.1 F.1.2.1 dX0_learn_39 rfl (lv_at hl 2 rfl) ?_
        refine gX_0 (pc := 40) F I dX0_learn_40 ?_
        refine lv_iload (pc := 43) F.1.1 F.1.2.1 dX0_learn_43 (lv_at hl 0 rfl) ?_
        refine xi_ic (pc := 45) F.1 dX0_learn_45 ?_
        refine xi_idiv (pc := 46) F.1 (by omega) dX0_learn_46 ?_
        refine ldX_0 (pc := 47) F I (by omega) dX0_learn_47 (fun v2 hv2 => ?_)
        have rv2 : -1 ≤ v2 ∧ v2 ≤ 127 := by rw [hv2]; exact hR 0 _
        refine xi_clt (pc := 48) (tgt := 54) F.1 (by omega) dX0_learn_48 (by decide) (fun c3 => ?_) (fun c3 => ?_)
        · refine lv_aload_n (pc := 54) F.1.1 F.1.2.1 dX0_learn_54 rfl (lv_at hl 2 rfl) ?_
          refine gX_1 (pc := 55) F I dX0_learn_55 ?_
          refine lv_iload (pc := 58) F.1.1 F.1.2.1 dX0_learn_58 (lv_at hl 0 rfl) ?_
          refine ldX_1 (pc := 60) F I (by omega) dX0_learn_60 (fun v4 hv4 => ?_)
          have rv4 : -1 ≤ v4 ∧ v4 ≤ 127 := by rw [hv4]; exact hR 1 _
          refine lv_iload_n (pc := 61) F.1.1 F.1.2.1 dX0_learn_61 rfl (lv_at hl 3 rfl) ?_
          refine xi_cne (pc := 62) (tgt := 77) F.1 (by omega) dX0_learn_62 (by decide) (fun c5 => ?_) (fun c5 => ?_)
          · refine lv_aload_n (pc := 77) F.1.1 F.1.2.1 dX0_learn_77 rfl (lv_at hl 2 rfl) ?_
            refine gX_2 (pc := 78) F I dX0_learn_78 ?_
            refine lv_iload (pc := 81) F.1.1 F.1.2.1 dX0_learn_81 (lv_at hl 0 rfl) ?_
            refine ldX_2 (pc := 83) F I (by omega) dX0_learn_83 (fun v6 hv6 => ?_)
            have rv6 : -1 ≤ v6 ∧ v6 ≤ 127 := by rw [hv6]; exact hR 2 _
            refine lv_iload_n (pc := 84) F.1.1 F.1.2.1 dX0_learn_84 rfl (lv_at hl 3 rfl) ?_
            refine xi_cne (pc := 85) (tgt := 100) F.1 (by omega) dX0_learn_85 (by decide) (fun c7 => ?_) (fun c7 => ?_)
            · refine xi_iinc (pc := 100) (lv' := [(4, .int (iI (i + 1))), (3, .int (iI q)), (0, .ref a.1), (1, .int (iI x)), (2, .int (iI y))]) F.1 dX0_learn_100 hl (k := 0) rfl (by decide) rfl (fun ls hl => ?_)
              refine lv_goto (pc := 103) (tgt := 28) F.1.1 F.1.2.1 dX0_learn_103 (by decide) ?_
              exact ih (k + 1) (i + 1) (q) w _ _ ls (by omega) (by omega) (by rw [hc, if_neg (by omega), if_neg (by omega)] <;> omega) (by rw [hw]; exact congrArg (fun z => (z, u.2)) (by first | exact lnL_n u.1 hi0 (by omega) | exact lnL_ff u.1 hi0 (by omega) (by omega))) hR I (lv_sub hl [0, 1, 2, 3, 4] rfl)
            · refine lv_aload_n (pc := 88) F.1.1 F.1.2.1 dX0_learn_88 rfl (lv_at hl 2 rfl) ?_
              refine gX_2 (pc := 89) F I dX0_learn_89 ?_
              refine lv_iload (pc := 92) F.1.1 F.1.2.1 dX0_learn_92 (lv_at hl 0 rfl) ?_
              refine lv_iload_n (pc := 94) F.1.1 F.1.2.1 dX0_learn_94 rfl (lv_at hl 4 rfl) ?_
              refine xi_i2b (pc := 95) F.1 (by omega) dX0_learn_95 ?_
              refine stX_2 (pc := 96) F I (by omega) (by omega) dX0_learn_96 (fun u8 H locs hu8 I => ?_)
              have hR : Rng u8.1 := by rw [hu8]; exact Rng_up hR (by omega)
              refine xi_iinc (pc := 97) (lv' := [(3, .int (iI (q + 1))), (4, .int (iI i)), (0, .ref a.1), (1, .int (iI x)), (2, .int (iI y))]) F.1 dX0_learn_97 hl (k := 1) rfl (by decide) rfl (fun ls hl => ?_)
              refine xi_iinc (pc := 100) (lv' := [(4, .int (iI (i + 1))), (3, .int (iI (q + 1))), (0, .ref a.1), (1, .int (iI x)), (2, .int (iI y))]) F.1 dX0_learn_100 hl (k := 1) rfl (by decide) rfl (fun ls hl => ?_)
              refine lv_goto (pc := 103) (tgt := 28) F.1.1 F.1.2.1 dX0_learn_103 (by decide) ?_
              exact ih (k + 1) (i + 1) ((q + 1)) u8 _ _ ls (by omega) (by omega) (by rw [hc, if_neg (by omega), if_pos (by omega)] <;> omega) (by rw [hu8, hw]; exact congrArg (fun z => (z, u.2)) (lnL_ft u.1 hi0 (by omega) (by omega) (by omega))) hR I (lv_sub hl [0, 1, 2, 3, 4] rfl)
          · refine lv_aload_n (pc := 65) F.1.1 F.1.2.1 dX0_learn_65 rfl (lv_at hl 2 rfl) ?_
            refine gX_1 (pc := 66) F I dX0_learn_66 ?_
            refine lv_iload (pc := 69) F.1.1 F.1.2.1 dX0_learn_69 (lv_at hl 0 rfl) ?_
            refine lv_iload_n (pc := 71) F.1.1 F.1.2.1 dX0_learn_71 rfl (lv_at hl 4 rfl) ?_
            refine xi_i2b (pc := 72) F.1 (by omega) dX0_learn_72 ?_
            refine stX_1 (pc := 73) F I (by omega) (by omega) dX0_learn_73 (fun u9 H locs hu9 I => ?_)
            have hR : Rng u9.1 := by rw [hu9]; exact Rng_up hR (by omega)
            refine xi_iinc (pc := 74) (lv' := [(3, .int (iI (q + 1))), (4, .int (iI i)), (0, .ref a.1), (1, .int (iI x)), (2, .int (iI y))]) F.1 dX0_learn_74 hl (k := 1) rfl (by decide) rfl (fun ls hl => ?_)
            refine lv_aload_n (pc := 77) F.1.1 F.1.2.1 dX0_learn_77 rfl (lv_at hl 2 rfl) ?_
            refine gX_2 (pc := 78) F I dX0_learn_78 ?_
            refine lv_iload (pc := 81) F.1.1 F.1.2.1 dX0_learn_81 (lv_at hl 1 rfl) ?_
            refine ldX_2 (pc := 83) F I (by omega) dX0_learn_83 (fun v10 hv10 => ?_)
            have rv10 : -1 ≤ v10 ∧ v10 ≤ 127 := by rw [hv10]; exact hR 2 _
            have ev10 : v10 = w.1 2 i := by simp [hv10, hu9, up]
            refine lv_iload_n (pc := 84) F.1.1 F.1.2.1 dX0_learn_84 rfl (lv_at hl 3 rfl) ?_
            refine xi_cne (pc := 85) (tgt := 100) F.1 (by omega) dX0_learn_85 (by decide) (fun c11 => ?_) (fun c11 => ?_)
            · refine xi_iinc (pc := 100) (lv' := [(4, .int (iI (i + 1))), (3, .int (iI (q + 1))), (0, .ref a.1), (1, .int (iI x)), (2, .int (iI y))]) F.1 dX0_learn_100 hl (k := 1) rfl (by decide) rfl (fun ls hl => ?_)
              refine lv_goto (pc := 103) (tgt := 28) F.1.1 F.1.2.1 dX0_learn_103 (by decide) ?_
              exact ih (k + 1) (i + 1) ((q + 1)) u9 _ _ ls (by omega) (by omega) (by rw [hc, if_pos (by omega), if_neg (by omega)] <;> omega) (by rw [hu9, hw]; exact congrArg (fun z => (z, u.2)) (lnL_tf u.1 hi0 (by omega) (by omega) (by omega))) hR I (lv_sub hl [0, 1, 2, 3, 4] rfl)
            · refine lv_aload_n (pc := 88) F.1.1 F.1.2.1 dX0_learn_88 rfl (lv_at hl 2 rfl) ?_
              refine gX_2 (pc := 89) F I dX0_learn_89 ?_
              refine lv_iload (pc := 92) F.1.1 F.1.2.1 dX0_learn_92 (lv_at hl 1 rfl) ?_
              refine lv_iload_n (pc := 94) F.1.1 F.1.2.1 dX0_learn_94 rfl (lv_at hl 4 rfl) ?_
              refine xi_i2b (pc := 95) F.1 (by omega) dX0_learn_95 ?_
              refine stX_2 (pc := 96) F I (by omega) (by omega) dX0_learn_96 (fun u12 H locs hu12 I => ?_)
              have hR : Rng u12.1 := by rw [hu12]; exact Rng_up hR (by omega)
              refine xi_iinc (pc := 97) (lv' := [(3, .int (iI ((q + 1) + 1))), (4, .int (iI i)), (0, .ref a.1), (1, .int (iI x)), (2, .int (iI y))]) F.1 dX0_learn_97 hl (k := 0) rfl (by decide) rfl (fun ls hl => ?_)
              refine xi_iinc (pc := 100) (lv' := [(4, .int (iI (i + 1))), (3, .int (iI ((q + 1) + 1))), (0, .ref a.1), (1, .int (iI x)), (2, .int (iI y))]) F.1 dX0_learn_100 hl (k := 1) rfl (by decide) rfl (fun ls hl => ?_)
              refine lv_goto (pc := 103) (tgt := 28) F.1.1 F.1.2.1 dX0_learn_103 (by decide) ?_
              exact ih (k + 1) (i + 1) (((q + 1) + 1)) u12 _ _ ls (by omega) (by omega) (by rw [hc, if_pos (by omega), if_pos (by omega)] <;> omega) (by rw [hu12, hu9, hw]; exact congrArg (fun z => (z, u.2)) (lnL_tt u.1 hi0 (by omega) (by omega) (by omega))) hR I (lv_sub hl [0, 1, 2, 3, 4] rfl)
        · refine lv_goto (pc := 51) (tgt := 100) F.1.1 F.1.2.1 dX0_learn_51 (by decide) ?_
          refine xi_iinc (pc := 100) (lv' := [(4, .int (iI (i + 1))), (3, .int (iI q)), (0, .ref a.1), (1, .int (iI x)), (2, .int (iI y))]) F.1 dX0_learn_100 hl (k := 0) rfl (by decide) rfl (fun ls hl => ?_)
          refine lv_goto (pc := 103) (tgt := 28) F.1.1 F.1.2.1 dX0_learn_103 (by decide) ?_
          exact ih (k + 1) (i + 1) (q) w _ _ ls (by omega) (by omega) (by rw [hc, if_neg (by omega), if_neg (by omega)] <;> omega) (by rw [hw]; exact congrArg (fun z => (z, u.2)) (by first | exact lnL_n u.1 hi0 (by omega) | exact lnL_ff u.1 hi0 (by omega) (by omega))) hR I (lv_sub hl [0, 1, 2, 3, 4] rfl)
  refine lv_iload_n (pc := 0) F.1.1 F.1.2.1 dX0_learn_0 rfl (lv_at hl 1 rfl) ?_
  refine xi_bp (pc := 1) F.1 dX0_learn_1 (by decide) ?_
  refine xi_clt (pc := 3) (tgt := 21) F.1 (by omega) dX0_learn_3 (by decide) (fun c1 => ?_) (fun c1 => ?_)
  · refine xi_ic (pc := 21) F.1 dX0_learn_21 ?_
    exact hret (-1) u _ _ (Or.inl ⟨by omega, rfl, rfl⟩) I _ _ dX0_learn_22
  · refine lv_iload_n (pc := 6) F.1.1 F.1.2.1 dX0_learn_6 rfl (lv_at hl 1 rfl) ?_
    refine xi_bp (pc := 7) F.1 dX0_learn_7 (by decide) ?_
    refine xi_cgt (pc := 9) (tgt := 21) F.1 (by omega) dX0_learn_9 (by decide) (fun c2 => ?_) (fun c2 => ?_)
    · refine xi_ic (pc := 21) F.1 dX0_learn_21 ?_
      exact hret (-1) u _ _ (Or.inl ⟨by omega, rfl, rfl⟩) I _ _ dX0_learn_22
    · refine lv_iload_n (pc := 12) F.1.1 F.1.2.1 dX0_learn_12 rfl (lv_at hl 2 rfl) ?_
      refine xi_zlt (pc := 13) (tgt := 21) F.1 (by omega) dX0_learn_13 (by decide) (fun c3 => ?_) (fun c3 => ?_)
      · refine xi_ic (pc := 21) F.1 dX0_learn_21 ?_
        exact hret (-1) u _ _ (Or.inl ⟨by omega, rfl, rfl⟩) I _ _ dX0_learn_22
      · refine lv_iload_n (pc := 16) F.1.1 F.1.2.1 dX0_learn_16 rfl (lv_at hl 2 rfl) ?_
        refine xi_ic (pc := 17) F.1 dX0_learn_17 ?_
        refine xi_cle (pc := 18) (tgt := 23) F.1 (by omega) dX0_learn_18 (by decide) (fun c4 => ?_) (fun c4 => ?_)
        · refine xi_ic (pc := 23) F.1 dX0_learn_23 ?_
          refine lv_istore_n (pc := 24) (lv' := [(3, .int (iI 0)), (0, .ref a.1), (1, .int (iI x)), (2, .int (iI y))]) F.1.1 F.1.2.1 dX0_learn_24 rfl hl (by decide) rfl (fun ls hl => ?_)
          refine xi_ic (pc := 25) F.1 dX0_learn_25 ?_
          refine lv_istore (pc := 26) (lv' := [(4, .int (iI 0)), (3, .int (iI 0)), (0, .ref a.1), (1, .int (iI x)), (2, .int (iI y))]) F.1.1 F.1.2.1 dX0_learn_26 hl (by decide) rfl (fun ls hl => ?_)
          exact loop (by omega) 10 0 0 0 u _ _ ls rfl rfl rfl (by rw [lnL_0]) hR I hl
        · refine xi_ic (pc := 21) F.1 dX0_learn_21 ?_
          exact hret (-1) u _ _ (Or.inl ⟨by omega, rfl, rfl⟩) I _ _ dX0_learn_22
end
section
set_option maxRecDepth 100000
theorem frP_r (g : xG) : frP g = 10 ∨ frP g = 20 := by
  unfold frP
  split
  · exact Or.inl rfl
  · exact Or.inr rfl
theorem setb_ok {b : Int → Int} {i v : Int} (hb : bOk b) (hv : cod v) : bOk (setb b i v) := by
  intro j h0 h1
  unfold setb
  split
  · exact Or.inr hv
  · exact hb j h0 h1
theorem uniP_sp {fr : Int} {b b2 : Int → Int} {s t : Int} (hf : 10 ≤ fr) (hb : bOk b) (hs : cod s) (ht : cod t) (h : uniP fr b s t = some b2) : bOk b2 ∧ ∀ i, ¬ (0 ≤ i ∧ i < 7) → b2 i = b i := by
  have c1 := valP_cod hb 8 s hs
  have c2 := valP_cod hb 8 t ht
  unfold uniP at h
  split at h
  · cases h
    exact ⟨hb, fun _ _ => rfl⟩
  · split at h
    · rename_i h1
      cases h
      refine ⟨setb_ok hb c2, fun i hi => ?_⟩
      have h2 := slP_r c1
      unfold setb
      rw [if_neg (by omega)]
    · split at h
      · cases h
      · cases h
        refine ⟨setb_ok hb c1, fun i hi => ?_⟩
        have h2 := slP_r c2
        unfold setb
        rw [if_neg (by omega)]
theorem uni_all {u u2 : xSt} {x y r : Int} (hx : cod x) (hy : cod y) (hb : bOk (u.1 10)) (hR : Rng u.1) (h : (r = 1 ∧ uniP (frP u.1) (u.1 10) x y = some (u2.1 10) ∧ (∀ k, k ≠ 10 → u2.1 k = u.1 k) ∧ u2.2 = u.2 ∧ Rng u2.1) ∨ (r = 0 ∧ uniP (frP u.1) (u.1 10) x y = none ∧ u2 = u)) :
    Rng u2.1 ∧ (∀ k, k ≠ 10 → u2.1 k = u.1 k) ∧ u2.2 = u.2 ∧ bOk (u2.1 10) ∧ (∀ i, ¬ (0 ≤ i ∧ i < 7) → u2.1 10 i = u.1 10 i) := by
  have hf := frP_r u.1
  rcases h with ⟨_, h1, h2, h3, h4⟩ | ⟨_, _, h3⟩
  · have h5 := uniP_sp (by omega) hb hx hy h1
    exact ⟨h4, h2, h3, h5.1, h5.2⟩
  · rw [h3]
    exact ⟨hR, fun _ _ => rfl, rfl, hb, fun _ _ => rfl⟩
/-- what a found couple does to the set of certain ones, and to the goal -/
def finC (g : xG) (r : Int) (cs : Int64) (b : Int → Int) : Int64 := if valP 8 b (g 4 r) < 10 ∧ valP 8 b (g 5 r) < 10 then cs ||| 1 <<< ((iI (7 * valP 8 b (g 4 r) + valP 8 b (g 5 r))).toInt64 &&& 63) else cs
def gmB (g : xG) (r : Int) (b : Int → Int) : Int := match uniP (frP g) b (g 4 r) (g 14 0) with
  | none => 0
  | some b1 => match uniP (frP g) b1 (g 5 r) (g 15 0) with
    | none => 0
    | some _ => 1
abbrev xFs : Type := Int × Int64 × Int
def finP (g : xG) (r : Int) (fs : xFs) (b : Int → Int) : xFs := if g 13 0 = 0 then (gmB g r b, fs.2.1, fs.2.2) else (fs.1, finC g r fs.2.1 b, 1)
abbrev fsO (u : xSt) : xFs := (u.1 16 0, u.2, u.1 19 0)
def finQ (u : xSt) (r0 : Int) (u2 : xSt) : Prop := (∀ k, k ≠ 10 → k ≠ 16 → k ≠ 19 → u2.1 k = u.1 k) ∧ (∀ i, ¬ (0 ≤ i ∧ i < 7) → u2.1 10 i = u.1 10 i) ∧ fsO u2 = finP u.1 r0 (fsO u) (u.1 10)
theorem fin_ns {u u3 uf : xSt} {r0 v : Int} (hs : u.1 13 0 = 0) (hv : v = gmB u.1 r0 (u.1 10)) (hk : ∀ k, k ≠ 10 → u3.1 k = u.1 k) (hc : u3.2 = u.2) (ho : ∀ i, ¬ (0 ≤ i ∧ i < 7) → u3.1 10 i = u.1 10 i) (hu : uf = (up u3.1 16 0 v, u3.2)) : finQ u r0 uf := by
  subst hu
  refine ⟨fun k h1 h2 h3 => (up_o _ _ _ h2).trans (hk k h1), fun i hi => ho i hi, ?_⟩
  show (up u3.1 16 0 v 16 0, u3.2, up u3.1 16 0 v 19 0) = _
  rw [up_s, up_k (by decide), hk 19 (by decide), hc, hv]
  unfold finP
  rw [if_pos hs]
theorem fin_st {u uf : xSt} {r0 : Int} (hs : u.1 13 0 ≠ 0) (h1 : uf.1 = up u.1 19 0 1) (h2 : uf.2 = finC u.1 r0 u.2 (u.1 10)) : finQ u r0 uf := by
  refine ⟨fun k _ _ h3 => by rw [h1]; exact up_o _ _ _ h3, fun i hi => by rw [h1]; exact up_k (by decide), ?_⟩
  show (uf.1 16 0, uf.2, uf.1 19 0) = _
  rw [h1, h2, up_s, up_k (by decide)]
  unfold finP
  rw [if_neg hs]
set_option maxHeartbeats 4000000 in
/-- finish -/
theorem cX_finish (l : Launch) (D : va_G) (a : xAd) (u : xSt) (r0 : Int) (hr0 : 0 ≤ r0 ∧ r0 ≤ 1) (hh : cod (u.1 4 r0) ∧ cod (u.1 5 r0)) (hg : cod (u.1 14 0) ∧ cod (u.1 15 0)) (hb : bOk (u.1 10)) (hR : Rng u.1) : MXv l D a yX0_finish cX0_finish 4 ({ frames := 3, cells := 0, slots := 0, locals := 70 } : Room) [.int (iI r0)] u (fun u2 => Rng u2.1 ∧ finQ u r0 u2) := by
  refine enXv (by decide +kernel) rfl (Nat.le_of_ble_eq_true rfl) ?_
  intro p e s m below meth c A Q ls F I hret hl
  have hl : lv_has ls 4 [(0, .ref a.1), (1, .int (iI r0))] := hl
  refine lv_aload_n (pc := 0) F.1.1 F.1.2.1 dX0_finish_0 rfl (lv_at hl 0 rfl) ?_
  refine gX_13 (pc := 1) F I dX0_finish_1 (fun v1 hv1 => ?_)
  have rv1 : -1 ≤ v1 ∧ v1 ≤ 127 := by rw [hv1]; exact hR 13 0
  refine xi_zne (pc := 4) (tgt := 51) F.1 (by omega) dX0_finish_4 (by decide) (fun c2 => ?_) (fun c2 => ?_)
  · refine lv_aload_n (pc := 51) F.1.1 F.1.2.1 dX0_finish_51 rfl (lv_at hl 0 rfl) ?_
    refine xi_ic (pc := 52) F.1 dX0_finish_52 ?_
    refine pX_19 (pc := 53) F I (by omega) dX0_finish_53 (fun u3 H locs hu3 I => ?_)
    have hR : Rng u3.1 := by rw [hu3]; exact Rng_up hR (by omega)
    have hb0 : u3.1 10 = u.1 10 := by rw [hu3]; rfl
    refine lv_aload_n (pc := 56) F.1.1 F.1.2.1 dX0_finish_56 rfl (lv_at hl 0 rfl) ?_
    refine lv_aload_n (pc := 57) F.1.1 F.1.2.1 dX0_finish_57 rfl (lv_at hl 0 rfl) ?_
    refine gX_4 (pc := 58) F I dX0_finish_58 ?_
    refine lv_iload_n (pc := 61) F.1.1 F.1.2.1 dX0_finish_61 rfl (lv_at hl 1 rfl) ?_
    refine ldX_4 (pc := 62) F I (by omega) dX0_finish_62 (fun v4 hv4 => ?_)
    have rv4 : -1 ≤ v4 ∧ v4 ≤ 127 := by rw [hv4]; exact hR 4 _
    have ev4 : v4 = u.1 4 r0 := by simp [hv4, hu3, up]
    refine caXi (pc := 63) (As := [.int (iI v4)]) (rest := []) F I (cX_valueOf l D a u3 v4 (by rw [ev4]; exact hh.1) (by rw [hb0]; exact hb) hR) (lw_V q164 q166 qs10 q24 q167) hdX_valueOf ⟨rfl, rfl⟩ ⟨Nat.le_of_ble_eq_true rfl, Nat.le_of_ble_eq_true rfl⟩ hl.1 rfl (Nat.le_of_ble_eq_true rfl) ⟨Nat.zero_le _, Nat.zero_le _⟩ dX0_finish_63 (fun r6 u5 H locs hp6 I => ?_)
    rw [hp6.1] at I
    have hr6 := hp6.2
    rw [hb0, ev4] at hr6
    have cr6 : cod r6 := by rw [hr6]; exact valP_cod hb 8 _ hh.1
    refine lv_istore_n (pc := 66) (lv' := [(2, .int (iI r6)), (0, .ref a.1), (1, .int (iI r0))]) F.1.1 F.1.2.1 dX0_finish_66 rfl hl (by decide) rfl (fun ls hl => ?_)
    refine lv_aload_n (pc := 67) F.1.1 F.1.2.1 dX0_finish_67 rfl (lv_at hl 1 rfl) ?_
    refine lv_aload_n (pc := 68) F.1.1 F.1.2.1 dX0_finish_68 rfl (lv_at hl 1 rfl) ?_
    refine gX_5 (pc := 69) F I dX0_finish_69 ?_
    refine lv_iload_n (pc := 72) F.1.1 F.1.2.1 dX0_finish_72 rfl (lv_at hl 2 rfl) ?_
    refine ldX_5 (pc := 73) F I (by omega) dX0_finish_73 (fun v7 hv7 => ?_)
    have rv7 : -1 ≤ v7 ∧ v7 ≤ 127 := by rw [hv7]; exact hR 5 _
    have ev7 : v7 = u.1 5 r0 := by simp [hv7, hu3, up]
    refine caXi (pc := 74) (As := [.int (iI v7)]) (rest := []) F I (cX_valueOf l D a u3 v7 (by rw [ev7]; exact hh.2) (by rw [hb0]; exact hb) hR) (lw_V q164 q166 qs10 q24 q167) hdX_valueOf ⟨rfl, rfl⟩ ⟨Nat.le_of_ble_eq_true rfl, Nat.le_of_ble_eq_true rfl⟩ hl.1 rfl (Nat.le_of_ble_eq_true rfl) ⟨Nat.zero_le _, Nat.zero_le _⟩ dX0_finish_74 (fun r9 u8 H locs hp9 I => ?_)
    rw [hp9.1] at I
    have hr9 := hp9.2
    rw [hb0, ev7] at hr9
    have cr9 : cod r9 := by rw [hr9]; exact valP_cod hb 8 _ hh.2
    refine lv_istore_n (pc := 77) (lv' := [(3, .int (iI r9)), (2, .int (iI r6)), (0, .ref a.1), (1, .int (iI r0))]) F.1.1 F.1.2.1 dX0_finish_77 rfl hl (by decide) rfl (fun ls hl => ?_)
    refine lv_iload_n (pc := 78) F.1.1 F.1.2.1 dX0_finish_78 rfl (lv_at hl 1 rfl) ?_
    refine xi_bp (pc := 79) F.1 dX0_finish_79 (by decide) ?_
    refine xi_cge (pc := 81) (tgt := 107) F.1 (by omega) dX0_finish_81 (by decide) (fun c10 => ?_) (fun c10 => ?_)
    · exact hret u3 _ _ (⟨hR, fin_st (by omega) (by rw [hu3]) (by unfold finC; rw [← hr6, ← hr9, if_neg (by omega), hu3])⟩) I _ _ dX0_finish_107
    · refine lv_iload_n (pc := 84) F.1.1 F.1.2.1 dX0_finish_84 rfl (lv_at hl 0 rfl) ?_
      refine xi_bp (pc := 85) F.1 dX0_finish_85 (by decide) ?_
      refine xi_cge (pc := 87) (tgt := 107) F.1 (by omega) dX0_finish_87 (by decide) (fun c11 => ?_) (fun c11 => ?_)
      · exact hret u3 _ _ (⟨hR, fin_st (by omega) (by rw [hu3]) (by unfold finC; rw [← hr6, ← hr9, if_neg (by omega), hu3])⟩) I _ _ dX0_finish_107
      · refine lv_aload_n (pc := 90) F.1.1 F.1.2.1 dX0_finish_90 rfl (lv_at hl 2 rfl) ?_
        refine lv_dup (pc := 91) F.1.1 F.1.2.1 dX0_finish_91 rfl ?_
        refine gX_18 (pc := 92) F I dX0_finish_92 (fun v12 hv12 => ?_)
        have hvl := hv12
        refine lv_lconst (v := 1) (pc := 95) F.1.1 F.1.2.1 dX0_finish_95 rfl ?_
        refine xi_bp (pc := 96) F.1 dX0_finish_96 (by decide) ?_
        refine lv_iload_n (pc := 98) F.1.1 F.1.2.1 dX0_finish_98 rfl (lv_at hl 1 rfl) ?_
        refine xi_imul (pc := 99) F.1 dX0_finish_99 ?_
        refine lv_iload_n (pc := 100) F.1.1 F.1.2.1 dX0_finish_100 rfl (lv_at hl 0 rfl) ?_
        refine xi_iadd (pc := 101) F.1 dX0_finish_101 ?_
        refine lv_lshl (pc := 102) F.1.1 F.1.2.1 dX0_finish_102 rfl ?_
        refine lv_lor (pc := 103) F.1.1 F.1.2.1 dX0_finish_103 ?_
        refine pX_18 (pc := 104) F I dX0_finish_104 (fun u13 H locs hu13 I => ?_)
        have hR : Rng u13.1 := by rw [hu13]; exact hR
        exact hret u13 _ _ (⟨hR, fin_st (by omega) (by rw [hu13, hu3]) (by unfold finC; rw [← hr6, ← hr9, if_pos (by omega), hu13, hvl, hu3])⟩) I _ _ dX0_finish_107
  · refine lv_aload_n (pc := 7) F.1.1 F.1.2.1 dX0_finish_7 rfl (lv_at hl 0 rfl) ?_
    refine lv_aload_n (pc := 8) F.1.1 F.1.2.1 dX0_finish_8 rfl (lv_at hl 0 rfl) ?_
    refine lv_aload_n (pc := 9) F.1.1 F.1.2.1 dX0_finish_9 rfl (lv_at hl 0 rfl) ?_
    refine gX_4 (pc := 10) F I dX0_finish_10 ?_
    refine lv_iload_n (pc := 13) F.1.1 F.1.2.1 dX0_finish_13 rfl (lv_at hl 1 rfl) ?_
    refine ldX_4 (pc := 14) F I (by omega) dX0_finish_14 (fun v14 hv14 => ?_)
    have rv14 : -1 ≤ v14 ∧ v14 ≤ 127 := by rw [hv14]; exact hR 4 _
    refine lv_aload_n (pc := 15) F.1.1 F.1.2.1 dX0_finish_15 rfl (lv_at hl 0 rfl) ?_
    refine gX_14 (pc := 16) F I dX0_finish_16 (fun v15 hv15 => ?_)
    have rv15 : -1 ≤ v15 ∧ v15 ≤ 127 := by rw [hv15]; exact hR 14 0
    refine caXi (pc := 19) (As := [.int (iI v14), .int (iI v15)]) (rest := [.ref a.1]) F I (cX_unify l D a u v14 v15 (by rw [hv14]; exact hh.1) (by rw [hv15]; exact hg.1) hb hR) (lw_V q160 q162 qs9 q24 q163) hdX_unify ⟨rfl, rfl⟩ ⟨Nat.le_of_ble_eq_true rfl, Nat.le_of_ble_eq_true rfl⟩ hl.1 rfl (Nat.le_of_ble_eq_true rfl) ⟨Nat.zero_le _, Nat.zero_le _⟩ dX0_finish_19 (fun r17 u16 H locs hp17 I => ?_)
    rw [hv14, hv15] at hp17
    obtain ⟨hR1, hk1, hc1, hb1, ho1⟩ := uni_all hh.1 hg.1 hb hR hp17
    have hR : Rng u16.1 := hR1
    have rr17 : 0 ≤ r17 ∧ r17 ≤ 1 := by omega
    refine xi_zeq (pc := 22) (tgt := 46) F.1 (by omega) dX0_finish_22 (by decide) (fun c18 => ?_) (fun c18 => ?_)
    · refine xi_ic (pc := 46) F.1 dX0_finish_46 ?_
      refine pX_16 (pc := 47) F I (by omega) dX0_finish_47 (fun u19 H locs hu19 I => ?_)
      have hR : Rng u19.1 := by rw [hu19]; exact Rng_up hR (by omega)
      exact hret u19 _ _ (⟨hR, fin_ns (u3 := u16) (by omega) (by unfold gmB; rw [hp17.elim (fun z => absurd z.1 (by omega)) (fun z => z.2.1)]) hk1 hc1 ho1 hu19⟩) I _ _ dX0_finish_50
    · refine lv_aload_n (pc := 25) F.1.1 F.1.2.1 dX0_finish_25 rfl (lv_at hl 0 rfl) ?_
      refine lv_aload_n (pc := 26) F.1.1 F.1.2.1 dX0_finish_26 rfl (lv_at hl 0 rfl) ?_
      refine gX_5 (pc := 27) F I dX0_finish_27 ?_
      refine lv_iload_n (pc := 30) F.1.1 F.1.2.1 dX0_finish_30 rfl (lv_at hl 1 rfl) ?_
      refine ldX_5 (pc := 31) F I (by omega) dX0_finish_31 (fun v20 hv20 => ?_)
      have rv20 : -1 ≤ v20 ∧ v20 ≤ 127 := by rw [hv20]; exact hR 5 _
      refine lv_aload_n (pc := 32) F.1.1 F.1.2.1 dX0_finish_32 rfl (lv_at hl 0 rfl) ?_
      refine gX_15 (pc := 33) F I dX0_finish_33 (fun v21 hv21 => ?_)
      have rv21 : -1 ≤ v21 ∧ v21 ≤ 127 := by rw [hv21]; exact hR 15 0
      refine caXi (pc := 36) (As := [.int (iI v20), .int (iI v21)]) (rest := [.ref a.1]) F I (cX_unify l D a u16 v20 v21 (by rw [hv20, hk1 5 (by decide)]; exact hh.2) (by rw [hv21, hk1 15 (by decide)]; exact hg.2) hb1 hR) (lw_V q160 q162 qs9 q24 q163) hdX_unify ⟨rfl, rfl⟩ ⟨Nat.le_of_ble_eq_true rfl, Nat.le_of_ble_eq_true rfl⟩ hl.1 rfl (Nat.le_of_ble_eq_true rfl) ⟨Nat.zero_le _, Nat.zero_le _⟩ dX0_finish_36 (fun r23 u22 H locs hp23 I => ?_)
      have hf1 : frP u16.1 = frP u.1 := by unfold frP; rw [hk1 13 (by decide)]
      rw [hv20, hv21, hk1 5 (by decide), hk1 15 (by decide)] at hp23
      obtain ⟨hR2, hk2, hc2, hb2, ho2⟩ := uni_all hh.2 hg.2 hb1 hR hp23
      have hR : Rng u22.1 := hR2
      rw [hf1] at hp23
      have rr23 : 0 ≤ r23 ∧ r23 ≤ 1 := by omega
      refine xi_zeq (pc := 39) (tgt := 46) F.1 (by omega) dX0_finish_39 (by decide) (fun c24 => ?_) (fun c24 => ?_)
      · refine xi_ic (pc := 46) F.1 dX0_finish_46 ?_
        refine pX_16 (pc := 47) F I (by omega) dX0_finish_47 (fun u25 H locs hu25 I => ?_)
        have hR : Rng u25.1 := by rw [hu25]; exact Rng_up hR (by omega)
        exact hret u25 _ _ (⟨hR, fin_ns (u3 := u22) (by omega) (by unfold gmB; rw [hp17.elim (fun z => z.2.1) (fun z => absurd z.1 (by omega))]; dsimp only; rw [hp23.elim (fun z => absurd z.1 (by omega)) (fun z => z.2.1)]) (fun k hk => (hk2 k hk).trans (hk1 k hk)) (hc2.trans hc1) (fun i hi => (ho2 i hi).trans (ho1 i hi)) hu25⟩) I _ _ dX0_finish_50
      · refine xi_ic (pc := 42) F.1 dX0_finish_42 ?_
        refine lv_goto (pc := 43) (tgt := 47) F.1.1 F.1.2.1 dX0_finish_43 (by decide) ?_
        refine pX_16 (pc := 47) F I (by omega) dX0_finish_47 (fun u26 H locs hu26 I => ?_)
        have hR : Rng u26.1 := by rw [hu26]; exact Rng_up hR (by omega)
        exact hret u26 _ _ (⟨hR, fin_ns (u3 := u22) (by omega) (by unfold gmB; rw [hp17.elim (fun z => z.2.1) (fun z => absurd z.1 (by omega))]; dsimp only; rw [hp23.elim (fun z => z.2.1) (fun z => absurd z.1 (by omega))]) (fun k hk => (hk2 k hk).trans (hk1 k hk)) (hc2.trans hc1) (fun i hi => (ho2 i hi).trans (ho1 i hi)) hu26⟩) I _ _ dX0_finish_50
end
section
set_option maxRecDepth 100000
/-- tables and rules are well formed -/
def Val (g : xG) : Prop := (∀ t, 0 ≤ t → t ≤ 1 → 0 ≤ g 0 t ∧ g 0 t ≤ 5 ∧ ∀ i, 0 ≤ i → i < g 0 t → isV (g 1 (5 * t + i)) ∧ isV (g 2 (5 * t + i))) ∧ (0 ≤ g 3 0 ∧ g 3 0 ≤ 2) ∧ (∀ r, 0 ≤ r → r < g 3 0 → isT (g 4 r) ∧ isT (g 5 r) ∧ 0 ≤ g 6 r ∧ g 6 r ≤ 3 ∧ ∀ k, 0 ≤ k → k < g 6 r → (0 ≤ g 7 (3 * r + k) ∧ g 7 (3 * r + k) ≤ 1) ∧ isT (g 8 (3 * r + k)) ∧ isT (g 9 (3 * r + k)))
/-- rows from one on; a row's bindings; all bindings of a rule's atoms from atom k on -/
def rowsL {α : Type} (f : Int → List α) : Nat → Int → List α
  | 0, _ => []
  | m + 1, row => f row ++ rowsL f m (row + 1)
def stepL (g : xG) (fr r : Int) (nx : Int → (Int → Int) → List (Int → Int)) (k : Int) (b : Int → Int) (row : Int) : List (Int → Int) :=
  match uniP fr b (g 8 (3 * r + k)) (g 1 (5 * g 7 (3 * r + k) + row)) with
  | none => []
  | some b1 => match uniP fr b1 (g 9 (3 * r + k)) (g 2 (5 * g 7 (3 * r + k) + row)) with
    | none => []
    | some b2 => nx (k + 1) b2
def lvs (g : xG) (fr r : Int) : Nat → Int → (Int → Int) → List (Int → Int)
  | 0, _, b => [b]
  | n + 1, k, b => rowsL (stepL g fr r (lvs g fr r n) k b) (g 0 (g 7 (3 * r + k))).toNat 0
/-- couple after couple, until the goal is met -/
def runF (g : xG) (r : Int) : List (Int → Int) → xFs → xFs
  | [], fs => fs
  | b :: l, fs => if fs.1 = 0 then runF g r l (finP g r fs b) else fs
theorem runF_stop (g : xG) (r : Int) {fs : xFs} (h : fs.1 ≠ 0) : ∀ l, runF g r l fs = fs
  | [] => rfl
  | b :: l => by unfold runF; rw [if_neg h]
theorem runF_app (g : xG) (r : Int) (l2 : List (Int → Int)) : ∀ (l1 : List (Int → Int)) (fs : xFs), runF g r (l1 ++ l2) fs = runF g r l2 (runF g r l1 fs)
  | [], fs => rfl
  | b :: l, fs => by
    show runF g r (b :: (l ++ l2)) fs = _
    by_cases h : fs.1 = 0
    · show (if fs.1 = 0 then runF g r (l ++ l2) (finP g r fs b) else fs) = runF g r l2 (if fs.1 = 0 then runF g r l (finP g r fs b) else fs)
      rw [if_pos h, if_pos h]
      exact runF_app g r l2 l _
    · rw [runF_stop g r h, runF_stop g r h, runF_stop g r h]
abbrev kN (k : Nat) : Prop := k ≠ 10 ∧ k ≠ 11 ∧ k ≠ 12 ∧ k ≠ 16 ∧ k ≠ 19
def kpM (u w : xSt) : Prop := (∀ k, kN k → w.1 k = u.1 k) ∧ (∀ i, ¬ (0 ≤ i ∧ i < 7) → w.1 10 i = u.1 10 i) ∧ Rng w.1
def frB (w : xSt) (k : Int) (b : Int → Int) : Prop := ∀ i, 0 ≤ i → i < 7 → w.1 12 (7 * k + i) = b i
def frK (w w2 : xSt) (k : Int) : Prop := ∀ j, 0 ≤ j → j < k → w2.1 11 j = w.1 11 j ∧ ∀ i, 0 ≤ i → i < 7 → w2.1 12 (7 * j + i) = w.1 12 (7 * j + i)
theorem frK_tr {w1 w2 w3 : xSt} {k k2 : Int} (h : k ≤ k2) (h1 : frK w1 w2 k) (h2 : frK w2 w3 k2) : frK w1 w3 k := by
  intro j h0 h3
  have a := h1 j h0 h3
  have b := h2 j h0 (by omega)
  exact ⟨b.1.trans a.1, fun i i0 i1 => (b.2 i i0 i1).trans (a.2 i i0 i1)⟩
theorem rs_b {u w : xSt} {k : Int} {b : Int → Int} (hf : frB w k b) (hk : kpM u w) (ho : ∀ i, ¬ (0 ≤ i ∧ i < 7) → b i = u.1 10 i) : rsL w.1 k 7 10 = b := by
  funext i
  unfold rsL
  by_cases h : 0 ≤ i ∧ i < 7
  · rw [if_pos ⟨rfl, h⟩]
    exact hf i h.1 h.2
  · rw [if_neg (fun q => h q.2), ho i h]
    exact hk.2.1 i h
theorem rs_o (g : xG) (d i : Int) {k : Nat} (h : k ≠ 10) : rsL g d i k = g k := by
  funext j
  unfold rsL
  rw [if_neg (fun q => h q.1)]
theorem sv_o (g : xG) (d i : Int) {k : Nat} (h : k ≠ 12) : svL g d i k = g k := by
  funext j
  unfold svL
  rw [if_neg (fun q => h q.1)]
theorem sv_in (g : xG) (d : Int) {i : Int} (h0 : 0 ≤ i) (h1 : i < 7) : svL g d 7 12 (7 * d + i) = g 10 i := by
  unfold svL
  rw [if_pos ⟨rfl, by omega, by omega⟩]
  congr 1
  omega
theorem sv_lo (g : xG) (d : Int) {j : Int} (h : j < 7 * d) : svL g d 7 12 j = g 12 j := by
  unfold svL
  rw [if_neg (by omega)]
theorem finP_eq {g g2 : xG} (h : ∀ k, kN k → g2 k = g k) (r : Int) (fs : xFs) (b : Int → Int) : finP g2 r fs b = finP g r fs b := by
  unfold finP gmB finC frP
  rw [h 13 (by decide), h 4 (by decide), h 5 (by decide), h 14 (by decide), h 15 (by decide)]
theorem frP_eq {g g2 : xG} (h : ∀ k, kN k → g2 k = g k) : frP g2 = frP g := by
  unfold frP
  rw [h 13 (by decide)]
theorem isV_cod {x : Int} (h : isV x) : cod x := by omega
theorem isT_cod {x : Int} (h : isT x) : cod x := by omega
set_option maxHeartbeats 4000000 in
/-- matchRule: every choice of rows, in order, until the goal is met -/
theorem cX_matchRule (l : Launch) (D : va_G) (a : xAd) (u : xSt) (r0 : Int) (hV : Val u.1) (hr0 : 0 ≤ r0 ∧ r0 < u.1 3 0) (hg : cod (u.1 14 0) ∧ cod (u.1 15 0)) (hgm : u.1 16 0 = 0) (hR : Rng u.1) : MXv l D a yX0_matchRule cX0_matchRule 6 ({ frames := 4, cells := 0, slots := 0, locals := 93 } : Room) [.int (iI r0)] u (fun u2 => kpM u u2 ∧ fsO u2 = runF u.1 r0 (lvs u.1 (frP u.1) r0 (u.1 6 r0).toNat 0 (fun i => if 0 ≤ i ∧ i < 7 then -1 else u.1 10 i)) (fsO u)) := by
  refine enXv (by decide +kernel) rfl (Nat.le_of_ble_eq_true rfl) ?_
  intro p e s m below meth c A Q ls F I hret hl
  have hl : lv_has ls 6 [(0, .ref a.1), (1, .int (iI r0))] := hl
  have hq := hV.2.2 r0 hr0.1 hr0.2
  have hq3 := hV.2.1
  have hfr := frP_r u.1
  have hRu := hR
  have main : ∀ (n : Nat) (k : Int) (b : Int → Int), 0 ≤ k → k + (n : Int) = u.1 6 r0 → bOk b → (∀ i, ¬ (0 ≤ i ∧ i < 7) → b i = u.1 10 i) → ∀ (w : xSt) (H : Heap) (locs : List Loc) (ls : Array Slot), kpM u w → frB w k b → w.1 11 k = 0 → w.1 16 0 = 0 → IX D a A s H locs w → lv_has ls 6 [(2, .int (iI k)), (0, .ref a.1), (1, .int (iI r0))] → (∀ (dep : Int) (w2 : xSt) (H2 : Heap) (locs2 : List Loc) (ls2 : Array Slot), (-1 ≤ dep ∧ dep ≤ 3) → (w2.1 16 0 = 0 → dep = k - 1) → kpM u w2 → frK w w2 k → fsO w2 = runF u.1 r0 (lvs u.1 (frP u.1) r0 n k b) (fsO w) → IX D a A s H2 locs2 w2 → lv_has ls2 6 [(2, .int (iI dep)), (0, .ref a.1), (1, .int (iI r0))] → W p l e ({ frames := 4, cells := 0, slots := 0, locals := 93 } : Room) s m (Value.ref a.1 :: [.int (iI r0)]).toArray below meth c H2 locs2 0 0 Q (F0 m 35 ls2 [])) → W p l e ({ frames := 4, cells := 0, slots := 0, locals := 93 } : Room) s m (Value.ref a.1 :: [.int (iI r0)]).toArray below meth c H locs 0 0 Q (F0 m 35 ls []) := by
    intro n
    induction n with
    | zero =>
      intro k b hk0 hkn hbo hob w H locs ls hk hfb h11 h16 I hl hcont
      have hR := hk.2.2
      refine lv_iload_n (pc := 35) F.1.1 F.1.2.1 dX0_matchRule_35 rfl (lv_at hl 0 rfl) ?_
      refine xi_zlt (pc := 36) (tgt := 196) F.1 (by omega) dX0_matchRule_36 (by decide) (fun c1 => ?_) (fun c1 => ?_)
      · exfalso; omega
      · refine lv_aload_n (pc := 39) F.1.1 F.1.2.1 dX0_matchRule_39 rfl (lv_at hl 1 rfl) ?_
        refine gX_16 (pc := 40) F I dX0_matchRule_40 (fun v2 hv2 => ?_)
        have rv2 : -1 ≤ v2 ∧ v2 ≤ 127 := by rw [hv2]; exact hR 16 0
        have ev2 : v2 = 0 := by rw [hv2]; exact h16
        refine xi_zne (pc := 43) (tgt := 196) F.1 (by omega) dX0_matchRule_43 (by decide) (fun c3 => ?_) (fun c3 => ?_)
        · exfalso; omega
        · refine lv_aload_n (pc := 46) F.1.1 F.1.2.1 dX0_matchRule_46 rfl (lv_at hl 1 rfl) ?_
          refine lv_iload_n (pc := 47) F.1.1 F.1.2.1 dX0_matchRule_47 rfl (lv_at hl 0 rfl) ?_
          refine caXv (pc := 48) (As := [.int (iI k)]) (rest := []) F I (cX_restore l D a w k (by omega) hk.2.2) (lw_V q152 q154 qs7 q24 q155) hdX_restore ⟨rfl, rfl⟩ ⟨Nat.le_of_ble_eq_true rfl, Nat.le_of_ble_eq_true rfl⟩ hl.1 rfl (Nat.le_of_ble_eq_true rfl) ⟨Nat.zero_le _, Nat.zero_le _⟩ dX0_matchRule_48 (fun u4 H locs hp4 I => ?_)
          have ho10 : ∀ j, j ≠ 10 → u4.1 j = w.1 j := fun j hj => by rw [hp4.1]; exact rs_o _ _ _ hj
          have hb10 : u4.1 10 = b := by rw [hp4.1]; exact rs_b hfb hk hob
          have hkp : ∀ j, kN j → u4.1 j = u.1 j := fun j hj => (ho10 j hj.1).trans (hk.1 j hj)
          have hcs : u4.2 = w.2 := by rw [hp4.1]
          have hR : Rng u4.1 := hp4.2
          refine lv_iload_n (pc := 51) F.1.1 F.1.2.1 dX0_matchRule_51 rfl (lv_at hl 0 rfl) ?_
          refine lv_aload_n (pc := 52) F.1.1 F.1.2.1 dX0_matchRule_52 rfl (lv_at hl 1 rfl) ?_
          refine gX_6 (pc := 53) F I dX0_matchRule_53 ?_
          refine lv_iload_n (pc := 56) F.1.1 F.1.2.1 dX0_matchRule_56 rfl (lv_at hl 2 rfl) ?_
          refine ldX_6 (pc := 57) F I (by omega) dX0_matchRule_57 (fun v5 hv5 => ?_)
          have rv5 : -1 ≤ v5 ∧ v5 ≤ 127 := by rw [hv5]; exact hR 6 _
          have ev5 : v5 = u.1 6 r0 := by rw [hv5, hkp 6 (by decide)]
          refine xi_cne (pc := 58) (tgt := 72) F.1 (by omega) dX0_matchRule_58 (by decide) (fun c6 => ?_) (fun c6 => ?_)
          · exfalso; omega
          · refine lv_aload_n (pc := 61) F.1.1 F.1.2.1 dX0_matchRule_61 rfl (lv_at hl 1 rfl) ?_
            refine lv_iload_n (pc := 62) F.1.1 F.1.2.1 dX0_matchRule_62 rfl (lv_at hl 2 rfl) ?_
            refine caXv (pc := 63) (As := [.int (iI r0)]) (rest := []) F I (cX_finish l D a u4 r0 (by omega) (by rw [hkp 4 (by decide), hkp 5 (by decide)]; exact ⟨isT_cod hq.1, isT_cod hq.2.1⟩) (by rw [hkp 14 (by decide), hkp 15 (by decide)]; exact hg) (by rw [hb10]; exact hbo) hR) (lw_V q156 q158 qs8 q24 q159) hdX_finish ⟨rfl, rfl⟩ ⟨Nat.le_of_ble_eq_true rfl, Nat.le_of_ble_eq_true rfl⟩ hl.1 rfl (Nat.le_of_ble_eq_true rfl) ⟨Nat.zero_le _, Nat.zero_le _⟩ dX0_matchRule_63 (fun u7 H locs hp7 I => ?_)
            refine xi_iinc (pc := 66) (lv' := [(2, .int (iI (k + (-1)))), (0, .ref a.1), (1, .int (iI r0))]) F.1 dX0_matchRule_66 hl (k := 0) rfl (by decide) rfl (fun ls hl => ?_)
            refine lv_goto (pc := 69) (tgt := 35) F.1.1 F.1.2.1 dX0_matchRule_69 (by decide) ?_
            have hq1 := hp7.2
            refine hcont (k + (-1)) u7 _ _ ls (by omega) (fun _ => by omega) ⟨fun j hj => (hq1.1 j hj.1 hj.2.2.2.1 hj.2.2.2.2).trans (hkp j hj), fun i hi => (hq1.2.1 i hi).trans (by rw [hb10]; exact hob i hi), hp7.1⟩ (fun j j0 j1 => ⟨by rw [hq1.1 11 (by decide) (by decide) (by decide), ho10 11 (by decide)], fun i i0 i1 => by rw [hq1.1 12 (by decide) (by decide) (by decide), ho10 12 (by decide)]⟩) ?_ I hl
            rw [hq1.2.2, finP_eq hkp, hb10]
            have e0 : fsO u4 = fsO w := by show (u4.1 16 0, u4.2, u4.1 19 0) = (w.1 16 0, w.2, w.1 19 0); rw [ho10 16 (by decide), ho10 19 (by decide), hcs]
            rw [e0]
            show _ = (if (fsO w).1 = 0 then runF u.1 r0 [] (finP u.1 r0 (fsO w) b) else fsO w)
            rw [if_pos h16]
            rfl
    | succ n ihn =>
      intro k b hk0 hkn hbo hob
      have hqk := hq.2.2.2.2 k hk0 (by omega)
      have ht := hV.1 (u.1 7 (3 * r0 + k)) hqk.1.1 hqk.1.2
      have rows : ∀ (m0 : Nat) (row : Int) (w : xSt) (H : Heap) (locs : List Loc) (ls : Array Slot), 0 ≤ row → row + (m0 : Int) = u.1 0 (u.1 7 (3 * r0 + k)) → kpM u w → frB w k b → w.1 11 k = row → w.1 16 0 = 0 → IX D a A s H locs w → lv_has ls 6 [(2, .int (iI k)), (0, .ref a.1), (1, .int (iI r0))] → (∀ (dep : Int) (w2 : xSt) (H2 : Heap) (locs2 : List Loc) (ls2 : Array Slot), (-1 ≤ dep ∧ dep ≤ 3) → (w2.1 16 0 = 0 → dep = k - 1) → kpM u w2 → frK w w2 k → fsO w2 = runF u.1 r0 (rowsL (stepL u.1 (frP u.1) r0 (lvs u.1 (frP u.1) r0 n) k b) m0 row) (fsO w) → IX D a A s H2 locs2 w2 → lv_has ls2 6 [(2, .int (iI dep)), (0, .ref a.1), (1, .int (iI r0))] → W p l e ({ frames := 4, cells := 0, slots := 0, locals := 93 } : Room) s m (Value.ref a.1 :: [.int (iI r0)]).toArray below meth c H2 locs2 0 0 Q (F0 m 35 ls2 [])) → W p l e ({ frames := 4, cells := 0, slots := 0, locals := 93 } : Room) s m (Value.ref a.1 :: [.int (iI r0)]).toArray below meth c H locs 0 0 Q (F0 m 35 ls []) := by
        intro m0
        induction m0 with
        | zero =>
          intro row w H locs ls hw0 hwn hk hfb h11 h16 I hl hcont
          have hR := hk.2.2
          refine lv_iload_n (pc := 35) F.1.1 F.1.2.1 dX0_matchRule_35 rfl (lv_at hl 0 rfl) ?_
          refine xi_zlt (pc := 36) (tgt := 196) F.1 (by omega) dX0_matchRule_36 (by decide) (fun c1 => ?_) (fun c1 => ?_)
          · exfalso; omega
          · refine lv_aload_n (pc := 39) F.1.1 F.1.2.1 dX0_matchRule_39 rfl (lv_at hl 1 rfl) ?_
            refine gX_16 (pc := 40) F I dX0_matchRule_40 (fun v2 hv2 => ?_)
            have rv2 : -1 ≤ v2 ∧ v2 ≤ 127 := by rw [hv2]; exact hR 16 0
            have ev2 : v2 = 0 := by rw [hv2]; exact h16
            refine xi_zne (pc := 43) (tgt := 196) F.1 (by omega) dX0_matchRule_43 (by decide) (fun c3 => ?_) (fun c3 => ?_)
            · exfalso; omega
            · refine lv_aload_n (pc := 46) F.1.1 F.1.2.1 dX0_matchRule_46 rfl (lv_at hl 1 rfl) ?_
              refine lv_iload_n (pc := 47) F.1.1 F.1.2.1 dX0_matchRule_47 rfl (lv_at hl 0 rfl) ?_
              refine caXv (pc := 48) (As := [.int (iI k)]) (rest := []) F I (cX_restore l D a w k (by omega) hk.2.2) (lw_V q152 q154 qs7 q24 q155) hdX_restore ⟨rfl, rfl⟩ ⟨Nat.le_of_ble_eq_true rfl, Nat.le_of_ble_eq_true rfl⟩ hl.1 rfl (Nat.le_of_ble_eq_true rfl) ⟨Nat.zero_le _, Nat.zero_le _⟩ dX0_matchRule_48 (fun u4 H locs hp4 I => ?_)
              have ho10 : ∀ j, j ≠ 10 → u4.1 j = w.1 j := fun j hj => by rw [hp4.1]; exact rs_o _ _ _ hj
              have hb10 : u4.1 10 = b := by rw [hp4.1]; exact rs_b hfb hk hob
              have hkp : ∀ j, kN j → u4.1 j = u.1 j := fun j hj => (ho10 j hj.1).trans (hk.1 j hj)
              have hcs : u4.2 = w.2 := by rw [hp4.1]
              have hR : Rng u4.1 := hp4.2
              refine lv_iload_n (pc := 51) F.1.1 F.1.2.1 dX0_matchRule_51 rfl (lv_at hl 0 rfl) ?_
              refine lv_aload_n (pc := 52) F.1.1 F.1.2.1 dX0_matchRule_52 rfl (lv_at hl 1 rfl) ?_
              refine gX_6 (pc := 53) F I dX0_matchRule_53 ?_
              refine lv_iload_n (pc := 56) F.1.1 F.1.2.1 dX0_matchRule_56 rfl (lv_at hl 2 rfl) ?_
              refine ldX_6 (pc := 57) F I (by omega) dX0_matchRule_57 (fun v5 hv5 => ?_)
              have rv5 : -1 ≤ v5 ∧ v5 ≤ 127 := by rw [hv5]; exact hR 6 _
              have ev5 : v5 = u.1 6 r0 := by rw [hv5, hkp 6 (by decide)]
              refine xi_cne (pc := 58) (tgt := 72) F.1 (by omega) dX0_matchRule_58 (by decide) (fun c6 => ?_) (fun c6 => ?_)
              · refine xi_ic (pc := 72) F.1 dX0_matchRule_72 ?_
                refine lv_iload_n (pc := 73) F.1.1 F.1.2.1 dX0_matchRule_73 rfl (lv_at hl 2 rfl) ?_
                refine xi_imul (pc := 74) F.1 dX0_matchRule_74 ?_
                refine lv_iload_n (pc := 75) F.1.1 F.1.2.1 dX0_matchRule_75 rfl (lv_at hl 0 rfl) ?_
                refine xi_iadd (pc := 76) F.1 dX0_matchRule_76 ?_
                refine xi_top (fun z7 hz7 => ?_)
                refine lv_istore_n (pc := 77) (lv' := [(3, .int (iI z7)), (2, .int (iI k)), (0, .ref a.1), (1, .int (iI r0))]) F.1.1 F.1.2.1 dX0_matchRule_77 rfl hl (by decide) rfl (fun ls hl => ?_)
                refine lv_aload_n (pc := 78) F.1.1 F.1.2.1 dX0_matchRule_78 rfl (lv_at hl 2 rfl) ?_
                refine gX_7 (pc := 79) F I dX0_matchRule_79 ?_
                refine lv_iload_n (pc := 82) F.1.1 F.1.2.1 dX0_matchRule_82 rfl (lv_at hl 0 rfl) ?_
                refine ldX_7 (pc := 83) F I (by omega) dX0_matchRule_83 (fun v8 hv8 => ?_)
                have rv8 : -1 ≤ v8 ∧ v8 ≤ 127 := by rw [hv8]; exact hR 7 _
                have ev8 : v8 = u.1 7 z7 := by rw [hv8, hkp 7 (by decide)]
                have eT : v8 = u.1 7 (3 * r0 + k) := by rw [ev8, hz7]
                refine lv_istore (pc := 84) (lv' := [(4, .int (iI v8)), (3, .int (iI z7)), (2, .int (iI k)), (0, .ref a.1), (1, .int (iI r0))]) F.1.1 F.1.2.1 dX0_matchRule_84 hl (by decide) rfl (fun ls hl => ?_)
                refine lv_aload_n (pc := 86) F.1.1 F.1.2.1 dX0_matchRule_86 rfl (lv_at hl 3 rfl) ?_
                refine gX_11 (pc := 87) F I dX0_matchRule_87 ?_
                refine lv_iload_n (pc := 90) F.1.1 F.1.2.1 dX0_matchRule_90 rfl (lv_at hl 2 rfl) ?_
                refine ldX_11 (pc := 91) F I (by omega) dX0_matchRule_91 (fun v9 hv9 => ?_)
                have rv9 : -1 ≤ v9 ∧ v9 ≤ 127 := by rw [hv9]; exact hR 11 _
                have ev9 : v9 = w.1 11 k := by rw [hv9, ho10 11 (by decide)]
                refine lv_istore (pc := 92) (lv' := [(5, .int (iI v9)), (4, .int (iI v8)), (3, .int (iI z7)), (2, .int (iI k)), (0, .ref a.1), (1, .int (iI r0))]) F.1.1 F.1.2.1 dX0_matchRule_92 hl (by decide) rfl (fun ls hl => ?_)
                refine lv_iload (pc := 94) F.1.1 F.1.2.1 dX0_matchRule_94 (lv_at hl 0 rfl) ?_
                refine lv_aload_n (pc := 96) F.1.1 F.1.2.1 dX0_matchRule_96 rfl (lv_at hl 4 rfl) ?_
                refine gX_0 (pc := 97) F I dX0_matchRule_97 ?_
                refine lv_iload (pc := 100) F.1.1 F.1.2.1 dX0_matchRule_100 (lv_at hl 1 rfl) ?_
                refine ldX_0 (pc := 102) F I (by omega) dX0_matchRule_102 (fun v10 hv10 => ?_)
                have rv10 : -1 ≤ v10 ∧ v10 ≤ 127 := by rw [hv10]; exact hR 0 _
                have ev10 : v10 = u.1 0 v8 := by rw [hv10, hkp 0 (by decide)]
                rw [eT] at ev10
                refine xi_cne (pc := 103) (tgt := 112) F.1 (by omega) dX0_matchRule_103 (by decide) (fun c11 => ?_) (fun c11 => ?_)
                · exfalso; omega
                · refine xi_iinc (pc := 106) (lv' := [(2, .int (iI (k + (-1)))), (5, .int (iI v9)), (4, .int (iI v8)), (3, .int (iI z7)), (0, .ref a.1), (1, .int (iI r0))]) F.1 dX0_matchRule_106 hl (k := 3) rfl (by decide) rfl (fun ls hl => ?_)
                  refine lv_goto (pc := 109) (tgt := 35) F.1.1 F.1.2.1 dX0_matchRule_109 (by decide) ?_
                  refine hcont (k + (-1)) u4 _ _ ls (by omega) (fun _ => by omega) ⟨hkp, fun i hi => by rw [hb10]; exact hob i hi, hR⟩ (fun j j0 j1 => ⟨by rw [ho10 11 (by decide)], fun i i0 i1 => by rw [ho10 12 (by decide)]⟩) ?_ I (lv_sub hl [0, 4, 5] rfl)
                  show (u4.1 16 0, u4.2, u4.1 19 0) = (w.1 16 0, w.2, w.1 19 0)
                  rw [ho10 16 (by decide), ho10 19 (by decide), hcs]
              · exfalso; omega
        | succ m0 ihm =>
          intro row w H locs ls hw0 hwn hk hfb h11 h16 I hl hcont
          have hR := hk.2.2
          have hrow := ht.2.2 row hw0 (by omega)
          have hst : rowsL (stepL u.1 (frP u.1) r0 (lvs u.1 (frP u.1) r0 n) k b) (m0 + 1) row = stepL u.1 (frP u.1) r0 (lvs u.1 (frP u.1) r0 n) k b row ++ rowsL (stepL u.1 (frP u.1) r0 (lvs u.1 (frP u.1) r0 n) k b) m0 (row + 1) := rfl
          refine lv_iload_n (pc := 35) F.1.1 F.1.2.1 dX0_matchRule_35 rfl (lv_at hl 0 rfl) ?_
          refine xi_zlt (pc := 36) (tgt := 196) F.1 (by omega) dX0_matchRule_36 (by decide) (fun c1 => ?_) (fun c1 => ?_)
          · exfalso; omega
          · refine lv_aload_n (pc := 39) F.1.1 F.1.2.1 dX0_matchRule_39 rfl (lv_at hl 1 rfl) ?_
            refine gX_16 (pc := 40) F I dX0_matchRule_40 (fun v2 hv2 => ?_)
            have rv2 : -1 ≤ v2 ∧ v2 ≤ 127 := by rw [hv2]; exact hR 16 0
            have ev2 : v2 = 0 := by rw [hv2]; exact h16
            refine xi_zne (pc := 43) (tgt := 196) F.1 (by omega) dX0_matchRule_43 (by decide) (fun c3 => ?_) (fun c3 => ?_)
            · exfalso; omega
            · refine lv_aload_n (pc := 46) F.1.1 F.1.2.1 dX0_matchRule_46 rfl (lv_at hl 1 rfl) ?_
              refine lv_iload_n (pc := 47) F.1.1 F.1.2.1 dX0_matchRule_47 rfl (lv_at hl 0 rfl) ?_
              refine caXv (pc := 48) (As := [.int (iI k)]) (rest := []) F I (cX_restore l D a w k (by omega) hk.2.2) (lw_V q152 q154 qs7 q24 q155) hdX_restore ⟨rfl, rfl⟩ ⟨Nat.le_of_ble_eq_true rfl, Nat.le_of_ble_eq_true rfl⟩ hl.1 rfl (Nat.le_of_ble_eq_true rfl) ⟨Nat.zero_le _, Nat.zero_le _⟩ dX0_matchRule_48 (fun u4 H locs hp4 I => ?_)
              have ho10 : ∀ j, j ≠ 10 → u4.1 j = w.1 j := fun j hj => by rw [hp4.1]; exact rs_o _ _ _ hj
              have hb10 : u4.1 10 = b := by rw [hp4.1]; exact rs_b hfb hk hob
              have hkp : ∀ j, kN j → u4.1 j = u.1 j := fun j hj => (ho10 j hj.1).trans (hk.1 j hj)
              have hcs : u4.2 = w.2 := by rw [hp4.1]
              have hR : Rng u4.1 := hp4.2
              refine lv_iload_n (pc := 51) F.1.1 F.1.2.1 dX0_matchRule_51 rfl (lv_at hl 0 rfl) ?_
              refine lv_aload_n (pc := 52) F.1.1 F.1.2.1 dX0_matchRule_52 rfl (lv_at hl 1 rfl) ?_
              refine gX_6 (pc := 53) F I dX0_matchRule_53 ?_
              refine lv_iload_n (pc := 56) F.1.1 F.1.2.1 dX0_matchRule_56 rfl (lv_at hl 2 rfl) ?_
              refine ldX_6 (pc := 57) F I (by omega) dX0_matchRule_57 (fun v5 hv5 => ?_)
              have rv5 : -1 ≤ v5 ∧ v5 ≤ 127 := by rw [hv5]; exact hR 6 _
              have ev5 : v5 = u.1 6 r0 := by rw [hv5, hkp 6 (by decide)]
              refine xi_cne (pc := 58) (tgt := 72) F.1 (by omega) dX0_matchRule_58 (by decide) (fun c6 => ?_) (fun c6 => ?_)
              · refine xi_ic (pc := 72) F.1 dX0_matchRule_72 ?_
                refine lv_iload_n (pc := 73) F.1.1 F.1.2.1 dX0_matchRule_73 rfl (lv_at hl 2 rfl) ?_
                refine xi_imul (pc := 74) F.1 dX0_matchRule_74 ?_
                refine lv_iload_n (pc := 75) F.1.1 F.1.2.1 dX0_matchRule_75 rfl (lv_at hl 0 rfl) ?_
                refine xi_iadd (pc := 76) F.1 dX0_matchRule_76 ?_
                refine xi_top (fun z7 hz7 => ?_)
                refine lv_istore_n (pc := 77) (lv' := [(3, .int (iI z7)), (2, .int (iI k)), (0, .ref a.1), (1, .int (iI r0))]) F.1.1 F.1.2.1 dX0_matchRule_77 rfl hl (by decide) rfl (fun ls hl => ?_)
                refine lv_aload_n (pc := 78) F.1.1 F.1.2.1 dX0_matchRule_78 rfl (lv_at hl 2 rfl) ?_
                refine gX_7 (pc := 79) F I dX0_matchRule_79 ?_
                refine lv_iload_n (pc := 82) F.1.1 F.1.2.1 dX0_matchRule_82 rfl (lv_at hl 0 rfl) ?_
                refine ldX_7 (pc := 83) F I (by omega) dX0_matchRule_83 (fun v8 hv8 => ?_)
                have rv8 : -1 ≤ v8 ∧ v8 ≤ 127 := by rw [hv8]; exact hR 7 _
                have ev8 : v8 = u.1 7 z7 := by rw [hv8, hkp 7 (by decide)]
                have eT : v8 = u.1 7 (3 * r0 + k) := by rw [ev8, hz7]
                refine lv_istore (pc := 84) (lv' := [(4, .int (iI v8)), (3, .int (iI z7)), (2, .int (iI k)), (0, .ref a.1), (1, .int (iI r0))]) F.1.1 F.1.2.1 dX0_matchRule_84 hl (by decide) rfl (fun ls hl => ?_)
                refine lv_aload_n (pc := 86) F.1.1 F.1.2.1 dX0_matchRule_86 rfl (lv_at hl 3 rfl) ?_
                refine gX_11 (pc := 87) F I dX0_matchRule_87 ?_
                refine lv_iload_n (pc := 90) F.1.1 F.1.2.1 dX0_matchRule_90 rfl (lv_at hl 2 rfl) ?_
                refine ldX_11 (pc := 91) F I (by omega) dX0_matchRule_91 (fun v9 hv9 => ?_)
                have rv9 : -1 ≤ v9 ∧ v9 ≤ 127 := by rw [hv9]; exact hR 11 _
                have ev9 : v9 = row := by rw [hv9, ho10 11 (by decide), h11]
                refine lv_istore (pc := 92) (lv' := [(5, .int (iI v9)), (4, .int (iI v8)), (3, .int (iI z7)), (2, .int (iI k)), (0, .ref a.1), (1, .int (iI r0))]) F.1.1 F.1.2.1 dX0_matchRule_92 hl (by decide) rfl (fun ls hl => ?_)
                refine lv_iload (pc := 94) F.1.1 F.1.2.1 dX0_matchRule_94 (lv_at hl 0 rfl) ?_
                refine lv_aload_n (pc := 96) F.1.1 F.1.2.1 dX0_matchRule_96 rfl (lv_at hl 4 rfl) ?_
                refine gX_0 (pc := 97) F I dX0_matchRule_97 ?_
                refine lv_iload (pc := 100) F.1.1 F.1.2.1 dX0_matchRule_100 (lv_at hl 1 rfl) ?_
                refine ldX_0 (pc := 102) F I (by omega) dX0_matchRule_102 (fun v10 hv10 => ?_)
                have rv10 : -1 ≤ v10 ∧ v10 ≤ 127 := by rw [hv10]; exact hR 0 _
                have ev10 : v10 = u.1 0 v8 := by rw [hv10, hkp 0 (by decide)]
                rw [eT] at ev10
                refine xi_cne (pc := 103) (tgt := 112) F.1 (by omega) dX0_matchRule_103 (by decide) (fun c11 => ?_) (fun c11 => ?_)
                · refine lv_aload_n (pc := 112) F.1.1 F.1.2.1 dX0_matchRule_112 rfl (lv_at hl 4 rfl) ?_
                  refine gX_11 (pc := 113) F I dX0_matchRule_113 ?_
                  refine lv_iload_n (pc := 116) F.1.1 F.1.2.1 dX0_matchRule_116 rfl (lv_at hl 3 rfl) ?_
                  refine lv_dup2_11 (pc := 117) F.1.1 F.1.2.1 dX0_matchRule_117 rfl rfl ?_
                  refine ldX_11 (pc := 118) F I (by omega) dX0_matchRule_118 (fun v12 hv12 => ?_)
                  have rv12 : -1 ≤ v12 ∧ v12 ≤ 127 := by rw [hv12]; exact hR 11 _
                  have ev12 : v12 = row := by rw [hv12, ho10 11 (by decide), h11]
                  refine xi_ic (pc := 119) F.1 dX0_matchRule_119 ?_
                  refine xi_iadd (pc := 120) F.1 dX0_matchRule_120 ?_
                  refine xi_i2b (pc := 121) F.1 (by omega) dX0_matchRule_121 ?_
                  refine stX_11 (pc := 122) F I (by omega) (by omega) dX0_matchRule_122 (fun u13 H locs hu13 I => ?_)
                  have hR : Rng u13.1 := by rw [hu13]; exact Rng_up hR (by omega)
                  have q11 : ∀ j, u13.1 11 j = if j = k then row + 1 else w.1 11 j := fun j => by
                    rw [hu13]; show up u4.1 11 k (v12 + 1) 11 j = _; unfold up; rw [ev12, ho10 11 (by decide)]; by_cases hj : j = k
                    · rw [if_pos ⟨rfl, hj⟩, if_pos hj]
                    · rw [if_neg (fun q => hj q.2), if_neg hj]
                  have ho11 : ∀ j, j ≠ 10 → j ≠ 11 → u13.1 j = w.1 j := fun j hj hj2 => by rw [hu13]; exact (up_o _ _ _ hj2).trans (ho10 j hj)
                  have hb11 : u13.1 10 = b := by rw [hu13]; exact hb10
                  have hkp : ∀ j, kN j → u13.1 j = u.1 j := fun j hj => (ho11 j hj.1 hj.2.1).trans (hk.1 j hj)
                  have hcs : u13.2 = w.2 := by rw [hu13]; exact hcs
                  refine lv_aload_n (pc := 123) F.1.1 F.1.2.1 dX0_matchRule_123 rfl (lv_at hl 4 rfl) ?_
                  refine lv_aload_n (pc := 124) F.1.1 F.1.2.1 dX0_matchRule_124 rfl (lv_at hl 4 rfl) ?_
                  refine gX_8 (pc := 125) F I dX0_matchRule_125 ?_
                  refine lv_iload_n (pc := 128) F.1.1 F.1.2.1 dX0_matchRule_128 rfl (lv_at hl 2 rfl) ?_
                  refine ldX_8 (pc := 129) F I (by omega) dX0_matchRule_129 (fun v14 hv14 => ?_)
                  have rv14 : -1 ≤ v14 ∧ v14 ≤ 127 := by rw [hv14]; exact hR 8 _
                  have ev14 : v14 = u.1 8 z7 := by rw [hv14, hkp 8 (by decide)]
                  refine lv_aload_n (pc := 130) F.1.1 F.1.2.1 dX0_matchRule_130 rfl (lv_at hl 4 rfl) ?_
                  refine gX_1 (pc := 131) F I dX0_matchRule_131 ?_
                  refine xi_ic (pc := 134) F.1 dX0_matchRule_134 ?_
                  refine lv_iload (pc := 135) F.1.1 F.1.2.1 dX0_matchRule_135 (lv_at hl 1 rfl) ?_
                  refine xi_imul (pc := 137) F.1 dX0_matchRule_137 ?_
                  refine lv_iload (pc := 138) F.1.1 F.1.2.1 dX0_matchRule_138 (lv_at hl 0 rfl) ?_
                  refine xi_iadd (pc := 140) F.1 dX0_matchRule_140 ?_
                  refine ldX_1 (pc := 141) F I (by omega) dX0_matchRule_141 (fun v15 hv15 => ?_)
                  have rv15 : -1 ≤ v15 ∧ v15 ≤ 127 := by rw [hv15]; exact hR 1 _
                  have ev15 : v15 = u.1 1 ((5 * v8) + v9) := by rw [hv15, hkp 1 (by decide)]
                  have X1 : v14 = u.1 8 (3 * r0 + k) := by rw [ev14, hz7]
                  have Y1 : v15 = u.1 1 (5 * u.1 7 (3 * r0 + k) + row) := by rw [ev15, eT, ev9]
                  refine caXi (pc := 142) (As := [.int (iI v14), .int (iI v15)]) (rest := []) F I (cX_unify l D a u13 v14 v15 (by rw [X1]; exact isT_cod hqk.2.1) (by rw [Y1]; exact isV_cod hrow.1) (by rw [hb11]; exact hbo) hR) (lw_V q160 q162 qs9 q24 q163) hdX_unify ⟨rfl, rfl⟩ ⟨Nat.le_of_ble_eq_true rfl, Nat.le_of_ble_eq_true rfl⟩ hl.1 rfl (Nat.le_of_ble_eq_true rfl) ⟨Nat.zero_le _, Nat.zero_le _⟩ dX0_matchRule_142 (fun r17 u16 H locs hp17 I => ?_)
                  rw [X1, Y1] at hp17
                  obtain ⟨hR, hs1, hsc1, hbk1, hso1⟩ := uni_all (isT_cod hqk.2.1) (isV_cod hrow.1) (by rw [hb11]; exact hbo) hR hp17
                  have rr17 : 0 ≤ r17 ∧ r17 ≤ 1 := by omega
                  rw [frP_eq hkp, hb11] at hp17
                  have q11 : ∀ j, u16.1 11 j = if j = k then row + 1 else w.1 11 j := fun j => by rw [hs1 11 (by decide)]; exact q11 j
                  have ho11 : ∀ j, j ≠ 10 → j ≠ 11 → u16.1 j = w.1 j := fun j hj hj2 => (hs1 j hj).trans (ho11 j hj hj2)
                  have hkp : ∀ j, kN j → u16.1 j = u.1 j := fun j hj => (ho11 j hj.1 hj.2.1).trans (hk.1 j hj)
                  have hcs : u16.2 = w.2 := hsc1.trans hcs
                  have hoo : ∀ i, ¬ (0 ≤ i ∧ i < 7) → u16.1 10 i = u.1 10 i := fun i hi => (hso1 i hi).trans (by rw [hb11]; exact hob i hi)
                  refine xi_zeq (pc := 145) (tgt := 193) F.1 (by omega) dX0_matchRule_145 (by decide) (fun c18 => ?_) (fun c18 => ?_)
                  · refine lv_goto (pc := 193) (tgt := 35) F.1.1 F.1.2.1 dX0_matchRule_193 (by decide) ?_
                    have e0 : fsO u16 = fsO w := by show (u16.1 16 0, u16.2, u16.1 19 0) = (w.1 16 0, w.2, w.1 19 0); rw [ho11 16 (by decide) (by decide), ho11 19 (by decide) (by decide), hcs]
                    have hno : stepL u.1 (frP u.1) r0 (lvs u.1 (frP u.1) r0 n) k b row = [] := by unfold stepL; rw [hp17.elim (fun z => absurd z.1 (by omega)) (fun z => z.2.1)]
                    refine ihm (row + 1) u16 _ _ ls (by omega) (by omega) ⟨hkp, hoo, hR⟩ (fun i i0 i1 => by rw [ho11 12 (by decide) (by decide)]; exact hfb i i0 i1) (by rw [q11 k, if_pos rfl]) (by rw [ho11 16 (by decide) (by decide)]; exact h16) I (lv_sub hl [3, 4, 5] rfl) (fun dep w2 H2 locs2 ls2 hd1 hd2 hd3 hd4 hd5 I2 hl2 => ?_)
                    refine hcont dep w2 H2 locs2 ls2 hd1 hd2 hd3 (fun j j0 j1 => ⟨(hd4 j j0 j1).1.trans (by rw [q11 j, if_neg (by omega)]), fun i i0 i1 => ((hd4 j j0 j1).2 i i0 i1).trans (by rw [ho11 12 (by decide) (by decide)])⟩) ?_ I2 hl2
                    rw [hd5, e0, hst, hno]
                    rfl
                  · refine lv_aload_n (pc := 148) F.1.1 F.1.2.1 dX0_matchRule_148 rfl (lv_at hl 4 rfl) ?_
                    refine lv_aload_n (pc := 149) F.1.1 F.1.2.1 dX0_matchRule_149 rfl (lv_at hl 4 rfl) ?_
                    refine gX_9 (pc := 150) F I dX0_matchRule_150 ?_
                    refine lv_iload_n (pc := 153) F.1.1 F.1.2.1 dX0_matchRule_153 rfl (lv_at hl 2 rfl) ?_
                    refine ldX_9 (pc := 154) F I (by omega) dX0_matchRule_154 (fun v19 hv19 => ?_)
                    have rv19 : -1 ≤ v19 ∧ v19 ≤ 127 := by rw [hv19]; exact hR 9 _
                    have ev19 : v19 = u.1 9 z7 := by rw [hv19, hkp 9 (by decide)]
                    refine lv_aload_n (pc := 155) F.1.1 F.1.2.1 dX0_matchRule_155 rfl (lv_at hl 4 rfl) ?_
                    refine gX_2 (pc := 156) F I dX0_matchRule_156 ?_
                    refine xi_ic (pc := 159) F.1 dX0_matchRule_159 ?_
                    refine lv_iload (pc := 160) F.1.1 F.1.2.1 dX0_matchRule_160 (lv_at hl 1 rfl) ?_
                    refine xi_imul (pc := 162) F.1 dX0_matchRule_162 ?_
                    refine lv_iload (pc := 163) F.1.1 F.1.2.1 dX0_matchRule_163 (lv_at hl 0 rfl) ?_
                    refine xi_iadd (pc := 165) F.1 dX0_matchRule_165 ?_
                    refine ldX_2 (pc := 166) F I (by omega) dX0_matchRule_166 (fun v20 hv20 => ?_)
                    have rv20 : -1 ≤ v20 ∧ v20 ≤ 127 := by rw [hv20]; exact hR 2 _
                    have ev20 : v20 = u.1 2 ((5 * v8) + v9) := by rw [hv20, hkp 2 (by decide)]
                    have X2 : v19 = u.1 9 (3 * r0 + k) := by rw [ev19, hz7]
                    have Y2 : v20 = u.1 2 (5 * u.1 7 (3 * r0 + k) + row) := by rw [ev20, eT, ev9]
                    refine caXi (pc := 167) (As := [.int (iI v19), .int (iI v20)]) (rest := []) F I (cX_unify l D a u16 v19 v20 (by rw [X2]; exact isT_cod hqk.2.2) (by rw [Y2]; exact isV_cod hrow.2) hbk1 hR) (lw_V q160 q162 qs9 q24 q163) hdX_unify ⟨rfl, rfl⟩ ⟨Nat.le_of_ble_eq_true rfl, Nat.le_of_ble_eq_true rfl⟩ hl.1 rfl (Nat.le_of_ble_eq_true rfl) ⟨Nat.zero_le _, Nat.zero_le _⟩ dX0_matchRule_167 (fun r22 u21 H locs hp22 I => ?_)
                    rw [X2, Y2] at hp22
                    obtain ⟨hR, hs2, hsc2, hbk2, hso2⟩ := uni_all (isT_cod hqk.2.2) (isV_cod hrow.2) hbk1 hR hp22
                    have rr22 : 0 ≤ r22 ∧ r22 ≤ 1 := by omega
                    rw [frP_eq hkp] at hp22
                    have q11 : ∀ j, u21.1 11 j = if j = k then row + 1 else w.1 11 j := fun j => by rw [hs2 11 (by decide)]; exact q11 j
                    have ho11 : ∀ j, j ≠ 10 → j ≠ 11 → u21.1 j = w.1 j := fun j hj hj2 => (hs2 j hj).trans (ho11 j hj hj2)
                    have hkp : ∀ j, kN j → u21.1 j = u.1 j := fun j hj => (ho11 j hj.1 hj.2.1).trans (hk.1 j hj)
                    have hcs : u21.2 = w.2 := hsc2.trans hcs
                    have hoo : ∀ i, ¬ (0 ≤ i ∧ i < 7) → u21.1 10 i = u.1 10 i := fun i hi => (hso2 i hi).trans (hoo i hi)
                    refine xi_zeq (pc := 170) (tgt := 193) F.1 (by omega) dX0_matchRule_170 (by decide) (fun c23 => ?_) (fun c23 => ?_)
                    · refine lv_goto (pc := 193) (tgt := 35) F.1.1 F.1.2.1 dX0_matchRule_193 (by decide) ?_
                      have e0 : fsO u21 = fsO w := by show (u21.1 16 0, u21.2, u21.1 19 0) = (w.1 16 0, w.2, w.1 19 0); rw [ho11 16 (by decide) (by decide), ho11 19 (by decide) (by decide), hcs]
                      have hno : stepL u.1 (frP u.1) r0 (lvs u.1 (frP u.1) r0 n) k b row = [] := by unfold stepL; rw [hp17.elim (fun z => z.2.1) (fun z => absurd z.1 (by omega))]; dsimp only; rw [hp22.elim (fun z => absurd z.1 (by omega)) (fun z => z.2.1)]
                      refine ihm (row + 1) u21 _ _ ls (by omega) (by omega) ⟨hkp, hoo, hR⟩ (fun i i0 i1 => by rw [ho11 12 (by decide) (by decide)]; exact hfb i i0 i1) (by rw [q11 k, if_pos rfl]) (by rw [ho11 16 (by decide) (by decide)]; exact h16) I (lv_sub hl [3, 4, 5] rfl) (fun dep w2 H2 locs2 ls2 hd1 hd2 hd3 hd4 hd5 I2 hl2 => ?_)
                      refine hcont dep w2 H2 locs2 ls2 hd1 hd2 hd3 (fun j j0 j1 => ⟨(hd4 j j0 j1).1.trans (by rw [q11 j, if_neg (by omega)]), fun i i0 i1 => ((hd4 j j0 j1).2 i i0 i1).trans (by rw [ho11 12 (by decide) (by decide)])⟩) ?_ I2 hl2
                      rw [hd5, e0, hst, hno]
                      rfl
                    · refine xi_iinc (pc := 173) (lv' := [(2, .int (iI (k + 1))), (5, .int (iI v9)), (4, .int (iI v8)), (3, .int (iI z7)), (0, .ref a.1), (1, .int (iI r0))]) F.1 dX0_matchRule_173 hl (k := 3) rfl (by decide) rfl (fun ls hl => ?_)
                      refine lv_aload_n (pc := 176) F.1.1 F.1.2.1 dX0_matchRule_176 rfl (lv_at hl 4 rfl) ?_
                      refine lv_iload_n (pc := 177) F.1.1 F.1.2.1 dX0_matchRule_177 rfl (lv_at hl 0 rfl) ?_
                      refine caXv (pc := 178) (As := [.int (iI (k + 1))]) (rest := []) F I (cX_save l D a u21 (k + 1) (by omega) hR) (lw_V q148 q150 qs6 q24 q151) hdX_save ⟨rfl, rfl⟩ ⟨Nat.le_of_ble_eq_true rfl, Nat.le_of_ble_eq_true rfl⟩ hl.1 rfl (Nat.le_of_ble_eq_true rfl) ⟨Nat.zero_le _, Nat.zero_le _⟩ dX0_matchRule_178 (fun u24 H locs hp24 I => ?_)
                      have hR : Rng u24.1 := hp24.2
                      have q11 : ∀ j, u24.1 11 j = if j = k then row + 1 else w.1 11 j := fun j => by rw [hp24.1]; show svL u21.1 (k + 1) 7 11 j = _; rw [sv_o _ _ _ (by decide)]; exact q11 j
                      have ho12 : ∀ j, j ≠ 10 → j ≠ 11 → j ≠ 12 → u24.1 j = w.1 j := fun j hj hj2 hj3 => by rw [hp24.1]; exact (sv_o _ _ _ hj3).trans (ho11 j hj hj2)
                      have hkp : ∀ j, kN j → u24.1 j = u.1 j := fun j hj => (ho12 j hj.1 hj.2.1 hj.2.2.1).trans (hk.1 j hj)
                      have hs12 : ∀ j, j < 7 * (k + 1) → u24.1 12 j = w.1 12 j := fun j hj => by rw [hp24.1]; exact (sv_lo _ _ hj).trans (by rw [ho11 12 (by decide) (by decide)])
                      have hsb : frB u24 (k + 1) (u21.1 10) := fun i i0 i1 => by rw [hp24.1]; exact sv_in _ _ i0 i1
                      have hb12 : u24.1 10 = u21.1 10 := by rw [hp24.1]; rfl
                      have hcs : u24.2 = w.2 := by rw [hp24.1]; exact hcs
                      refine lv_iload_n (pc := 181) F.1.1 F.1.2.1 dX0_matchRule_181 rfl (lv_at hl 0 rfl) ?_
                      refine xi_ic (pc := 182) F.1 dX0_matchRule_182 ?_
                      refine xi_cge (pc := 183) (tgt := 193) F.1 (by omega) dX0_matchRule_183 (by decide) (fun c25 => ?_) (fun c25 => ?_)
                      · exfalso; omega
                      · refine lv_aload_n (pc := 186) F.1.1 F.1.2.1 dX0_matchRule_186 rfl (lv_at hl 4 rfl) ?_
                        refine gX_11 (pc := 187) F I dX0_matchRule_187 ?_
                        refine lv_iload_n (pc := 190) F.1.1 F.1.2.1 dX0_matchRule_190 rfl (lv_at hl 0 rfl) ?_
                        refine xi_ic (pc := 191) F.1 dX0_matchRule_191 ?_
                        refine stX_11 (pc := 192) F I (by omega) (by omega) dX0_matchRule_192 (fun u26 H locs hu26 I => ?_)
                        have hR : Rng u26.1 := by rw [hu26]; exact Rng_up hR (by omega)
                        refine lv_goto (pc := 193) (tgt := 35) F.1.1 F.1.2.1 dX0_matchRule_193 (by decide) ?_
                        have g11 : ∀ j, j ≠ k + 1 → u26.1 11 j = if j = k then row + 1 else w.1 11 j := fun j hj => by rw [hu26]; exact (up_i hj).trans (q11 j)
                        have go : ∀ j, j ≠ 11 → u26.1 j = u24.1 j := fun j hj => by rw [hu26]; exact up_o _ _ _ hj
                        have hkp : ∀ j, kN j → u26.1 j = u.1 j := fun j hj => (go j hj.2.1).trans (hkp j hj)
                        have e0 : fsO u26 = fsO w := by show (u26.1 16 0, u26.2, u26.1 19 0) = (w.1 16 0, w.2, w.1 19 0); rw [go 16 (by decide), go 19 (by decide), ho12 16 (by decide) (by decide) (by decide), ho12 19 (by decide) (by decide) (by decide), hu26, ← hcs]
                        have hyes : stepL u.1 (frP u.1) r0 (lvs u.1 (frP u.1) r0 n) k b row = lvs u.1 (frP u.1) r0 n (k + 1) (u21.1 10) := by unfold stepL; rw [hp17.elim (fun z => z.2.1) (fun z => absurd z.1 (by omega))]; dsimp only; rw [hp22.elim (fun z => z.2.1) (fun z => absurd z.1 (by omega))]
                        have hkp2 : kpM u u26 := ⟨hkp, fun i hi => by rw [go 10 (by decide), hb12]; exact hoo i hi, hR⟩
                        refine ihn (k + 1) (u21.1 10) (by omega) (by omega) hbk2 hoo u26 _ _ ls hkp2 (fun i i0 i1 => by rw [go 12 (by decide)]; exact hsb i i0 i1) (by rw [hu26]; exact up_s) (by rw [go 16 (by decide), ho12 16 (by decide) (by decide) (by decide)]; exact h16) I (lv_sub hl [0, 4, 5] rfl) (fun dep w2 H2 locs2 ls2 hd1 hd2 hd3 hd4 hd5 I2 hl2 => ?_)
                        have f1 : frK w w2 k := fun j j0 j1 => ⟨((hd4 j j0 (by omega)).1).trans ((g11 j (by omega)).trans (if_neg (by omega))), fun i i0 i1 => ((hd4 j j0 (by omega)).2 i i0 i1).trans (by rw [go 12 (by decide)]; exact hs12 _ (by omega))⟩
                        by_cases hgm2 : w2.1 16 0 = 0
                        · have hdk : dep = k := by have := hd2 hgm2; omega
                          subst hdk
                          refine ihm (row + 1) w2 H2 locs2 ls2 (by omega) (by omega) hd3 (fun i i0 i1 => ((hd4 dep hk0 (by omega)).2 i i0 i1).trans (by rw [go 12 (by decide), hs12 _ (by omega)]; exact hfb i i0 i1)) ((hd4 dep hk0 (by omega)).1.trans ((g11 dep (by omega)).trans (if_pos rfl))) hgm2 I2 hl2 (fun dep3 w3 H3 locs3 ls3 a1 a2 a3 a4 a5 I3 hl3 => ?_)
                          refine hcont dep3 w3 H3 locs3 ls3 a1 a2 a3 (frK_tr (Int.le_refl _) f1 a4) ?_ I3 hl3
                          rw [a5, hd5, e0, hst, hyes, runF_app]
                        · refine hcont dep w2 H2 locs2 ls2 hd1 (fun q => absurd q hgm2) hd3 f1 ?_ I2 hl2
                          rw [hst, hyes, runF_app, ← e0, ← hd5, runF_stop _ _ hgm2]
                · exfalso; omega
              · exfalso; omega
      intro w H locs ls hk hfb h11 h16 I hl hcont
      refine rows (u.1 0 (u.1 7 (3 * r0 + k))).toNat 0 w H locs ls (by omega) (by omega) hk hfb h11 h16 I hl hcont
  have start : ∀ (n : Nat) (i : Int) (w : xSt) (H : Heap) (locs : List Loc) (ls : Array Slot), 0 ≤ i → i + n = 7 → (∀ k, k ≠ 10 → w.1 k = u.1 k) → (∀ j, w.1 10 j = if 0 ≤ j ∧ j < i then -1 else u.1 10 j) → w.2 = u.2 → Rng w.1 → IX D a A s H locs w → lv_has ls 6 [(2, .int (iI i)), (0, .ref a.1), (1, .int (iI r0))] → W p l e ({ frames := 4, cells := 0, slots := 0, locals := 93 } : Room) s m (Value.ref a.1 :: [.int (iI r0)]).toArray below meth c H locs 0 0 Q (F0 m 2 ls []) := by
    intro n
    induction n with
    | zero =>
      intro i w H locs ls h0 hn hw1 hw2 hw3 hR I hl
      have hi7 : i = 7 := by omega
      subst hi7
      refine lv_iload_n (pc := 2) F.1.1 F.1.2.1 dX0_matchRule_2 rfl (lv_at hl 0 rfl) ?_
      refine xi_bp (pc := 3) F.1 dX0_matchRule_3 (by decide) ?_
      refine xi_cge (pc := 5) (tgt := 21) F.1 (by omega) dX0_matchRule_5 (by decide) (fun c1 => ?_) (fun c1 => ?_)
      · refine xi_ic (pc := 21) F.1 dX0_matchRule_21 ?_
        refine lv_istore_n (pc := 22) (lv' := [(2, .int (iI 0)), (0, .ref a.1), (1, .int (iI r0))]) F.1.1 F.1.2.1 dX0_matchRule_22 rfl hl (by decide) rfl (fun ls hl => ?_)
        refine lv_aload_n (pc := 23) F.1.1 F.1.2.1 dX0_matchRule_23 rfl (lv_at hl 1 rfl) ?_
        refine xi_ic (pc := 24) F.1 dX0_matchRule_24 ?_
        refine caXv (pc := 25) (As := [.int (iI 0)]) (rest := []) F I (cX_save l D a w 0 (by omega) hR) (lw_V q148 q150 qs6 q24 q151) hdX_save ⟨rfl, rfl⟩ ⟨Nat.le_of_ble_eq_true rfl, Nat.le_of_ble_eq_true rfl⟩ hl.1 rfl (Nat.le_of_ble_eq_true rfl) ⟨Nat.zero_le _, Nat.zero_le _⟩ dX0_matchRule_25 (fun u2 H locs hp2 I => ?_)
        have hR : Rng u2.1 := hp2.2
        refine lv_aload_n (pc := 28) F.1.1 F.1.2.1 dX0_matchRule_28 rfl (lv_at hl 1 rfl) ?_
        refine gX_11 (pc := 29) F I dX0_matchRule_29 ?_
        refine xi_ic (pc := 32) F.1 dX0_matchRule_32 ?_
        refine xi_ic (pc := 33) F.1 dX0_matchRule_33 ?_
        refine stX_11 (pc := 34) F I (by omega) (by omega) dX0_matchRule_34 (fun u3 H locs hu3 I => ?_)
        have hR : Rng u3.1 := by rw [hu3]; exact Rng_up hR (by omega)
        have go : ∀ j, j ≠ 11 → u3.1 j = u2.1 j := fun j hj => by rw [hu3]; exact up_o _ _ _ hj
        have gs : ∀ j, j ≠ 12 → u2.1 j = w.1 j := fun j hj => by rw [hp2.1]; exact sv_o _ _ _ hj
        have hkp : ∀ j, kN j → u3.1 j = u.1 j := fun j hj => (go j hj.2.1).trans ((gs j hj.2.2.1).trans (hw1 j hj.1))
        have hb0 : u3.1 10 = (fun i => if 0 ≤ i ∧ i < 7 then -1 else u.1 10 i) := by funext j; rw [go 10 (by decide), gs 10 (by decide)]; exact hw2 j
        have e0 : fsO u3 = fsO u := by show (u3.1 16 0, u3.2, u3.1 19 0) = (u.1 16 0, u.2, u.1 19 0); rw [go 16 (by decide), go 19 (by decide), gs 16 (by decide), gs 19 (by decide), hw1 16 (by decide), hw1 19 (by decide), hu3, hp2.1, ← hw3]
        have hkM : kpM u u3 := ⟨hkp, fun i hi => by rw [hb0]; exact if_neg hi, hR⟩
        refine main (u.1 6 r0).toNat 0 (fun i => if 0 ≤ i ∧ i < 7 then -1 else u.1 10 i) (by omega) (by omega) (fun i i0 i1 => by dsimp only; rw [if_pos ⟨i0, i1⟩]; exact Or.inl (by decide)) (fun i hi => if_neg hi) u3 _ _ ls hkM (fun i i0 i1 => ?_) (by rw [hu3]; rfl) (by rw [go 16 (by decide), gs 16 (by decide), hw1 16 (by decide)]; exact hgm) I hl (fun dep w2 H2 locs2 ls2 hd1 hd2 hd3 hd4 hd5 I2 hl2 => ?_)
        · rw [go 12 (by decide), hp2.1]; exact (sv_in _ _ i0 i1).trans (hw2 i)
        · rw [e0] at hd5
          have hR := hd3.2.2
          refine lv_iload_n (pc := 35) F.1.1 F.1.2.1 dX0_matchRule_35 rfl (lv_at hl2 0 rfl) ?_
          refine xi_zlt (pc := 36) (tgt := 196) F.1 (by omega) dX0_matchRule_36 (by decide) (fun c1 => ?_) (fun c1 => ?_)
          · exact hret w2 _ _ (⟨hd3, hd5⟩) I2 _ _ dX0_matchRule_196
          · refine lv_aload_n (pc := 39) F.1.1 F.1.2.1 dX0_matchRule_39 rfl (lv_at hl2 1 rfl) ?_
            refine gX_16 (pc := 40) F I2 dX0_matchRule_40 (fun v2 hv2 => ?_)
            have rv2 : -1 ≤ v2 ∧ v2 ≤ 127 := by rw [hv2]; exact hR 16 0
            refine xi_zne (pc := 43) (tgt := 196) F.1 (by omega) dX0_matchRule_43 (by decide) (fun c3 => ?_) (fun c3 => ?_)
            · exact hret w2 _ _ (⟨hd3, hd5⟩) I2 _ _ dX0_matchRule_196
            · exfalso; have := hd2 (by omega); omega
      · exfalso; omega
    | succ n ih =>
      intro i w H locs ls h0 hn hw1 hw2 hw3 hR I hl
      refine lv_iload_n (pc := 2) F.1.1 F.1.2.1 dX0_matchRule_2 rfl (lv_at hl 0 rfl) ?_
      refine xi_bp (pc := 3) F.1 dX0_matchRule_3 (by decide) ?_
      refine xi_cge (pc := 5) (tgt := 21) F.1 (by omega) dX0_matchRule_5 (by decide) (fun c1 => ?_) (fun c1 => ?_)
      · exfalso; omega
      · refine lv_aload_n (pc := 8) F.1.1 F.1.2.1 dX0_matchRule_8 rfl (lv_at hl 1 rfl) ?_
        refine gX_10 (pc := 9) F I dX0_matchRule_9 ?_
        refine lv_iload_n (pc := 12) F.1.1 F.1.2.1 dX0_matchRule_12 rfl (lv_at hl 0 rfl) ?_
        refine xi_ic (pc := 13) F.1 dX0_matchRule_13 ?_
        refine stX_10 (pc := 14) F I (by omega) (by omega) dX0_matchRule_14 (fun u2 H locs hu2 I => ?_)
        have hR : Rng u2.1 := by rw [hu2]; exact Rng_up hR (by omega)
        refine xi_iinc (pc := 15) (lv' := [(2, .int (iI (i + 1))), (0, .ref a.1), (1, .int (iI r0))]) F.1 dX0_matchRule_15 hl (k := 0) rfl (by decide) rfl (fun ls hl => ?_)
        refine lv_goto (pc := 18) (tgt := 2) F.1.1 F.1.2.1 dX0_matchRule_18 (by decide) ?_
        refine ih (i + 1) u2 _ _ ls (by omega) (by omega) (fun k hk => by rw [hu2]; exact (up_o _ _ _ hk).trans (hw1 k hk)) (fun j => ?_) (by rw [hu2]; exact hw3) hR I hl
        rw [hu2]
        show up w.1 10 i (-1) 10 j = _
        unfold up
        by_cases hj : j = i
        · rw [if_pos ⟨rfl, hj⟩, if_pos (by omega)]
        · rw [if_neg (fun q => hj q.2), hw2 j]
          by_cases hj2 : 0 ≤ j ∧ j < i
          · rw [if_pos hj2, if_pos (by omega)]
          · rw [if_neg hj2, if_neg (by omega)]
  refine xi_ic (pc := 0) F.1 dX0_matchRule_0 ?_
  refine lv_istore_n (pc := 1) (lv' := [(2, .int (iI 0)), (0, .ref a.1), (1, .int (iI r0))]) F.1.1 F.1.2.1 dX0_matchRule_1 rfl hl (by decide) rfl (fun ls hl => ?_)
  exact start 7 0 u _ _ ls (by omega) (by omega) (fun _ _ => rfl) (fun j => by rw [if_neg (by omega)]) rfl hR I hl
end
section
set_option maxRecDepth 100000
/-! what bindings mean: the valuations that solve them -/
def cdO (i : Int) : Int := if i < 4 then 20 + i else 6 + i
theorem cdO_r {i : Int} (h0 : 0 ≤ i) (h1 : i < 7) : (i < 4 ∧ cdO i = 20 + i) ∨ (4 ≤ i ∧ cdO i = 6 + i) := by
  unfold cdO
  split <;> omega
theorem slP_x (v : Int) : (20 ≤ v ∧ slP v = v - 20) ∨ (10 ≤ v ∧ v < 20 ∧ slP v = v - 6) ∨ (v < 10 ∧ slP v = -1) := by
  unfold slP
  split
  · omega
  · split <;> omega
theorem slP_cdO {i : Int} (h0 : 0 ≤ i) (h1 : i < 7) : slP (cdO i) = i := by
  have h2 := cdO_r h0 h1
  have h3 := slP_x (cdO i)
  omega
abbrev dm (cm x : Int) : Prop := (0 ≤ x ∧ x ≤ cm) ∨ (10 ≤ x ∧ x ≤ 12) ∨ (20 ≤ x ∧ x ≤ 23)
theorem cdO_slP {cm v : Int} (hcm : cm ≤ 6) (h : dm cm v) (h10 : 10 ≤ v) : 0 ≤ slP v ∧ slP v < 7 ∧ cdO (slP v) = v := by
  have h3 := slP_x v
  have h4 : 0 ≤ slP v ∧ slP v < 7 := by omega
  have h2 := cdO_r h4.1 h4.2
  omega
def WFb (cm fr : Int) (b : Int → Int) : Prop := ∀ i, 0 ≤ i → i < 7 → b i < 0 ∨ (fr ≤ cdO i ∧ b i < cdO i ∧ dm cm (b i))
def Sol (fr : Int) (b θ : Int → Int) : Prop := (∀ c, c < fr → θ c = c) ∧ ∀ i, 0 ≤ i → i < 7 → 0 ≤ b i → θ (cdO i) = θ (b i)
def rk (v : Int) : Int := if v < 10 then 0 else if v < 20 then v - 9 else v - 16
theorem rk_x (v : Int) : (v < 10 ∧ rk v = 0) ∨ (10 ≤ v ∧ v < 20 ∧ rk v = v - 9) ∨ (20 ≤ v ∧ rk v = v - 16) := by
  unfold rk
  split
  · omega
  · split <;> omega
/-- a bound code leads to a smaller one -/
theorem bound_x {cm fr v : Int} {b : Int → Int} (hcm : cm ≤ 6) (hb : WFb cm fr b) (h : dm cm v) (hn : ¬ (slP v < 0 ∨ b (slP v) < 0)) : cdO (slP v) = v ∧ 0 ≤ slP v ∧ slP v < 7 ∧ fr ≤ v ∧ dm cm (b (slP v)) ∧ rk (b (slP v)) < rk v := by
  have h1 : 10 ≤ v := by have := slP_x v; omega
  have h2 := cdO_slP hcm h h1
  have h3 := hb (slP v) h2.1 h2.2.1
  have h4 := rk_x v
  have h5 := rk_x (b (slP v))
  rcases h3 with h3 | h3
  · omega
  · refine ⟨h2.2.2, h2.1, h2.2.1, by omega, h3.2.2, ?_⟩
    have h6 := h3.2.1
    have h7 := h3.2.2
    rw [h2.2.2] at h6
    omega
theorem valP_dm {cm fr : Int} {b : Int → Int} (hcm : cm ≤ 6) (hb : WFb cm fr b) : ∀ (n : Nat) (v : Int), dm cm v → dm cm (valP n b v) := by
  intro n
  induction n with
  | zero => intro v h; exact h
  | succ n ih =>
    intro v h
    unfold valP
    split
    · exact h
    · rename_i hn
      exact ih _ (bound_x hcm hb h hn).2.2.2.2.1
theorem valP_sol {cm fr : Int} {b θ : Int → Int} (hcm : cm ≤ 6) (hb : WFb cm fr b) (hS : Sol fr b θ) : ∀ (n : Nat) (v : Int), dm cm v → θ (valP n b v) = θ v := by
  intro n
  induction n with
  | zero => intro v h; rfl
  | succ n ih =>
    intro v h
    unfold valP
    split
    · rfl
    · rename_i hn
      have h1 := bound_x hcm hb h hn
      rw [ih _ h1.2.2.2.2.1, ← hS.2 (slP v) h1.2.1 h1.2.2.1 (by omega), h1.1]
theorem valP_nf {cm fr : Int} {b : Int → Int} (hcm : cm ≤ 6) (hb : WFb cm fr b) : ∀ (n : Nat) (v : Int), dm cm v → rk v < n → slP (valP n b v) < 0 ∨ b (slP (valP n b v)) < 0 := by
  intro n
  induction n with
  | zero => intro v h hr; have := rk_x v; omega
  | succ n ih =>
    intro v h hr
    unfold valP
    split
    · rename_i hn; exact hn
    · rename_i hn
      have h1 := bound_x hcm hb h hn
      exact ih _ h1.2.2.2.2.1 (by omega)
theorem valP_st {cm fr : Int} {b : Int → Int} (hcm : cm ≤ 6) (hb : WFb cm fr b) : ∀ (n : Nat) (v : Int), dm cm v → rk v < n → valP (n + 1) b v = valP n b v := by
  intro n
  induction n with
  | zero => intro v h hr; have := rk_x v; omega
  | succ n ih =>
    intro v h hr
    show (if slP v < 0 ∨ b (slP v) < 0 then v else valP (n + 1) b (b (slP v))) = (if slP v < 0 ∨ b (slP v) < 0 then v else valP n b (b (slP v)))
    by_cases hn : slP v < 0 ∨ b (slP v) < 0
    · rw [if_pos hn, if_pos hn]
    · rw [if_neg hn, if_neg hn]
      have h1 := bound_x hcm hb h hn
      exact ih _ h1.2.2.2.2.1 (by omega)
theorem rk_8 {cm v : Int} (hcm : cm ≤ 6) (h : dm cm v) : rk v < 8 := by
  have := rk_x v
  omega
/-- what is below the free codes stays -/
theorem valP_lo {cm fr : Int} {b : Int → Int} (hcm : cm ≤ 6) (hb : WFb cm fr b) (n : Nat) {v : Int} (h : dm cm v) (hv : v < fr) : valP n b v = v := by
  cases n with
  | zero => rfl
  | succ n =>
    unfold valP
    split
    · rfl
    · rename_i hn
      have h1 := bound_x hcm hb h hn
      omega
/-- a valuation of a well-formed binding: d for what is free -/
def th (fr d : Int) (b : Int → Int) (c : Int) : Int := if c < fr then c else if valP 8 b c < fr then valP 8 b c else d
theorem th_sol {cm fr d : Int} {b : Int → Int} (hcm : cm ≤ 6) (hb : WFb cm fr b) : Sol fr b (th fr d b) := by
  refine ⟨fun c hc => by unfold th; rw [if_pos hc], fun i h0 h1 h2 => ?_⟩
  have h3 := hb i h0 h1
  have h4 : fr ≤ cdO i ∧ b i < cdO i ∧ dm cm (b i) := by
    rcases h3 with h3 | h3
    · omega
    · exact h3
  have h5 : dm cm (cdO i) := by have := cdO_r h0 h1; omega
  have e1 : valP 8 b (cdO i) = valP 8 b (b i) := by
    have h6 : rk (b i) < (7 : Nat) := by
      have q1 := rk_x (b i)
      have q2 := cdO_r h0 h1
      omega
    rw [valP_st hcm hb 7 (b i) h4.2.2 h6]
    show (if slP (cdO i) < 0 ∨ b (slP (cdO i)) < 0 then cdO i else valP 7 b (b (slP (cdO i)))) = _
    rw [slP_cdO h0 h1, if_neg (by omega)]
  unfold th
  rw [if_neg (by omega), e1]
  by_cases h7 : b i < fr
  · rw [if_pos h7, valP_lo hcm hb 8 h4.2.2 h7, if_pos h7]
  · rw [if_neg h7]
theorem th_v {cm fr d : Int} {b : Int → Int} (hcm : cm ≤ 6) (hb : WFb cm fr b) {v : Int} (h : dm cm v) : th fr d b v = if valP 8 b v < fr then valP 8 b v else d := by
  unfold th
  by_cases h1 : v < fr
  · rw [if_pos h1, valP_lo hcm hb 8 h h1, if_pos h1]
  · rw [if_neg h1]
theorem set_sol {cm fr x y : Int} {b : Int → Int} (hcm : cm ≤ 6) (hb : WFb cm fr b) (hx : dm cm x) (hy : dm cm y) (h10 : 10 ≤ fr) (hfx : fr ≤ x) (hyx : y < x) (hun : slP x < 0 ∨ b (slP x) < 0) : WFb cm fr (setb b (slP x) y) ∧ ∀ θ, Sol fr (setb b (slP x) y) θ ↔ (Sol fr b θ ∧ θ x = θ y) := by
  have h1 := cdO_slP hcm hx (by omega)
  refine ⟨fun i h0 h7 => ?_, fun θ => ⟨fun hS => ⟨⟨hS.1, fun i h0 h7 hbi => ?_⟩, ?_⟩, fun hS => ⟨hS.1.1, fun i h0 h7 hbi => ?_⟩⟩⟩
  · unfold setb
    by_cases hi : i = slP x
    · rw [if_pos hi, hi, h1.2.2]
      exact Or.inr ⟨hfx, hyx, hy⟩
    · rw [if_neg hi]
      exact hb i h0 h7
  · have h2 := hS.2 i h0 h7
    unfold setb at h2
    have hi : i ≠ slP x := by
      intro q
      rw [q] at hbi
      omega
    rw [if_neg hi] at h2
    exact h2 hbi
  · have h2 := hS.2 (slP x) h1.1 h1.2.1
    unfold setb at h2
    rw [if_pos rfl, h1.2.2] at h2
    exact h2 (by omega)
  · unfold setb at hbi ⊢
    by_cases hi : i = slP x
    · rw [if_pos hi, hi, h1.2.2]
      exact hS.2
    · rw [if_neg hi] at hbi ⊢
      exact hS.1.2 i h0 h7 hbi
theorem uni_some {cm fr s t : Int} {b b2 : Int → Int} (hcm : cm ≤ 6) (hfr : fr = 10 ∨ fr = 20) (hb : WFb cm fr b) (hs : dm cm s) (ht : dm cm t) (h : uniP fr b s t = some b2) : WFb cm fr b2 ∧ ∀ θ, Sol fr b2 θ ↔ (Sol fr b θ ∧ θ s = θ t) := by
  have d1 := valP_dm hcm hb 8 s hs
  have d2 := valP_dm hcm hb 8 t ht
  have n1 := valP_nf hcm hb 8 s hs (rk_8 hcm hs)
  have n2 := valP_nf hcm hb 8 t ht (rk_8 hcm ht)
  have e1 : ∀ θ, Sol fr b θ → θ (valP 8 b s) = θ s := fun θ hS => valP_sol hcm hb hS 8 s hs
  have e2 : ∀ θ, Sol fr b θ → θ (valP 8 b t) = θ t := fun θ hS => valP_sol hcm hb hS 8 t ht
  unfold uniP at h
  split at h
  · rename_i h1
    cases h
    refine ⟨hb, fun θ => ⟨fun hS => ⟨hS, ?_⟩, fun hS => hS.1⟩⟩
    rw [← e1 θ hS, ← e2 θ hS, h1]
  · rename_i h0
    split at h
    · rename_i h1
      cases h
      have q := set_sol hcm hb d1 d2 (by omega) h1.1 (by omega) n1
      refine ⟨q.1, fun θ => (q.2 θ).trans ⟨fun z => ⟨z.1, ?_⟩, fun z => ⟨z.1, ?_⟩⟩⟩
      · rw [← e1 θ z.1, ← e2 θ z.1, z.2]
      · rw [e1 θ z.1, e2 θ z.1, z.2]
    · rename_i h1
      split at h
      · cases h
      · rename_i h2
        cases h
        have q := set_sol hcm hb d2 d1 (by omega) (by omega) (by omega) n2
        refine ⟨q.1, fun θ => (q.2 θ).trans ⟨fun z => ⟨z.1, ?_⟩, fun z => ⟨z.1, ?_⟩⟩⟩
        · rw [← e1 θ z.1, ← e2 θ z.1, z.2]
        · rw [e1 θ z.1, e2 θ z.1, z.2]
theorem uni_none {cm fr s t : Int} {b : Int → Int} (hcm : cm ≤ 6) (hb : WFb cm fr b) (hs : dm cm s) (ht : dm cm t) (h : uniP fr b s t = none) : ∀ θ, Sol fr b θ → θ s ≠ θ t := by
  intro θ hS
  rw [← valP_sol hcm hb hS 8 s hs, ← valP_sol hcm hb hS 8 t ht]
  unfold uniP at h
  split at h
  · cases h
  · split at h
    · cases h
    · split at h
      · rw [hS.1 _ (by omega), hS.1 _ (by omega)]
        assumption
      · cases h
theorem mem_rowsL {α : Type} (f : Int → List α) (x : α) : ∀ (m : Nat) (row : Int), x ∈ rowsL f m row ↔ ∃ j, row ≤ j ∧ j < row + m ∧ x ∈ f j := by
  intro m
  induction m with
  | zero =>
    intro row
    constructor
    · intro h; cases h
    · rintro ⟨j, h1, h2, _⟩; omega
  | succ m ih =>
    intro row
    show x ∈ f row ++ rowsL f m (row + 1) ↔ _
    rw [List.mem_append, ih]
    constructor
    · rintro (h | ⟨j, h1, h2, h3⟩)
      · exact ⟨row, by omega, by omega, h⟩
      · exact ⟨j, by omega, by omega, h3⟩
    · rintro ⟨j, h1, h2, h3⟩
      by_cases hj : j = row
      · exact Or.inl (hj ▸ h3)
      · exact Or.inr ⟨j, by omega, by omega, h3⟩
theorem mem_stepL {g : xG} {fr r : Int} {nx : Int → (Int → Int) → List (Int → Int)} {k : Int} {b : Int → Int} {row : Int} {x : Int → Int} : x ∈ stepL g fr r nx k b row ↔ ∃ b1 b2, uniP fr b (g 8 (3 * r + k)) (g 1 (5 * g 7 (3 * r + k) + row)) = some b1 ∧ uniP fr b1 (g 9 (3 * r + k)) (g 2 (5 * g 7 (3 * r + k) + row)) = some b2 ∧ x ∈ nx (k + 1) b2 := by
  unfold stepL
  constructor
  · intro h
    cases h1 : uniP fr b (g 8 (3 * r + k)) (g 1 (5 * g 7 (3 * r + k) + row)) with
    | none => rw [h1] at h; cases h
    | some b1 =>
      rw [h1] at h
      dsimp only at h
      cases h2 : uniP fr b1 (g 9 (3 * r + k)) (g 2 (5 * g 7 (3 * r + k) + row)) with
      | none => rw [h2] at h; cases h
      | some b2 =>
        rw [h2] at h
        exact ⟨b1, b2, rfl, h2, h⟩
  · rintro ⟨b1, b2, h1, h2, h3⟩
    rw [h1]
    dsimp only
    rw [h2]
    exact h3
/-- an atom of a rule becomes a row -/
def MatA (g : xG) (r : Int) (θ : Int → Int) (j : Int) : Prop := ∃ row, 0 ≤ row ∧ row < g 0 (g 7 (3 * r + j)) ∧ θ (g 8 (3 * r + j)) = θ (g 1 (5 * g 7 (3 * r + j) + row)) ∧ θ (g 9 (3 * r + j)) = θ (g 2 (5 * g 7 (3 * r + j) + row))
def Mat (g : xG) (r : Int) (θ : Int → Int) : Prop := ∀ j, 0 ≤ j → j < g 6 r → MatA g r θ j
theorem lvs_sem {g : xG} {fr r : Int} (hV : Val g) (hr : 0 ≤ r ∧ r < g 3 0) (hfr : fr = 10 ∨ fr = 20) : ∀ (n : Nat) (k : Int) (b : Int → Int), 0 ≤ k → k + n = g 6 r → WFb 3 fr b →
    (∀ b2 ∈ lvs g fr r n k b, WFb 3 fr b2) ∧ ∀ θ, (∃ b2, b2 ∈ lvs g fr r n k b ∧ Sol fr b2 θ) ↔ (Sol fr b θ ∧ ∀ j, k ≤ j → j < g 6 r → MatA g r θ j) := by
  have hq := hV.2.2 r hr.1 hr.2
  intro n
  induction n with
  | zero =>
    intro k b hk hkn hb
    refine ⟨fun b2 h => ?_, fun θ => ⟨?_, ?_⟩⟩
    · rw [List.mem_singleton.mp h]; exact hb
    · rintro ⟨b2, h1, h2⟩
      rw [List.mem_singleton.mp h1] at h2
      exact ⟨h2, fun j h3 h4 => by omega⟩
    · intro h
      exact ⟨b, List.mem_singleton.mpr rfl, h.1⟩
  | succ n ih =>
    intro k b hk hkn hb
    have ha := hq.2.2.2.2 k hk (by omega)
    have ht := hV.1 _ ha.1.1 ha.1.2
    have key : ∀ row b1 b2, 0 ≤ row → row < g 0 (g 7 (3 * r + k)) → uniP fr b (g 8 (3 * r + k)) (g 1 (5 * g 7 (3 * r + k) + row)) = some b1 → uniP fr b1 (g 9 (3 * r + k)) (g 2 (5 * g 7 (3 * r + k) + row)) = some b2 → WFb 3 fr b2 ∧ ∀ θ, Sol fr b2 θ ↔ ((Sol fr b θ ∧ θ (g 8 (3 * r + k)) = θ (g 1 (5 * g 7 (3 * r + k) + row))) ∧ θ (g 9 (3 * r + k)) = θ (g 2 (5 * g 7 (3 * r + k) + row))) := by
      intro row b1 b2 h0 h1 h2 h3
      have hv := ht.2.2 row h0 h1
      have p1 := uni_some (cm := 3) (by omega) hfr hb (by omega) (by omega) h2
      have p2 := uni_some (cm := 3) (by omega) hfr p1.1 (by omega) (by omega) h3
      exact ⟨p2.1, fun θ => by rw [p2.2 θ, p1.2 θ]⟩
    have mem : ∀ x, x ∈ lvs g fr r (n + 1) k b ↔ ∃ row, 0 ≤ row ∧ row < g 0 (g 7 (3 * r + k)) ∧ x ∈ stepL g fr r (lvs g fr r n) k b row := by
      intro x
      show x ∈ rowsL (stepL g fr r (lvs g fr r n) k b) (g 0 (g 7 (3 * r + k))).toNat 0 ↔ _
      rw [mem_rowsL]
      constructor
      · rintro ⟨j, h1, h2, h3⟩; exact ⟨j, h1, by omega, h3⟩
      · rintro ⟨j, h1, h2, h3⟩; exact ⟨j, h1, by omega, h3⟩
    refine ⟨fun x hx => ?_, fun θ => ⟨?_, ?_⟩⟩
    · obtain ⟨row, h0, h1, h2⟩ := (mem x).mp hx
      obtain ⟨b1, b2, h3, h4, h5⟩ := mem_stepL.mp h2
      have p := key row b1 b2 h0 h1 h3 h4
      exact (ih (k + 1) b2 (by omega) (by omega) p.1).1 x h5
    · rintro ⟨x, hx, hS⟩
      obtain ⟨row, h0, h1, h2⟩ := (mem x).mp hx
      obtain ⟨b1, b2, h3, h4, h5⟩ := mem_stepL.mp h2
      have p := key row b1 b2 h0 h1 h3 h4
      have q := ((ih (k + 1) b2 (by omega) (by omega) p.1).2 θ).mp ⟨x, h5, hS⟩
      have q2 := (p.2 θ).mp q.1
      refine ⟨q2.1.1, fun j h6 h7 => ?_⟩
      by_cases hj : j = k
      · subst hj
        exact ⟨row, h0, h1, q2.1.2, q2.2⟩
      · exact q.2 j (by omega) h7
    · rintro ⟨hS, hM⟩
      obtain ⟨row, h0, h1, h2, h3⟩ := hM k (by omega) (by omega)
      have hv := ht.2.2 row h0 h1
      cases e1 : uniP fr b (g 8 (3 * r + k)) (g 1 (5 * g 7 (3 * r + k) + row)) with
      | none => exact absurd h2 (uni_none (cm := 3) (by omega) hb (by omega) (by omega) e1 θ hS)
      | some b1 =>
        have p1 := uni_some (cm := 3) (by omega) hfr hb (by omega) (by omega) e1
        have hS1 := (p1.2 θ).mpr ⟨hS, h2⟩
        cases e2 : uniP fr b1 (g 9 (3 * r + k)) (g 2 (5 * g 7 (3 * r + k) + row)) with
        | none => exact absurd h3 (uni_none (cm := 3) (by omega) p1.1 (by omega) (by omega) e2 θ hS1)
        | some b2 =>
          have p := key row b1 b2 h0 h1 e1 e2
          have hS2 := (p.2 θ).mpr ⟨⟨hS, h2⟩, h3⟩
          obtain ⟨x, hx, hSx⟩ := ((ih (k + 1) b2 (by omega) (by omega) p.1).2 θ).mpr ⟨hS2, fun j h6 h7 => hM j (by omega) h7⟩
          exact ⟨x, (mem x).mpr ⟨row, h0, h1, mem_stepL.mpr ⟨b1, b2, e1, e2, hx⟩⟩, hSx⟩
end
section
set_option maxRecDepth 100000
/-! naive evaluation answers as all completions do -/
abbrev lfs (g : xG) (fr r : Int) : List (Int → Int) := lvs g fr r (g 6 r).toNat 0 (fun i => if 0 ≤ i ∧ i < 7 then -1 else g 10 i)
theorem wf_0 (g : xG) (fr : Int) : WFb 3 fr (fun i => if 0 ≤ i ∧ i < 7 then -1 else g 10 i) := by
  intro i h0 h1
  dsimp only
  rw [if_pos ⟨h0, h1⟩]
  exact Or.inl (by decide)
theorem sol_0 (g : xG) (fr : Int) (θ : Int → Int) : Sol fr (fun i => if 0 ≤ i ∧ i < 7 then -1 else g 10 i) θ ↔ ∀ c, c < fr → θ c = c := by
  constructor
  · intro h; exact h.1
  · intro h
    refine ⟨h, fun i h0 h1 h2 => ?_⟩
    dsimp only at h2
    rw [if_pos ⟨h0, h1⟩] at h2
    omega
theorem lfs_sem {g : xG} {fr r : Int} (hV : Val g) (hr : 0 ≤ r ∧ r < g 3 0) (hfr : fr = 10 ∨ fr = 20) : (∀ b ∈ lfs g fr r, WFb 3 fr b) ∧ ∀ θ, (∃ b, b ∈ lfs g fr r ∧ Sol fr b θ) ↔ ((∀ c, c < fr → θ c = c) ∧ Mat g r θ) := by
  have hq := hV.2.2 r hr.1 hr.2
  have h := lvs_sem hV hr hfr (g 6 r).toNat 0 _ (by omega) (by omega) (wf_0 g fr)
  refine ⟨h.1, fun θ => (h.2 θ).trans ?_⟩
  rw [sol_0]
  exact Iff.rfl
def HitR (g : xG) (r x y : Int) : Prop := ∃ θ : Int → Int, (∀ c, c < 20 → θ c = c) ∧ Mat g r θ ∧ θ (g 4 r) = x ∧ θ (g 5 r) = y
/-- a head's term that stands in the body is bound -/
theorem body_lo {g : xG} {r t : Int} {b : Int → Int} (hV : Val g) (hr : 0 ≤ r ∧ r < g 3 0) (ht : isT t) (hi : inBd g r t) (hb : b ∈ lfs g 20 r) : valP 8 b t < 20 := by
  have hs := lfs_sem hV hr (Or.inr rfl)
  have hw := hs.1 b hb
  have hd : dm 3 t := by omega
  rcases Int.lt_or_le (valP 8 b t) 20 with h | h
  · exact h
  · exfalso
    have hS : Sol 20 b (th 20 99 b) := th_sol (cm := 3) (by omega) hw
    have hM := ((hs.2 _).mp ⟨b, hb, hS⟩).2
    have h1 : th 20 99 b t = 99 := by rw [th_v (cm := 3) (by omega) hw hd, if_neg (by omega)]
    rcases hi with hi | ⟨k, k0, k1, k2⟩
    · have := valP_lo (cm := 3) (by omega) hw 8 hd hi
      omega
    · have ha := (hV.2.2 r hr.1 hr.2).2.2.2.2 k k0 k1
      obtain ⟨row, r0, r1, r2, r3⟩ := hM k k0 k1
      have hv := (hV.1 _ ha.1.1 ha.1.2).2.2 row r0 r1
      rcases k2 with k2 | k2
      · rw [k2, h1, hS.1 _ (by omega)] at r2
        omega
      · rw [k2, h1, hS.1 _ (by omega)] at r3
        omega
theorem leaf_hit {g : xG} {r x y : Int} (hV : Val g) (hr : 0 ≤ r ∧ r < g 3 0) (hf : safG g r) : (∃ b, b ∈ lfs g 20 r ∧ valP 8 b (g 4 r) = x ∧ valP 8 b (g 5 r) = y) ↔ HitR g r x y := by
  have hs := lfs_sem hV hr (fr := 20) (Or.inr rfl)
  have hq := hV.2.2 r hr.1 hr.2
  have d1 : dm 3 (g 4 r) := by omega
  have d2 : dm 3 (g 5 r) := by omega
  constructor
  · rintro ⟨b, hb, hx, hy⟩
    have hw := hs.1 b hb
    have hS : Sol 20 b (th 20 0 b) := th_sol (cm := 3) (by omega) hw
    have hM := (hs.2 _).mp ⟨b, hb, hS⟩
    have l1 := body_lo hV hr hq.1 hf.1 hb
    have l2 := body_lo hV hr hq.2.1 hf.2 hb
    exact ⟨_, hM.1, hM.2, by rw [th_v (cm := 3) (by omega) hw d1, if_pos l1, hx], by rw [th_v (cm := 3) (by omega) hw d2, if_pos l2, hy]⟩
  · rintro ⟨θ, h1, h2, h3, h4⟩
    obtain ⟨b, hb, hS⟩ := (hs.2 θ).mpr ⟨h1, h2⟩
    have hw := hs.1 b hb
    have l1 := body_lo hV hr hq.1 hf.1 hb
    have l2 := body_lo hV hr hq.2.1 hf.2 hb
    refine ⟨b, hb, ?_, ?_⟩
    · rw [← h3, ← valP_sol (cm := 3) (by omega) hw hS 8 _ d1, hS.1 _ l1]
    · rw [← h4, ← valP_sol (cm := 3) (by omega) hw hS 8 _ d2, hS.1 _ l2]
/-- a completion: constants stay, the three unknowns become one of seven -/
def Comp (κ : Int → Int) : Prop := (∀ c, c < 10 → κ c = c) ∧ ∀ c, 10 ≤ c → c ≤ 12 → 0 ≤ κ c ∧ κ c ≤ 6
def AnsK (g : xG) (κ : Int → Int) (x y : Int) : Prop := ∃ r, (0 ≤ r ∧ r < g 3 0) ∧ safG g r ∧ ∃ θ : Int → Int, (∀ c, c < 20 → θ c = κ c) ∧ Mat g r θ ∧ θ (g 4 r) = x ∧ θ (g 5 r) = y
def CertS (g : xG) (x y : Int) : Prop := ∀ κ, Comp κ → AnsK g κ x y
def PossS (g : xG) (x y : Int) : Prop := ∃ κ, Comp κ ∧ AnsK g κ x y
def SomeS (g : xG) : Prop := ∀ κ, Comp κ → ∃ x y, AnsK g κ x y
/-- a naive answer's valuation, completed -/
theorem mat_up {g : xG} {r : Int} {θ κ : Int → Int} (hV : Val g) (hr : 0 ≤ r ∧ r < g 3 0) (h20 : ∀ c, c < 20 → θ c = c) (hM : Mat g r θ) : Mat g r (fun c => if c < 20 then κ c else κ (θ c)) := by
  intro j j0 j1
  have ha := (hV.2.2 r hr.1 hr.2).2.2.2.2 j j0 j1
  obtain ⟨row, r0, r1, r2, r3⟩ := hM j j0 j1
  have hv := (hV.1 _ ha.1.1 ha.1.2).2.2 row r0 r1
  have e : ∀ t v, isT t → isV v → θ t = θ v → (if t < 20 then κ t else κ (θ t)) = (if v < 20 then κ v else κ (θ v)) := by
    intro t v ht hv h
    rw [if_pos (show v < 20 by omega)]
    rw [h20 v (by omega)] at h
    by_cases h5 : t < 20
    · rw [if_pos h5, ← h, h20 t h5]
    · rw [if_neg h5, h]
  exact ⟨row, r0, r1, e _ _ ha.2.1 hv.1 r2, e _ _ ha.2.2 hv.2 r3⟩
theorem mat_dn {g : xG} {r : Int} {θ : Int → Int} (hV : Val g) (hr : 0 ≤ r ∧ r < g 3 0) (h20 : ∀ c, c < 20 → θ c = if 10 ≤ c ∧ c ≤ 12 then c - 6 else c) (hM : Mat g r θ) : Mat g r (fun c => if c < 20 then c else if 4 ≤ θ c ∧ θ c ≤ 6 then θ c + 6 else θ c) := by
  intro j j0 j1
  have ha := (hV.2.2 r hr.1 hr.2).2.2.2.2 j j0 j1
  obtain ⟨row, r0, r1, r2, r3⟩ := hM j j0 j1
  have hv := (hV.1 _ ha.1.1 ha.1.2).2.2 row r0 r1
  have e : ∀ t v, isT t → isV v → θ t = θ v → (if t < 20 then t else if 4 ≤ θ t ∧ θ t ≤ 6 then θ t + 6 else θ t) = (if v < 20 then v else if 4 ≤ θ v ∧ θ v ≤ 6 then θ v + 6 else θ v) := by
    intro t v ht hv h
    have ev := h20 v (by omega)
    rw [if_pos (show v < 20 by omega)]
    by_cases h5 : t < 20
    · rw [if_pos h5]
      have et := h20 t h5
      rw [if_neg (by omega)] at et
      split at ev <;> omega
    · rw [if_neg h5, h]
      split at ev
      · rw [if_pos (by omega)]; omega
      · rw [if_neg (by omega)]; omega
  exact ⟨row, r0, r1, e _ _ ha.2.1 hv.1 r2, e _ _ ha.2.2 hv.2 r3⟩
def kS : Int → Int := fun c => if 10 ≤ c ∧ c ≤ 12 then c - 6 else c
def k0 : Int → Int := fun c => if 10 ≤ c ∧ c ≤ 12 then 0 else c
theorem kS_c : Comp kS := by
  refine ⟨fun c h => ?_, fun c h h2 => ?_⟩
  · unfold kS; rw [if_neg (by omega)]
  · unfold kS; rw [if_pos (by omega)]; omega
theorem k0_c : Comp k0 := by
  refine ⟨fun c h => ?_, fun c h h2 => ?_⟩
  · unfold k0; rw [if_neg (by omega)]
  · unfold k0; rw [if_pos (by omega)]; omega
/-- with all unknowns 0 the answers are constants -/
theorem k0_lo {g : xG} {r t : Int} {θ : Int → Int} (hV : Val g) (hr : 0 ≤ r ∧ r < g 3 0) (h20 : ∀ c, c < 20 → θ c = k0 c) (hM : Mat g r θ) (ht : isT t) (hi : inBd g r t) : 0 ≤ θ t ∧ θ t ≤ 3 := by
  have lo : ∀ v, isV v → 0 ≤ θ v ∧ θ v ≤ 3 := by
    intro v hv
    rw [h20 v (by omega)]
    unfold k0
    split <;> omega
  rcases hi with hi | ⟨k, k0, k1, k2⟩
  · exact lo t (by omega)
  · have ha := (hV.2.2 r hr.1 hr.2).2.2.2.2 k k0 k1
    obtain ⟨row, r0, r1, r2, r3⟩ := hM k k0 k1
    have hv := (hV.1 _ ha.1.1 ha.1.2).2.2 row r0 r1
    rcases k2 with k2 | k2
    · rw [k2] at r2; rw [r2]; exact lo _ hv.1
    · rw [k2] at r3; rw [r3]; exact lo _ hv.2
theorem cert_iff {g : xG} {x y : Int} (hV : Val g) (hx : 0 ≤ x ∧ x ≤ 6) (hy : 0 ≤ y ∧ y ≤ 6) : (∃ r, (0 ≤ r ∧ r < g 3 0) ∧ safG g r ∧ HitR g r x y) ↔ CertS g x y := by
  constructor
  · rintro ⟨r, hr, hf, θ, h1, h2, h3, h4⟩ κ hκ
    have hq := hV.2.2 r hr.1 hr.2
    have e : ∀ t z, isT t → θ t = z → (0 ≤ z ∧ z ≤ 6) → (if t < 20 then κ t else κ (θ t)) = z := by
      intro t z ht h hz
      by_cases h5 : t < 20
      · rw [if_pos h5]
        rw [h1 t h5] at h
        rw [← h]
        exact hκ.1 t (by omega)
      · rw [if_neg h5, h]
        exact hκ.1 z (by omega)
    exact ⟨r, hr, hf, fun c => if c < 20 then κ c else κ (θ c), fun c hc => if_pos hc, mat_up hV hr h1 h2, e _ _ hq.1 h3 hx, e _ _ hq.2.1 h4 hy⟩
  · intro h
    obtain ⟨r, hr, hf, θ, h1, h2, h3, h4⟩ := h kS kS_c
    obtain ⟨r', hr', hf', θ', h1', h2', h3', h4'⟩ := h k0 k0_c
    have hq' := hV.2.2 r' hr'.1 hr'.2
    have x3 := k0_lo hV hr' h1' h2' hq'.1 hf'.1
    have y3 := k0_lo hV hr' h1' h2' hq'.2.1 hf'.2
    rw [h3'] at x3
    rw [h4'] at y3
    have hq := hV.2.2 r hr.1 hr.2
    have e : ∀ t z, isT t → θ t = z → (0 ≤ z ∧ z ≤ 3) → (if t < 20 then t else if 4 ≤ θ t ∧ θ t ≤ 6 then θ t + 6 else θ t) = z := by
      intro t z ht h hz
      by_cases h5 : t < 20
      · rw [if_pos h5]
        have et := h1 t h5
        unfold kS at et
        rw [if_neg (by omega)] at et
        omega
      · rw [if_neg h5, if_neg (by omega), h]
    exact ⟨r, hr, hf, fun c => if c < 20 then c else if 4 ≤ θ c ∧ θ c ≤ 6 then θ c + 6 else θ c, fun c hc => if_pos hc, mat_dn hV hr h1 h2, e _ _ hq.1 h3 x3, e _ _ hq.2.1 h4 y3⟩
theorem some_iff {g : xG} (hV : Val g) : (∃ r, (0 ≤ r ∧ r < g 3 0) ∧ safG g r ∧ ∃ θ : Int → Int, (∀ c, c < 20 → θ c = c) ∧ Mat g r θ) ↔ SomeS g := by
  constructor
  · rintro ⟨r, hr, hf, θ, h1, h2⟩ κ hκ
    exact ⟨_, _, r, hr, hf, fun c => if c < 20 then κ c else κ (θ c), fun c hc => if_pos hc, mat_up hV hr h1 h2, rfl, rfl⟩
  · intro h
    obtain ⟨x, y, r, hr, hf, θ, h1, h2, -, -⟩ := h kS kS_c
    exact ⟨r, hr, hf, fun c => if c < 20 then c else if 4 ≤ θ c ∧ θ c ≤ 6 then θ c + 6 else θ c, fun c hc => if_pos hc, mat_dn hV hr h1 h2⟩
/-- the goal's meaning -/
theorem gm_iff {g : xG} {r : Int} {b : Int → Int} (hV : Val g) (hr : 0 ≤ r ∧ r < g 3 0) (hs : g 13 0 = 0) (hx : 0 ≤ g 14 0 ∧ g 14 0 ≤ 6) (hy : 0 ≤ g 15 0 ∧ g 15 0 ≤ 6) (hb : WFb 3 10 b) :
    (gmB g r b = 1 ∧ ∃ θ : Int → Int, Sol 10 b θ ∧ θ (g 4 r) = g 14 0 ∧ θ (g 5 r) = g 15 0 ∧ ∀ c, 10 ≤ c → c ≤ 12 → 0 ≤ θ c ∧ θ c ≤ 6) ∨ (gmB g r b = 0 ∧ ∀ θ : Int → Int, Sol 10 b θ → θ (g 4 r) = g 14 0 → θ (g 5 r) ≠ g 15 0) := by
  have hq := hV.2.2 r hr.1 hr.2
  have hf : frP g = 10 := by unfold frP; rw [if_pos hs]
  have hb6 : WFb 6 10 b := by
    intro i h0 h1
    rcases hb i h0 h1 with h | h
    · exact Or.inl h
    · exact Or.inr ⟨h.1, h.2.1, by omega⟩
  unfold gmB
  rw [hf]
  cases e1 : uniP 10 b (g 4 r) (g 14 0) with
  | none =>
    right
    refine ⟨rfl, fun θ hS h1 _ => ?_⟩
    have := uni_none (cm := 6) (by omega) hb6 (by omega) (by omega) e1 θ hS
    rw [h1, hS.1 (g 14 0) (by omega)] at this
    exact this rfl
  | some b1 =>
    dsimp only
    have p1 := uni_some (cm := 6) (by omega) (Or.inl rfl) hb6 (by omega) (by omega) e1
    cases e2 : uniP 10 b1 (g 5 r) (g 15 0) with
    | none =>
      right
      refine ⟨rfl, fun θ hS h1 h2 => ?_⟩
      have hS1 := (p1.2 θ).mpr ⟨hS, by rw [h1, hS.1 (g 14 0) (by omega)]⟩
      have := uni_none (cm := 6) (by omega) p1.1 (by omega) (by omega) e2 θ hS1
      rw [h2, hS.1 (g 15 0) (by omega)] at this
      exact this rfl
    | some b2 =>
      left
      have p2 := uni_some (cm := 6) (by omega) (Or.inl rfl) p1.1 (by omega) (by omega) e2
      have hS2 : Sol 10 b2 (th 10 0 b2) := th_sol (cm := 6) (by omega) p2.1
      have q2 := (p2.2 _).mp hS2
      have q1 := (p1.2 _).mp q2.1
      refine ⟨rfl, th 10 0 b2, q1.1, ?_, ?_, fun c c0 c1 => ?_⟩
      · rw [q1.2, q1.1.1 _ (by omega)]
      · rw [q2.2, q1.1.1 _ (by omega)]
      · have hdc : dm 6 c := by omega
        rw [th_v (cm := 6) (by omega) p2.1 hdc]
        have := valP_dm (cm := 6) (by omega) p2.1 8 c hdc
        split <;> omega
theorem gmB_01 (g : xG) (r : Int) (b : Int → Int) : gmB g r b = 0 ∨ gmB g r b = 1 := by
  unfold gmB
  split
  · exact Or.inl rfl
  · split
    · exact Or.inl rfl
    · exact Or.inr rfl
/-- couples in free matching: only the goal moves -/
theorem run_ns {g : xG} {r : Int} (hs : g 13 0 = 0) : ∀ (l : List (Int → Int)) (fs : xFs), fs.1 = 0 → (runF g r l fs).2 = fs.2 ∧ (((runF g r l fs).1 = 1 ∧ ∃ b, b ∈ l ∧ gmB g r b = 1) ∨ ((runF g r l fs).1 = 0 ∧ ∀ b, b ∈ l → gmB g r b = 0)) := by
  intro l
  induction l with
  | nil => intro fs h; exact ⟨rfl, Or.inr ⟨h, fun b hb => by cases hb⟩⟩
  | cons b l ih =>
    intro fs h
    have e : runF g r (b :: l) fs = runF g r l (gmB g r b, fs.2.1, fs.2.2) := by
      show (if fs.1 = 0 then runF g r l (finP g r fs b) else fs) = _
      rw [if_pos h]
      unfold finP
      rw [if_pos hs]
    rw [e]
    rcases gmB_01 g r b with h1 | h1
    · have q := ih (gmB g r b, fs.2.1, fs.2.2) h1
      refine ⟨q.1, ?_⟩
      rcases q.2 with ⟨q1, b2, q2, q3⟩ | ⟨q1, q2⟩
      · exact Or.inl ⟨q1, b2, List.mem_cons_of_mem _ q2, q3⟩
      · refine Or.inr ⟨q1, fun b2 hb2 => ?_⟩
        rcases List.mem_cons.mp hb2 with rfl | hb2
        · exact h1
        · exact q2 b2 hb2
    · rw [runF_stop g r (fs := (gmB g r b, fs.2.1, fs.2.2)) (show gmB g r b ≠ 0 by omega)]
      exact ⟨rfl, Or.inl ⟨h1, b, List.mem_cons_self, h1⟩⟩
/-- a rule's part of 'possible' -/
def PosR (g : xG) (r x y : Int) : Prop := ∃ θ : Int → Int, (∀ c, c < 10 → θ c = c) ∧ (∀ c, 10 ≤ c → c ≤ 12 → 0 ≤ θ c ∧ θ c ≤ 6) ∧ Mat g r θ ∧ θ (g 4 r) = x ∧ θ (g 5 r) = y
theorem pos_run {g : xG} {r : Int} (hV : Val g) (hr : 0 ≤ r ∧ r < g 3 0) (hs : g 13 0 = 0) (hx : 0 ≤ g 14 0 ∧ g 14 0 ≤ 6) (hy : 0 ≤ g 15 0 ∧ g 15 0 ≤ 6) (fs : xFs) (h0 : fs.1 = 0) :
    (runF g r (lfs g 10 r) fs).2 = fs.2 ∧ (((runF g r (lfs g 10 r) fs).1 = 1 ∧ PosR g r (g 14 0) (g 15 0)) ∨ ((runF g r (lfs g 10 r) fs).1 = 0 ∧ ¬ PosR g r (g 14 0) (g 15 0))) := by
  have hl := lfs_sem hV hr (fr := 10) (Or.inl rfl)
  have q := run_ns (r := r) hs (lfs g 10 r) fs h0
  refine ⟨q.1, ?_⟩
  rcases q.2 with ⟨q1, b, hb, q2⟩ | ⟨q1, q2⟩
  · left
    refine ⟨q1, ?_⟩
    rcases gm_iff hV hr hs hx hy (hl.1 b hb) with ⟨_, θ, t1, t2, t3, t4⟩ | ⟨z, _⟩
    · have := (hl.2 θ).mp ⟨b, hb, t1⟩
      exact ⟨θ, this.1, t4, this.2, t2, t3⟩
    · omega
  · right
    refine ⟨q1, ?_⟩
    rintro ⟨θ, t1, t2, t3, t4, t5⟩
    obtain ⟨b, hb, hS⟩ := (hl.2 θ).mpr ⟨t1, t3⟩
    rcases gm_iff hV hr hs hx hy (hl.1 b hb) with ⟨z, _⟩ | ⟨_, z⟩
    · have := q2 b hb
      omega
    · exact z θ hS t4 t5
theorem poss_iff {g : xG} {x y : Int} : (∃ r, (0 ≤ r ∧ r < g 3 0) ∧ safG g r ∧ PosR g r x y) ↔ PossS g x y := by
  constructor
  · rintro ⟨r, hr, hf, θ, h1, h2, h3, h4, h5⟩
    exact ⟨θ, ⟨h1, h2⟩, r, hr, hf, θ, fun _ _ => rfl, h3, h4, h5⟩
  · rintro ⟨κ, hκ, r, hr, hf, θ, h1, h2, h3, h4⟩
    exact ⟨r, hr, hf, θ, fun c hc => by rw [h1 c (by omega)]; exact hκ.1 c hc, fun c c0 c1 => by rw [h1 c (by omega)]; exact hκ.2 c c0 c1, h2, h3, h4⟩
end
section
set_option maxRecDepth 100000
/-! the set of certain couples as bits; strict matching -/
def bitL (cs : Int64) (n : Nat) : Bool := cs.toBitVec.getLsbD n
theorem shl_bv : ∀ m : Nat, m < 49 → ((1 : Int64) <<< ((iI (m : Int)).toInt64 &&& 63)).toBitVec = BitVec.twoPow 64 m := by decide +kernel
theorem shr_am : ∀ m : Nat, m < 49 → (((iI (m : Int)).toInt64.toUInt64 &&& Int64.toUInt64 63).toBitVec % 64).toNat = m := by decide +kernel
theorem or_bit {cs : Int64} {m : Int} (hm : 0 ≤ m ∧ m < 49) (n : Nat) : bitL (cs ||| 1 <<< ((iI m).toInt64 &&& 63)) n = true ↔ (bitL cs n = true ∨ m = n) := by
  obtain ⟨k, rfl⟩ := Int.eq_ofNat_of_zero_le hm.1
  have hk : k < 49 := by omega
  unfold bitL
  rw [Int64.toBitVec_or, shl_bv k hk, BitVec.getLsbD_or, BitVec.getLsbD_twoPow]
  simp only [Bool.or_eq_true, Bool.and_eq_true, decide_eq_true_eq]
  constructor
  · rintro (z | z)
    · exact Or.inl z
    · exact Or.inr (by omega)
  · rintro (z | z)
    · exact Or.inl z
    · exact Or.inr (by omega)
theorem shr_bit {cs : Int64} {m : Int} (hm : 0 ≤ m ∧ m < 49) : ((cs.toUInt64 >>> ((iI m).toInt64.toUInt64 &&& Int64.toUInt64 63)).toInt64 &&& 1) = if bitL cs m.toNat = true then 1 else 0 := by
  obtain ⟨k, rfl⟩ := Int.eq_ofNat_of_zero_le hm.1
  have hk : k < 49 := by omega
  have e : (cs.toUInt64 >>> ((iI (k : Int)).toInt64.toUInt64 &&& Int64.toUInt64 63)).toInt64.toBitVec = cs.toBitVec >>> k := by
    have h1 := shr_am k hk
    have h2 : (cs.toUInt64 >>> ((iI (k : Int)).toInt64.toUInt64 &&& Int64.toUInt64 63)).toInt64.toBitVec = cs.toBitVec >>> ((((iI (k : Int)).toInt64.toUInt64 &&& Int64.toUInt64 63).toBitVec % 64).toNat) := UInt64.toBitVec_shiftRight _ _
    rw [h2, h1]
  apply Int64.toBitVec_inj.mp
  rw [Int64.toBitVec_and, e]
  have e1 : (1 : Int64).toBitVec = 1#64 := by decide
  have ek : ((k : Int)).toNat = k := by omega
  rw [e1, BitVec.and_one_eq_setWidth_ofBool_getLsbD, BitVec.getLsbD_ushiftRight, Nat.add_zero, ek]
  unfold bitL
  cases h : cs.toBitVec.getLsbD k with
  | false => decide
  | true => decide
theorem shr_i {cs : Int64} {m : Int} (hm : 0 ≤ m ∧ m < 49) : ((cs.toUInt64 >>> ((iI m).toInt64.toUInt64 &&& Int64.toUInt64 63)).toInt64 &&& 1).toInt32 = iI (if bitL cs m.toNat = true then 1 else 0) := by
  rw [shr_bit hm]
  cases h : bitL cs m.toNat with
  | false => decide
  | true => decide
theorem shr_c {cs : Int64} {m : Int} (hm : 0 ≤ m ∧ m < 49) : lg_cmp ((cs.toUInt64 >>> ((iI m).toInt64.toUInt64 &&& Int64.toUInt64 63)).toInt64 &&& 1) 0 = iI (if bitL cs m.toNat = true then 1 else 0) := by
  rw [shr_bit hm]
  cases h : bitL cs m.toNat with
  | false => decide
  | true => decide
theorem bitL_0 (n : Nat) : bitL 0 n = false := by
  unfold bitL
  have e : (0 : Int64).toBitVec = 0#64 := by decide
  rw [e]
  simp
/-- couples in strict matching -/
theorem run_st {g : xG} {r : Int} (hs : g 13 0 ≠ 0) : ∀ (l : List (Int → Int)) (fs : xFs), fs.1 = 0 → (∀ b, b ∈ l → (valP 8 b (g 4 r) < 10 → 0 ≤ valP 8 b (g 4 r) ∧ valP 8 b (g 4 r) ≤ 3) ∧ (valP 8 b (g 5 r) < 10 → 0 ≤ valP 8 b (g 5 r) ∧ valP 8 b (g 5 r) ≤ 3)) →
    (runF g r l fs).1 = 0 ∧ (∀ n : Nat, bitL (runF g r l fs).2.1 n = true ↔ (bitL fs.2.1 n = true ∨ ∃ b, b ∈ l ∧ valP 8 b (g 4 r) < 10 ∧ valP 8 b (g 5 r) < 10 ∧ 7 * valP 8 b (g 4 r) + valP 8 b (g 5 r) = n)) ∧ ((l = [] ∧ (runF g r l fs).2.2 = fs.2.2) ∨ (l ≠ [] ∧ (runF g r l fs).2.2 = 1)) := by
  intro l
  induction l with
  | nil =>
    intro fs h _
    refine ⟨h, fun n => ⟨fun q => Or.inl q, fun q => ?_⟩, Or.inl ⟨rfl, rfl⟩⟩
    rcases q with q | ⟨b, hb, _⟩
    · exact q
    · cases hb
  | cons b l ih =>
    intro fs h hv
    have e : runF g r (b :: l) fs = runF g r l (fs.1, finC g r fs.2.1 b, 1) := by
      show (if fs.1 = 0 then runF g r l (finP g r fs b) else fs) = _
      rw [if_pos h]
      unfold finP
      rw [if_neg hs]
    have hb := hv b List.mem_cons_self
    have q := ih (fs.1, finC g r fs.2.1 b, 1) h (fun b2 h2 => hv b2 (List.mem_cons_of_mem _ h2))
    rw [e]
    refine ⟨q.1, fun n => ?_, Or.inr ⟨by simp, ?_⟩⟩
    · have hc : bitL (finC g r fs.2.1 b) n = true ↔ (bitL fs.2.1 n = true ∨ (valP 8 b (g 4 r) < 10 ∧ valP 8 b (g 5 r) < 10 ∧ 7 * valP 8 b (g 4 r) + valP 8 b (g 5 r) = n)) := by
        unfold finC
        by_cases h1 : valP 8 b (g 4 r) < 10 ∧ valP 8 b (g 5 r) < 10
        · rw [if_pos h1, or_bit (by have := hb.1 h1.1; have := hb.2 h1.2; omega)]
          constructor
          · rintro (z | z)
            · exact Or.inl z
            · exact Or.inr ⟨h1.1, h1.2, z⟩
          · rintro (z | z)
            · exact Or.inl z
            · exact Or.inr z.2.2
        · rw [if_neg h1]
          constructor
          · intro z; exact Or.inl z
          · rintro (z | z)
            · exact z
            · exact absurd ⟨z.1, z.2.1⟩ h1
      rw [q.2.1 n]
      dsimp only
      rw [hc]
      constructor
      · rintro ((z | z) | ⟨b2, z1, z2⟩)
        · exact Or.inl z
        · exact Or.inr ⟨b, List.mem_cons_self, z⟩
        · exact Or.inr ⟨b2, List.mem_cons_of_mem _ z1, z2⟩
      · rintro (z | ⟨b2, z1, z2⟩)
        · exact Or.inl (Or.inl z)
        · rcases List.mem_cons.mp z1 with rfl | z1
          · exact Or.inl (Or.inr z2)
          · exact Or.inr ⟨b2, z1, z2⟩
    · rcases q.2.2 with ⟨_, z⟩ | ⟨_, z⟩
      · exact z
      · exact z
theorem st_run {g : xG} {r : Int} (hV : Val g) (hr : 0 ≤ r ∧ r < g 3 0) (hf : safG g r) (hs : g 13 0 ≠ 0) (fs : xFs) (h0 : fs.1 = 0) :
    (runF g r (lfs g 20 r) fs).1 = 0 ∧ (∀ x y, (0 ≤ x ∧ x ≤ 6) → (0 ≤ y ∧ y ≤ 6) → (bitL (runF g r (lfs g 20 r) fs).2.1 (7 * x + y).toNat = true ↔ (bitL fs.2.1 (7 * x + y).toNat = true ∨ HitR g r x y))) ∧
      (((runF g r (lfs g 20 r) fs).2.2 = 1 ∧ ∃ θ : Int → Int, (∀ c, c < 20 → θ c = c) ∧ Mat g r θ) ∨ ((runF g r (lfs g 20 r) fs).2.2 = fs.2.2 ∧ ¬ ∃ θ : Int → Int, (∀ c, c < 20 → θ c = c) ∧ Mat g r θ)) := by
  have hl := lfs_sem hV hr (fr := 20) (Or.inr rfl)
  have hq := hV.2.2 r hr.1 hr.2
  have q := run_st (r := r) hs (lfs g 20 r) fs h0 (fun b hb => by
    have d1 := valP_dm (cm := 3) (by omega) (hl.1 b hb) 8 (g 4 r) (by omega)
    have d2 := valP_dm (cm := 3) (by omega) (hl.1 b hb) 8 (g 5 r) (by omega)
    omega)
  refine ⟨q.1, fun x y hx hy => ?_, ?_⟩
  · rw [q.2.1, ← leaf_hit hV hr hf]
    constructor
    · rintro (z | ⟨b, hb, z1, z2, z3⟩)
      · exact Or.inl z
      · have d1 := valP_dm (cm := 3) (by omega) (hl.1 b hb) 8 (g 4 r) (by omega)
        have d2 := valP_dm (cm := 3) (by omega) (hl.1 b hb) 8 (g 5 r) (by omega)
        exact Or.inr ⟨b, hb, by omega, by omega⟩
    · rintro (z | ⟨b, hb, z1, z2⟩)
      · exact Or.inl z
      · exact Or.inr ⟨b, hb, by omega, by omega, by omega⟩
  · rcases q.2.2 with ⟨z1, z2⟩ | ⟨z1, z2⟩
    · refine Or.inr ⟨z2, ?_⟩
      intro ⟨θ, t1, t2⟩
      obtain ⟨b, hb, _⟩ := (hl.2 θ).mpr ⟨t1, t2⟩
      rw [z1] at hb
      cases hb
    · refine Or.inl ⟨z2, ?_⟩
      obtain ⟨b, hb⟩ := List.exists_mem_of_ne_nil _ z1
      exact ⟨_, (hl.2 _).mp ⟨b, hb, th_sol (cm := 3) (d := 0) (by omega) (hl.1 b hb)⟩⟩
/-- what is said of tables and rules is said of places 0 to 9 -/
theorem db_eq {g g2 : xG} (h : ∀ k, k ≤ 9 → g2 k = g k) : (∀ r, safG g2 r ↔ safG g r) ∧ (∀ r θ, Mat g2 r θ ↔ Mat g r θ) ∧ (Val g2 ↔ Val g) ∧ (∀ x y, CertS g2 x y ↔ CertS g x y) ∧ (∀ x y, PossS g2 x y ↔ PossS g x y) ∧ (SomeS g2 ↔ SomeS g) ∧ (∀ r x y, HitR g2 r x y ↔ HitR g r x y) ∧ (∀ r x y, PosR g2 r x y ↔ PosR g r x y) := by
  have h0 := h 0 (by decide)
  have h1 := h 1 (by decide)
  have h2 := h 2 (by decide)
  have h3 := h 3 (by decide)
  have h4 := h 4 (by decide)
  have h5 := h 5 (by decide)
  have h6 := h 6 (by decide)
  have h7 := h 7 (by decide)
  have h8 := h 8 (by decide)
  have h9 := h 9 (by decide)
  refine ⟨fun r => ?_, fun r θ => ?_, ?_, fun x y => ?_, fun x y => ?_, ?_, fun r x y => ?_, fun r x y => ?_⟩
  · simp only [safG, inBd, h4, h5, h6, h8, h9]
  · simp only [Mat, MatA, h0, h1, h2, h6, h7, h8, h9]
  · simp only [Val, h0, h1, h2, h3, h4, h5, h6, h7, h8, h9]
  · simp only [CertS, AnsK, safG, inBd, Mat, MatA, h0, h1, h2, h3, h4, h5, h6, h7, h8, h9]
  · simp only [PossS, AnsK, safG, inBd, Mat, MatA, h0, h1, h2, h3, h4, h5, h6, h7, h8, h9]
  · simp only [SomeS, AnsK, safG, inBd, Mat, MatA, h0, h1, h2, h3, h4, h5, h6, h7, h8, h9]
  · simp only [HitR, Mat, MatA, h0, h1, h2, h3, h4, h5, h6, h7, h8, h9]
  · simp only [PosR, Mat, MatA, h0, h1, h2, h3, h4, h5, h6, h7, h8, h9]
/-- what is kept of earlier work is right -/
def CacheOK (u : xSt) : Prop := (∀ x y, (0 ≤ x ∧ x ≤ 6) → (0 ≤ y ∧ y ≤ 6) → (bitL u.2 (7 * x + y).toNat = true ↔ CertS u.1 x y)) ∧ ((u.1 19 0 = 1 ∧ SomeS u.1) ∨ (u.1 19 0 = 0 ∧ ¬ SomeS u.1))
/-- the class's own state is well formed -/
def XI (u : xSt) : Prop := Rng u.1 ∧ Val u.1 ∧ (cod (u.1 14 0) ∧ cod (u.1 15 0)) ∧ (u.1 17 0 ≠ 0 → CacheOK u)
/-- behind i rules of an evaluation -/
def evI (i : Int) (w : xSt) : Prop := Rng w.1 ∧ Val w.1 ∧ (cod (w.1 14 0) ∧ cod (w.1 15 0)) ∧ w.1 17 0 = 1 ∧ w.1 13 0 = 1 ∧ w.1 16 0 = 0 ∧
  (∀ x y, (0 ≤ x ∧ x ≤ 6) → (0 ≤ y ∧ y ≤ 6) → (bitL w.2 (7 * x + y).toNat = true ↔ ∃ r, (0 ≤ r ∧ r < i) ∧ safG w.1 r ∧ HitR w.1 r x y)) ∧
  ((w.1 19 0 = 1 ∧ ∃ r, (0 ≤ r ∧ r < i) ∧ safG w.1 r ∧ ∃ θ : Int → Int, (∀ c, c < 20 → θ c = c) ∧ Mat w.1 r θ) ∨ (w.1 19 0 = 0 ∧ ¬ ∃ r, (0 ≤ r ∧ r < i) ∧ safG w.1 r ∧ ∃ θ : Int → Int, (∀ c, c < 20 → θ c = c) ∧ Mat w.1 r θ))
theorem ex_lt {P : Int → Prop} {i : Int} (hi : 0 ≤ i) : (∃ r, (0 ≤ r ∧ r < i + 1) ∧ P r) ↔ ((∃ r, (0 ≤ r ∧ r < i) ∧ P r) ∨ P i) := by
  constructor
  · rintro ⟨r, h1, h2⟩
    by_cases h : r = i
    · exact Or.inr (h ▸ h2)
    · exact Or.inl ⟨r, by omega, h2⟩
  · rintro (⟨r, h1, h2⟩ | h)
    · exact ⟨r, by omega, h2⟩
    · exact ⟨i, by omega, h⟩
theorem evI_skip {i : Int} {w : xSt} (hi : 0 ≤ i) (h : evI i w) (hf : ¬ safG w.1 i) : evI (i + 1) w := by
  obtain ⟨a1, a2, a3, a4, a5, a6, a7, a8⟩ := h
  refine ⟨a1, a2, a3, a4, a5, a6, fun x y hx hy => ?_, ?_⟩
  · rw [a7 x y hx hy, ex_lt hi]
    constructor
    · intro z; exact Or.inl z
    · rintro (z | z)
      · exact z
      · exact absurd z.1 hf
  · rw [ex_lt hi]
    rcases a8 with ⟨b1, b2⟩ | ⟨b1, b2⟩
    · exact Or.inl ⟨b1, Or.inl b2⟩
    · refine Or.inr ⟨b1, ?_⟩
      rintro (z | z)
      · exact b2 z
      · exact hf z.1
theorem evI_step {i : Int} {w w2 : xSt} (hi : 0 ≤ i ∧ i < w.1 3 0) (h : evI i w) (hf : safG w.1 i) (hk : kpM w w2) (hfs : fsO w2 = runF w.1 i (lvs w.1 (frP w.1) i (w.1 6 i).toNat 0 (fun j => if 0 ≤ j ∧ j < 7 then -1 else w.1 10 j)) (fsO w)) : evI (i + 1) w2 := by
  obtain ⟨a1, a2, a3, a4, a5, a6, a7, a8⟩ := h
  have hfr : frP w.1 = 20 := by unfold frP; rw [if_neg (by omega)]
  rw [hfr] at hfs
  have q := st_run a2 hi hf (by omega) (fsO w) a6
  rw [← hfs] at q
  have db := db_eq (g := w.1) (g2 := w2.1) (fun k hk9 => hk.1 k (by unfold kN; omega))
  refine ⟨hk.2.2, db.2.2.1.mpr a2, by rw [hk.1 14 (by decide), hk.1 15 (by decide)]; exact a3, by rw [hk.1 17 (by decide)]; exact a4, by rw [hk.1 13 (by decide)]; exact a5, q.1, fun x y hx hy => ?_, ?_⟩
  · rw [ex_lt hi.1]
    have e1 : (∃ r, (0 ≤ r ∧ r < i) ∧ safG w2.1 r ∧ HitR w2.1 r x y) ↔ ∃ r, (0 ≤ r ∧ r < i) ∧ safG w.1 r ∧ HitR w.1 r x y := by simp only [db.1, db.2.2.2.2.2.2.1]
    rw [e1, db.1, db.2.2.2.2.2.2.1, ← a7 x y hx hy]
    refine (q.2.1 x y hx hy).trans ⟨?_, ?_⟩
    · rintro (z | z)
      · exact Or.inl z
      · exact Or.inr ⟨hf, z⟩
    · rintro (z | z)
      · exact Or.inl z
      · exact Or.inr z.2
  · rw [ex_lt hi.1]
    have e1 : (∃ r, (0 ≤ r ∧ r < i) ∧ safG w2.1 r ∧ ∃ θ : Int → Int, (∀ c, c < 20 → θ c = c) ∧ Mat w2.1 r θ) ↔ ∃ r, (0 ≤ r ∧ r < i) ∧ safG w.1 r ∧ ∃ θ : Int → Int, (∀ c, c < 20 → θ c = c) ∧ Mat w.1 r θ := by simp only [db.1, db.2.1]
    have e2 : (safG w2.1 i ∧ ∃ θ : Int → Int, (∀ c, c < 20 → θ c = c) ∧ Mat w2.1 i θ) ↔ (safG w.1 i ∧ ∃ θ : Int → Int, (∀ c, c < 20 → θ c = c) ∧ Mat w.1 i θ) := by simp only [db.1, db.2.1]
    rw [e1, e2]
    rcases q.2.2 with ⟨z1, z2⟩ | ⟨z1, z2⟩
    · exact Or.inl ⟨z1, Or.inr ⟨hf, z2⟩⟩
    · have z1 : w2.1 19 0 = w.1 19 0 := z1
      rw [z1]
      rcases a8 with ⟨b1, b2⟩ | ⟨b1, b2⟩
      · exact Or.inl ⟨b1, Or.inl b2⟩
      · refine Or.inr ⟨b1, ?_⟩
        rintro (z | z)
        · exact b2 z
        · exact z2 z.2
theorem evI_end {w : xSt} (h : evI (w.1 3 0) w) : XI w ∧ w.1 17 0 = 1 := by
  obtain ⟨a1, a2, a3, a4, a5, a6, a7, a8⟩ := h
  refine ⟨⟨a1, a2, a3, fun _ => ⟨fun x y hx hy => ?_, ?_⟩⟩, a4⟩
  · rw [a7 x y hx hy]
    exact cert_iff a2 hx hy
  · rw [← some_iff a2]
    exact a8
/-- behind i rules of 'possible' -/
def poI (i x y : Int) (w : xSt) : Prop := Rng w.1 ∧ Val w.1 ∧ w.1 13 0 = 0 ∧ w.1 14 0 = x ∧ w.1 15 0 = y ∧ ((w.1 16 0 = 1 ∧ ∃ r, (0 ≤ r ∧ r < i) ∧ safG w.1 r ∧ PosR w.1 r x y) ∨ (w.1 16 0 = 0 ∧ ¬ ∃ r, (0 ≤ r ∧ r < i) ∧ safG w.1 r ∧ PosR w.1 r x y))
theorem poI_skip {i x y : Int} {w : xSt} (hi : 0 ≤ i) (h : poI i x y w) (hf : w.1 16 0 ≠ 0 ∨ ¬ safG w.1 i) : poI (i + 1) x y w := by
  obtain ⟨a1, a2, a3, a4, a5, a6⟩ := h
  refine ⟨a1, a2, a3, a4, a5, ?_⟩
  rw [ex_lt hi]
  rcases a6 with ⟨b1, b2⟩ | ⟨b1, b2⟩
  · exact Or.inl ⟨b1, Or.inl b2⟩
  · refine Or.inr ⟨b1, ?_⟩
    rintro (z | z)
    · exact b2 z
    · rcases hf with hf | hf
      · exact hf b1
      · exact hf z.1
theorem poI_step {i x y : Int} {w w2 : xSt} (hx : 0 ≤ x ∧ x ≤ 6) (hy : 0 ≤ y ∧ y ≤ 6) (hi : 0 ≤ i ∧ i < w.1 3 0) (h : poI i x y w) (h0 : w.1 16 0 = 0) (hf : safG w.1 i) (hk : kpM w w2) (hfs : fsO w2 = runF w.1 i (lvs w.1 (frP w.1) i (w.1 6 i).toNat 0 (fun j => if 0 ≤ j ∧ j < 7 then -1 else w.1 10 j)) (fsO w)) : poI (i + 1) x y w2 ∧ w2.2 = w.2 ∧ w2.1 19 0 = w.1 19 0 := by
  obtain ⟨a1, a2, a3, a4, a5, a6⟩ := h
  have hfr : frP w.1 = 10 := by unfold frP; rw [if_pos a3]
  rw [hfr] at hfs
  have q := pos_run a2 hi a3 (by rw [a4]; exact hx) (by rw [a5]; exact hy) (fsO w) h0
  rw [← hfs] at q
  have db := db_eq (g := w.1) (g2 := w2.1) (fun k hk9 => hk.1 k (by unfold kN; omega))
  have q1 := q.1
  have c1 : w2.2 = w.2 := congrArg Prod.fst q1
  have c2 : w2.1 19 0 = w.1 19 0 := congrArg Prod.snd q1
  refine ⟨⟨hk.2.2, db.2.2.1.mpr a2, by rw [hk.1 13 (by decide)]; exact a3, by rw [hk.1 14 (by decide)]; exact a4, by rw [hk.1 15 (by decide)]; exact a5, ?_⟩, c1, c2⟩
  rw [ex_lt hi.1]
  have e1 : (∃ r, (0 ≤ r ∧ r < i) ∧ safG w2.1 r ∧ PosR w2.1 r x y) ↔ ∃ r, (0 ≤ r ∧ r < i) ∧ safG w.1 r ∧ PosR w.1 r x y := by simp only [db.1, db.2.2.2.2.2.2.2]
  rw [e1, db.1, db.2.2.2.2.2.2.2]
  have q2 := q.2
  rw [a4, a5] at q2
  rcases q2 with ⟨z1, z2⟩ | ⟨z1, z2⟩
  · exact Or.inl ⟨z1, Or.inr ⟨hf, z2⟩⟩
  · refine Or.inr ⟨z1, ?_⟩
    rintro (z | z)
    · rcases a6 with ⟨b1, b2⟩ | ⟨b1, b2⟩
      · omega
      · exact b2 z
    · exact z2 z.2
def cntB (f : Nat → Bool) : Nat → Int
  | 0 => 0
  | n + 1 => cntB f n + (if f n = true then 1 else 0)
theorem cntB_r (f : Nat → Bool) : ∀ n, 0 ≤ cntB f n ∧ cntB f n ≤ n := by
  intro n
  induction n with
  | zero => exact ⟨Int.le_refl _, Int.le_refl _⟩
  | succ n ih =>
    show 0 ≤ cntB f n + (if f n = true then 1 else 0) ∧ cntB f n + (if f n = true then 1 else 0) ≤ _
    split <;> omega
end
section
set_option maxRecDepth 100000
section XR
variable {p : Program} {l : Launch} {e : Env} {R : Room} {s : State} {m : MethodId} {args : Array Value} {below : List Frame} {meth : Method} {c : Code} {H : Heap} {locs : List Loc} {cells slots : Nat} {Q : State → Prop} {pc : Nat} {ls : Array Slot} {rest : List Value}
theorem xi_re {x y : Int32} (h : x = y) (k : W p l e R s m args below meth c H locs cells slots Q (F0 m pc ls (.int y :: rest))) : W p l e R s m args below meth c H locs cells slots Q (F0 m pc ls (.int x :: rest)) := h ▸ k
end XR
theorem cache_eq {u w : xSt} (h : ∀ k, k ≤ 9 → w.1 k = u.1 k) (h2 : w.2 = u.2) (h3 : w.1 19 0 = u.1 19 0) (hc : CacheOK u) : CacheOK w := by
  have db := db_eq h
  refine ⟨fun x y hx hy => ?_, ?_⟩
  · rw [h2, hc.1 x y hx hy]
    exact (db.2.2.2.1 x y).symm
  · rw [h3]
    rcases hc.2 with z | z
    · exact Or.inl ⟨z.1, db.2.2.2.2.2.1.mpr z.2⟩
    · exact Or.inr ⟨z.1, fun q => z.2 (db.2.2.2.2.2.1.mp q)⟩
set_option maxHeartbeats 4000000 in
/-- evaluate -/
theorem cX_evaluate (l : Launch) (D : va_G) (a : xAd) (u : xSt) (hX : XI u) : MXv l D a yX0_evaluate cX0_evaluate 2 ({ frames := 5, cells := 0, slots := 0, locals := 118 } : Room) [] u (fun u2 => XI u2 ∧ u2.1 17 0 ≠ 0 ∧ ∀ k, k ≤ 9 → u2.1 k = u.1 k) := by
  refine enXv (by decide +kernel) rfl (Nat.le_of_ble_eq_true rfl) ?_
  intro p e s m below meth c A Q ls F I hret hl
  have hl : lv_has ls 2 [(0, .ref a.1)] := hl
  have hR := hX.1
  have loop : ∀ (n : Nat) (i : Int) (w : xSt) (H : Heap) (locs : List Loc) (ls : Array Slot), 0 ≤ i → i + n = u.1 3 0 → evI i w → (∀ k, k ≤ 9 → w.1 k = u.1 k) → IX D a A s H locs w → lv_has ls 2 [(1, .int (iI i)), (0, .ref a.1)] → W p l e ({ frames := 5, cells := 0, slots := 0, locals := 118 } : Room) s m (Value.ref a.1 :: []).toArray below meth c H locs 0 0 Q (F0 m 35 ls []) := by
    intro n
    induction n with
    | zero =>
      intro i w H locs ls h0 hn hw hk I hl
      have hR := hw.1
      refine lv_iload_n (pc := 35) F.1.1 F.1.2.1 dX0_evaluate_35 rfl (lv_at hl 0 rfl) ?_
      refine lv_aload_n (pc := 36) F.1.1 F.1.2.1 dX0_evaluate_36 rfl (lv_at hl 1 rfl) ?_
      refine gX_3 (pc := 37) F I dX0_evaluate_37 (fun v1 hv1 => ?_)
      have rv1 : -1 ≤ v1 ∧ v1 ≤ 127 := by rw [hv1]; exact hR 3 0
      have ev1 : v1 = u.1 3 0 := by rw [hv1, hk 3 (by decide)]
      refine xi_cge (pc := 40) (tgt := 62) F.1 (by omega) dX0_evaluate_40 (by decide) (fun c2 => ?_) (fun c2 => ?_)
      · exact hret w _ _ ((by have q := evI_end (w := w) (by rw [hk 3 (by decide), ← show i = u.1 3 0 by omega]; exact hw); exact ⟨q.1, by have := q.2; omega, hk⟩)) I _ _ dX0_evaluate_62
      · exfalso; omega
    | succ n ih =>
      intro i w H locs ls h0 hn hw hk I hl
      have hR := hw.1
      have h3 := hw.2.1.2.1
      have hr : 0 ≤ i ∧ i < w.1 3 0 := by rw [hk 3 (by decide)]; omega
      have hq := hw.2.1.2.2 i hr.1 hr.2
      refine lv_iload_n (pc := 35) F.1.1 F.1.2.1 dX0_evaluate_35 rfl (lv_at hl 0 rfl) ?_
      refine lv_aload_n (pc := 36) F.1.1 F.1.2.1 dX0_evaluate_36 rfl (lv_at hl 1 rfl) ?_
      refine gX_3 (pc := 37) F I dX0_evaluate_37 (fun v1 hv1 => ?_)
      have rv1 : -1 ≤ v1 ∧ v1 ≤ 127 := by rw [hv1]; exact hR 3 0
      have ev1 : v1 = u.1 3 0 := by rw [hv1, hk 3 (by decide)]
      refine xi_cge (pc := 40) (tgt := 62) F.1 (by omega) dX0_evaluate_40 (by decide) (fun c2 => ?_) (fun c2 => ?_)
      · exfalso; omega
      · refine lv_aload_n (pc := 43) F.1.1 F.1.2.1 dX0_evaluate_43 rfl (lv_at hl 1 rfl) ?_
        refine lv_iload_n (pc := 44) F.1.1 F.1.2.1 dX0_evaluate_44 rfl (lv_at hl 0 rfl) ?_
        refine caXi (pc := 45) (As := [.int (iI i)]) (rest := []) F I (cX_isSafe l D a w i (by omega) ⟨hq.2.2.1, hq.2.2.2.1⟩ hR) (lw_V q136 q138 qs3 q24 q139) hdX_isSafe ⟨rfl, rfl⟩ ⟨Nat.le_of_ble_eq_true rfl, Nat.le_of_ble_eq_true rfl⟩ hl.1 rfl (Nat.le_of_ble_eq_true rfl) ⟨Nat.zero_le _, Nat.zero_le _⟩ dX0_evaluate_45 (fun r4 u3 H locs hp4 I => ?_)
        rw [hp4.1] at I
        have hr4 := hp4.2
        refine xi_zeq (pc := 48) (tgt := 56) F.1 (by omega) dX0_evaluate_48 (by decide) (fun c5 => ?_) (fun c5 => ?_)
        · refine xi_iinc (pc := 56) (lv' := [(1, .int (iI (i + 1))), (0, .ref a.1)]) F.1 dX0_evaluate_56 hl (k := 0) rfl (by decide) rfl (fun ls hl => ?_)
          refine lv_goto (pc := 59) (tgt := 35) F.1.1 F.1.2.1 dX0_evaluate_59 (by decide) ?_
          exact ih (i + 1) w _ _ ls (by omega) (by omega) (evI_skip h0 hw (hr4.elim (fun z => absurd z.1 (by omega)) (fun z => z.2))) hk I hl
        · refine lv_aload_n (pc := 51) F.1.1 F.1.2.1 dX0_evaluate_51 rfl (lv_at hl 1 rfl) ?_
          refine lv_iload_n (pc := 52) F.1.1 F.1.2.1 dX0_evaluate_52 rfl (lv_at hl 0 rfl) ?_
          refine caXv (pc := 53) (As := [.int (iI i)]) (rest := []) F I (cX_matchRule l D a w i hw.2.1 hr hw.2.2.1 hw.2.2.2.2.2.1 hR) (lw_V q144 q146 qs5 q24 q147) hdX_matchRule ⟨rfl, rfl⟩ ⟨Nat.le_of_ble_eq_true rfl, Nat.le_of_ble_eq_true rfl⟩ hl.1 rfl (Nat.le_of_ble_eq_true rfl) ⟨Nat.zero_le _, Nat.zero_le _⟩ dX0_evaluate_53 (fun u6 H locs hp6 I => ?_)
          have hR : Rng u6.1 := hp6.1.2.2
          refine xi_iinc (pc := 56) (lv' := [(1, .int (iI (i + 1))), (0, .ref a.1)]) F.1 dX0_evaluate_56 hl (k := 0) rfl (by decide) rfl (fun ls hl => ?_)
          refine lv_goto (pc := 59) (tgt := 35) F.1.1 F.1.2.1 dX0_evaluate_59 (by decide) ?_
          exact ih (i + 1) u6 _ _ ls (by omega) (by omega) (evI_step hr hw (hr4.elim (fun z => z.2) (fun z => absurd z.1 (by omega))) hp6.1 hp6.2) (fun k hk9 => (hp6.1.1 k (by unfold kN; omega)).trans (hk k hk9)) I hl
  refine lv_aload_n (pc := 0) F.1.1 F.1.2.1 dX0_evaluate_0 rfl (lv_at hl 0 rfl) ?_
  refine gX_17 (pc := 1) F I dX0_evaluate_1 (fun v1 hv1 => ?_)
  have rv1 : -1 ≤ v1 ∧ v1 ≤ 127 := by rw [hv1]; exact hR 17 0
  refine xi_zeq (pc := 4) (tgt := 8) F.1 (by omega) dX0_evaluate_4 (by decide) (fun c2 => ?_) (fun c2 => ?_)
  · refine lv_aload_n (pc := 8) F.1.1 F.1.2.1 dX0_evaluate_8 rfl (lv_at hl 0 rfl) ?_
    refine xi_ic (pc := 9) F.1 dX0_evaluate_9 ?_
    refine pX_17 (pc := 10) F I (by omega) dX0_evaluate_10 (fun u3 H locs hu3 I => ?_)
    have hR : Rng u3.1 := by rw [hu3]; exact Rng_up hR (by omega)
    refine lv_aload_n (pc := 13) F.1.1 F.1.2.1 dX0_evaluate_13 rfl (lv_at hl 0 rfl) ?_
    refine xi_ic (pc := 14) F.1 dX0_evaluate_14 ?_
    refine pX_13 (pc := 15) F I (by omega) dX0_evaluate_15 (fun u4 H locs hu4 I => ?_)
    have hR : Rng u4.1 := by rw [hu4]; exact Rng_up hR (by omega)
    refine lv_aload_n (pc := 18) F.1.1 F.1.2.1 dX0_evaluate_18 rfl (lv_at hl 0 rfl) ?_
    refine lv_lconst (v := 0) (pc := 19) F.1.1 F.1.2.1 dX0_evaluate_19 rfl ?_
    refine pX_18 (pc := 20) F I dX0_evaluate_20 (fun u5 H locs hu5 I => ?_)
    have hR : Rng u5.1 := by rw [hu5]; exact hR
    refine lv_aload_n (pc := 23) F.1.1 F.1.2.1 dX0_evaluate_23 rfl (lv_at hl 0 rfl) ?_
    refine xi_ic (pc := 24) F.1 dX0_evaluate_24 ?_
    refine pX_19 (pc := 25) F I (by omega) dX0_evaluate_25 (fun u6 H locs hu6 I => ?_)
    have hR : Rng u6.1 := by rw [hu6]; exact Rng_up hR (by omega)
    refine lv_aload_n (pc := 28) F.1.1 F.1.2.1 dX0_evaluate_28 rfl (lv_at hl 0 rfl) ?_
    refine xi_ic (pc := 29) F.1 dX0_evaluate_29 ?_
    refine pX_16 (pc := 30) F I (by omega) dX0_evaluate_30 (fun u7 H locs hu7 I => ?_)
    have hR : Rng u7.1 := by rw [hu7]; exact Rng_up hR (by omega)
    refine xi_ic (pc := 33) F.1 dX0_evaluate_33 ?_
    refine lv_istore_n (pc := 34) (lv' := [(1, .int (iI 0)), (0, .ref a.1)]) F.1.1 F.1.2.1 dX0_evaluate_34 rfl hl (by decide) rfl (fun ls hl => ?_)
    have k9 : ∀ k, k ≤ 9 → u7.1 k = u.1 k := fun k hk => by rw [hu7, hu6, hu5, hu4, hu3]; exact (up_o _ _ _ (by omega)).trans ((up_o _ _ _ (by omega)).trans ((up_o _ _ _ (by omega)).trans (up_o _ _ _ (by omega))))
    have db := db_eq k9
    have c2 : u7.2 = 0 := by rw [hu7, hu6, hu5, hu4, hu3]
    have c13 : u7.1 13 0 = 1 := by rw [hu7, hu6, hu5, hu4, hu3]; rfl
    have c14 : u7.1 14 = u.1 14 := by rw [hu7, hu6, hu5, hu4, hu3]; rfl
    have c15 : u7.1 15 = u.1 15 := by rw [hu7, hu6, hu5, hu4, hu3]; rfl
    have c16 : u7.1 16 0 = 0 := by rw [hu7, hu6, hu5, hu4, hu3]; rfl
    have c17 : u7.1 17 0 = 1 := by rw [hu7, hu6, hu5, hu4, hu3]; rfl
    have c19 : u7.1 19 0 = 0 := by rw [hu7, hu6, hu5, hu4, hu3]; rfl
    have h3 := hX.2.1.2.1
    obtain ⟨n, hn⟩ := Int.eq_ofNat_of_zero_le h3.1
    refine loop n 0 u7 _ _ ls (by omega) (by omega) ⟨hR, db.2.2.1.mpr hX.2.1, by rw [c14, c15]; exact hX.2.2.1, c17, c13, c16, fun x y hx hy => ?_, Or.inr ⟨c19, ?_⟩⟩ k9 I hl
    · rw [c2, bitL_0]
      constructor
      · intro z; cases z
      · rintro ⟨r, hr, _⟩; omega
    · rintro ⟨r, hr, _⟩; omega
  · exact hret u _ _ (⟨hX, by omega, fun _ _ => rfl⟩) I _ _ dX0_evaluate_7
set_option maxHeartbeats 4000000 in
/-- possible -/
theorem cX_possible (l : Launch) (D : va_G) (a : xAd) (u : xSt) (x y : Int) (hX : XI u) (hx : i32 x) (hy : i32 y) : MXi l D a yX0_possible cX0_possible 4 (some .boolean) ({ frames := 5, cells := 0, slots := 0, locals := 118 } : Room) [.int (iI x), .int (iI y)] u (fun r u2 => XI u2 ∧ (∀ k, k ≤ 9 → u2.1 k = u.1 k) ∧ ((r = 1 ∧ ((0 ≤ x ∧ x ≤ 6) ∧ 0 ≤ y ∧ y ≤ 6) ∧ PossS u.1 x y) ∨ (r = 0 ∧ ¬ (((0 ≤ x ∧ x ≤ 6) ∧ 0 ≤ y ∧ y ≤ 6) ∧ PossS u.1 x y)))) := by
  refine enXz (by decide +kernel) rfl (Nat.le_of_ble_eq_true rfl) ?_
  intro p e s m below meth c A Q ls F I hret hl
  have hl : lv_has ls 4 [(0, .ref a.1), (1, .int (iI x)), (2, .int (iI y))] := hl
  have hR := hX.1
  have loop : ((0 ≤ x ∧ x ≤ 6) ∧ 0 ≤ y ∧ y ≤ 6) → ∀ (n : Nat) (i : Int) (w : xSt) (H : Heap) (locs : List Loc) (ls : Array Slot), 0 ≤ i → i + n = u.1 3 0 → poI i x y w → (∀ k, k ≤ 9 → w.1 k = u.1 k) → w.1 17 = u.1 17 → w.2 = u.2 → w.1 19 0 = u.1 19 0 → IX D a A s H locs w → lv_has ls 4 [(3, .int (iI i)), (0, .ref a.1), (1, .int (iI x)), (2, .int (iI y))] → W p l e ({ frames := 5, cells := 0, slots := 0, locals := 118 } : Room) s m (Value.ref a.1 :: [.int (iI x), .int (iI y)]).toArray below meth c H locs 0 0 Q (F0 m 44 ls []) := by
    intro hxy n
    induction n with
    | zero =>
      intro i w H locs ls h0 hn hw hk k17 k2 k19 I hl
      have hR := hw.1
      have hi : i = u.1 3 0 := by omega
      have db := db_eq hk
      refine lv_iload_n (pc := 44) F.1.1 F.1.2.1 dX0_possible_44 rfl (lv_at hl 0 rfl) ?_
      refine lv_aload_n (pc := 45) F.1.1 F.1.2.1 dX0_possible_45 rfl (lv_at hl 1 rfl) ?_
      refine gX_3 (pc := 46) F I dX0_possible_46 (fun v1 hv1 => ?_)
      have rv1 : -1 ≤ v1 ∧ v1 ≤ 127 := by rw [hv1]; exact hR 3 0
      have ev1 : v1 = u.1 3 0 := by rw [hv1, hk 3 (by decide)]
      refine xi_cge (pc := 49) (tgt := 78) F.1 (by omega) dX0_possible_49 (by decide) (fun c2 => ?_) (fun c2 => ?_)
      · refine lv_aload_n (pc := 78) F.1.1 F.1.2.1 dX0_possible_78 rfl (lv_at hl 1 rfl) ?_
        refine gX_16 (pc := 79) F I dX0_possible_79 (fun v3 hv3 => ?_)
        have rv3 : -1 ≤ v3 ∧ v3 ≤ 127 := by rw [hv3]; exact hR 16 0
        exact hret v3 w _ _ (by have q := hw.2.2.2.2.2; rcases q with q | q <;> omega) ((by
          have e1 : (∃ r, (0 ≤ r ∧ r < i) ∧ safG w.1 r ∧ PosR w.1 r x y) ↔ PossS u.1 x y := by rw [hi, ← hk 3 (by decide)]; exact poss_iff.trans (db.2.2.2.2.1 x y)
          have q := hw.2.2.2.2.2
          rw [e1, ← hv3] at q
          refine ⟨⟨hw.1, hw.2.1, ⟨by rw [hw.2.2.2.1]; omega, by rw [hw.2.2.2.2.1]; omega⟩, fun q => cache_eq hk k2 k19 (hX.2.2.2 (by rw [← k17]; exact q))⟩, hk, ?_⟩
          rcases q with q | q
          · exact Or.inl ⟨q.1, hxy, q.2⟩
          · exact Or.inr ⟨q.1, fun z => q.2 z.2⟩)) I _ _ dX0_possible_82
      · exfalso; omega
    | succ n ih =>
      intro i w H locs ls h0 hn hw hk k17 k2 k19 I hl
      have hR := hw.1
      have h3 := hw.2.1.2.1
      have hr : 0 ≤ i ∧ i < w.1 3 0 := by rw [hk 3 (by decide)]; omega
      have hq := hw.2.1.2.2 i hr.1 hr.2
      refine lv_iload_n (pc := 44) F.1.1 F.1.2.1 dX0_possible_44 rfl (lv_at hl 0 rfl) ?_
      refine lv_aload_n (pc := 45) F.1.1 F.1.2.1 dX0_possible_45 rfl (lv_at hl 1 rfl) ?_
      refine gX_3 (pc := 46) F I dX0_possible_46 (fun v1 hv1 => ?_)
      have rv1 : -1 ≤ v1 ∧ v1 ≤ 127 := by rw [hv1]; exact hR 3 0
      have ev1 : v1 = u.1 3 0 := by rw [hv1, hk 3 (by decide)]
      refine xi_cge (pc := 49) (tgt := 78) F.1 (by omega) dX0_possible_49 (by decide) (fun c2 => ?_) (fun c2 => ?_)
      · exfalso; omega
      · refine lv_aload_n (pc := 52) F.1.1 F.1.2.1 dX0_possible_52 rfl (lv_at hl 1 rfl) ?_
        refine gX_16 (pc := 53) F I dX0_possible_53 (fun v3 hv3 => ?_)
        have rv3 : -1 ≤ v3 ∧ v3 ≤ 127 := by rw [hv3]; exact hR 16 0
        refine xi_zne (pc := 56) (tgt := 72) F.1 (by omega) dX0_possible_56 (by decide) (fun c4 => ?_) (fun c4 => ?_)
        · refine xi_iinc (pc := 72) (lv' := [(3, .int (iI (i + 1))), (0, .ref a.1), (1, .int (iI x)), (2, .int (iI y))]) F.1 dX0_possible_72 hl (k := 0) rfl (by decide) rfl (fun ls hl => ?_)
          refine lv_goto (pc := 75) (tgt := 44) F.1.1 F.1.2.1 dX0_possible_75 (by decide) ?_
          exact ih (i + 1) w _ _ ls (by omega) (by omega) (poI_skip h0 hw (by first | exact Or.inl (by omega) | exact Or.inr (hw.elim (fun z => absurd z.1 (by omega)) (fun z => z.2)))) hk k17 k2 k19 I hl
        · refine lv_aload_n (pc := 59) F.1.1 F.1.2.1 dX0_possible_59 rfl (lv_at hl 1 rfl) ?_
          refine lv_iload_n (pc := 60) F.1.1 F.1.2.1 dX0_possible_60 rfl (lv_at hl 0 rfl) ?_
          refine caXi (pc := 61) (As := [.int (iI i)]) (rest := []) F I (cX_isSafe l D a w i (by omega) ⟨hq.2.2.1, hq.2.2.2.1⟩ hR) (lw_V q136 q138 qs3 q24 q139) hdX_isSafe ⟨rfl, rfl⟩ ⟨Nat.le_of_ble_eq_true rfl, Nat.le_of_ble_eq_true rfl⟩ hl.1 rfl (Nat.le_of_ble_eq_true rfl) ⟨Nat.zero_le _, Nat.zero_le _⟩ dX0_possible_61 (fun r6 u5 H locs hp6 I => ?_)
          rw [hp6.1] at I
          have hr6 := hp6.2
          refine xi_zeq (pc := 64) (tgt := 72) F.1 (by omega) dX0_possible_64 (by decide) (fun c7 => ?_) (fun c7 => ?_)
          · refine xi_iinc (pc := 72) (lv' := [(3, .int (iI (i + 1))), (0, .ref a.1), (1, .int (iI x)), (2, .int (iI y))]) F.1 dX0_possible_72 hl (k := 0) rfl (by decide) rfl (fun ls hl => ?_)
            refine lv_goto (pc := 75) (tgt := 44) F.1.1 F.1.2.1 dX0_possible_75 (by decide) ?_
            exact ih (i + 1) w _ _ ls (by omega) (by omega) (poI_skip h0 hw (by first | exact Or.inl (by omega) | exact Or.inr (hr6.elim (fun z => absurd z.1 (by omega)) (fun z => z.2)))) hk k17 k2 k19 I hl
          · refine lv_aload_n (pc := 67) F.1.1 F.1.2.1 dX0_possible_67 rfl (lv_at hl 1 rfl) ?_
            refine lv_iload_n (pc := 68) F.1.1 F.1.2.1 dX0_possible_68 rfl (lv_at hl 0 rfl) ?_
            refine caXv (pc := 69) (As := [.int (iI i)]) (rest := []) F I (cX_matchRule l D a w i hw.2.1 hr ⟨by rw [hw.2.2.2.1]; omega, by rw [hw.2.2.2.2.1]; omega⟩ (by omega) hR) (lw_V q144 q146 qs5 q24 q147) hdX_matchRule ⟨rfl, rfl⟩ ⟨Nat.le_of_ble_eq_true rfl, Nat.le_of_ble_eq_true rfl⟩ hl.1 rfl (Nat.le_of_ble_eq_true rfl) ⟨Nat.zero_le _, Nat.zero_le _⟩ dX0_possible_69 (fun u8 H locs hp8 I => ?_)
            have hR : Rng u8.1 := hp8.1.2.2
            have hps := poI_step (by omega) (by omega) hr hw (by omega) (hr6.elim (fun z => z.2) (fun z => absurd z.1 (by omega))) hp8.1 hp8.2
            refine xi_iinc (pc := 72) (lv' := [(3, .int (iI (i + 1))), (0, .ref a.1), (1, .int (iI x)), (2, .int (iI y))]) F.1 dX0_possible_72 hl (k := 0) rfl (by decide) rfl (fun ls hl => ?_)
            refine lv_goto (pc := 75) (tgt := 44) F.1.1 F.1.2.1 dX0_possible_75 (by decide) ?_
            exact ih (i + 1) u8 _ _ ls (by omega) (by omega) hps.1 (fun k hk9 => (hp8.1.1 k (by unfold kN; omega)).trans (hk k hk9)) ((hp8.1.1 17 (by decide)).trans k17) (hps.2.1.trans k2) (hps.2.2.trans k19) I hl
  refine lv_iload_n (pc := 0) F.1.1 F.1.2.1 dX0_possible_0 rfl (lv_at hl 1 rfl) ?_
  refine xi_zlt (pc := 1) (tgt := 20) F.1 (by omega) dX0_possible_1 (by decide) (fun c1 => ?_) (fun c1 => ?_)
  · refine xi_ic (pc := 20) F.1 dX0_possible_20 ?_
    exact hret 0 u _ _ (by omega) (⟨hX, fun _ _ => rfl, Or.inr ⟨rfl, fun z => by omega⟩⟩) I _ _ dX0_possible_21
  · refine lv_iload_n (pc := 4) F.1.1 F.1.2.1 dX0_possible_4 rfl (lv_at hl 1 rfl) ?_
    refine xi_bp (pc := 5) F.1 dX0_possible_5 (by decide) ?_
    refine xi_cgt (pc := 7) (tgt := 20) F.1 (by omega) dX0_possible_7 (by decide) (fun c2 => ?_) (fun c2 => ?_)
    · refine xi_ic (pc := 20) F.1 dX0_possible_20 ?_
      exact hret 0 u _ _ (by omega) (⟨hX, fun _ _ => rfl, Or.inr ⟨rfl, fun z => by omega⟩⟩) I _ _ dX0_possible_21
    · refine lv_iload_n (pc := 10) F.1.1 F.1.2.1 dX0_possible_10 rfl (lv_at hl 2 rfl) ?_
      refine xi_zlt (pc := 11) (tgt := 20) F.1 (by omega) dX0_possible_11 (by decide) (fun c3 => ?_) (fun c3 => ?_)
      · refine xi_ic (pc := 20) F.1 dX0_possible_20 ?_
        exact hret 0 u _ _ (by omega) (⟨hX, fun _ _ => rfl, Or.inr ⟨rfl, fun z => by omega⟩⟩) I _ _ dX0_possible_21
      · refine lv_iload_n (pc := 14) F.1.1 F.1.2.1 dX0_possible_14 rfl (lv_at hl 2 rfl) ?_
        refine xi_bp (pc := 15) F.1 dX0_possible_15 (by decide) ?_
        refine xi_cle (pc := 17) (tgt := 22) F.1 (by omega) dX0_possible_17 (by decide) (fun c4 => ?_) (fun c4 => ?_)
        · refine lv_aload_n (pc := 22) F.1.1 F.1.2.1 dX0_possible_22 rfl (lv_at hl 0 rfl) ?_
          refine xi_ic (pc := 23) F.1 dX0_possible_23 ?_
          refine pX_13 (pc := 24) F I (by omega) dX0_possible_24 (fun u5 H locs hu5 I => ?_)
          have hR : Rng u5.1 := by rw [hu5]; exact Rng_up hR (by omega)
          refine lv_aload_n (pc := 27) F.1.1 F.1.2.1 dX0_possible_27 rfl (lv_at hl 0 rfl) ?_
          refine lv_iload_n (pc := 28) F.1.1 F.1.2.1 dX0_possible_28 rfl (lv_at hl 1 rfl) ?_
          refine pX_14 (pc := 29) F I dX0_possible_29 (fun u6 H locs hu6 I => ?_)
          have hR : Rng u6.1 := by rw [hu6]; exact Rng_up hR (by omega)
          refine lv_aload_n (pc := 32) F.1.1 F.1.2.1 dX0_possible_32 rfl (lv_at hl 0 rfl) ?_
          refine lv_iload_n (pc := 33) F.1.1 F.1.2.1 dX0_possible_33 rfl (lv_at hl 2 rfl) ?_
          refine pX_15 (pc := 34) F I dX0_possible_34 (fun u7 H locs hu7 I => ?_)
          have hR : Rng u7.1 := by rw [hu7]; exact Rng_up hR (by omega)
          refine lv_aload_n (pc := 37) F.1.1 F.1.2.1 dX0_possible_37 rfl (lv_at hl 0 rfl) ?_
          refine xi_ic (pc := 38) F.1 dX0_possible_38 ?_
          refine pX_16 (pc := 39) F I (by omega) dX0_possible_39 (fun u8 H locs hu8 I => ?_)
          have hR : Rng u8.1 := by rw [hu8]; exact Rng_up hR (by omega)
          refine xi_ic (pc := 42) F.1 dX0_possible_42 ?_
          refine lv_istore_n (pc := 43) (lv' := [(3, .int (iI 0)), (0, .ref a.1), (1, .int (iI x)), (2, .int (iI y))]) F.1.1 F.1.2.1 dX0_possible_43 rfl hl (by decide) rfl (fun ls hl => ?_)
          have k9 : ∀ k, k ≤ 9 → u8.1 k = u.1 k := fun k hk => by rw [hu8, hu7, hu6, hu5]; exact (up_o _ _ _ (by omega)).trans ((up_o _ _ _ (by omega)).trans ((up_o _ _ _ (by omega)).trans (up_o _ _ _ (by omega))))
          have db := db_eq k9
          have c2 : u8.2 = u.2 := by rw [hu8, hu7, hu6, hu5]
          have c13 : u8.1 13 0 = 0 := by rw [hu8, hu7, hu6, hu5]; rfl
          have c14 : u8.1 14 0 = x := by rw [hu8, hu7, hu6, hu5]; rfl
          have c15 : u8.1 15 0 = y := by rw [hu8, hu7, hu6, hu5]; rfl
          have c16 : u8.1 16 0 = 0 := by rw [hu8, hu7, hu6, hu5]; rfl
          have c17 : u8.1 17 = u.1 17 := by rw [hu8, hu7, hu6, hu5]; rfl
          have c19 : u8.1 19 0 = u.1 19 0 := by rw [hu8, hu7, hu6, hu5]; rfl
          have h3 := hX.2.1.2.1
          obtain ⟨n, hn⟩ := Int.eq_ofNat_of_zero_le h3.1
          refine loop (by omega) n 0 u8 _ _ ls (by omega) (by omega) ⟨hR, db.2.2.1.mpr hX.2.1, c13, c14, c15, Or.inr ⟨c16, ?_⟩⟩ k9 c17 c2 c19 I hl
          rintro ⟨r, hr, _⟩; omega
        · refine xi_ic (pc := 20) F.1 dX0_possible_20 ?_
          exact hret 0 u _ _ (by omega) (⟨hX, fun _ _ => rfl, Or.inr ⟨rfl, fun z => by omega⟩⟩) I _ _ dX0_possible_21
set_option maxHeartbeats 4000000 in
/-- certain -/
theorem cX_certain (l : Launch) (D : va_G) (a : xAd) (u : xSt) (x y : Int) (hX : XI u) (hx : i32 x) (hy : i32 y) : MXi l D a yX0_certain cX0_certain 3 (some .boolean) ({ frames := 6, cells := 0, slots := 0, locals := 139 } : Room) [.int (iI x), .int (iI y)] u (fun r u2 => XI u2 ∧ (∀ k, k ≤ 9 → u2.1 k = u.1 k) ∧ ((r = 1 ∧ ((0 ≤ x ∧ x ≤ 6) ∧ 0 ≤ y ∧ y ≤ 6) ∧ CertS u.1 x y) ∨ (r = 0 ∧ ¬ (((0 ≤ x ∧ x ≤ 6) ∧ 0 ≤ y ∧ y ≤ 6) ∧ CertS u.1 x y)))) := by
  refine enXz (by decide +kernel) rfl (Nat.le_of_ble_eq_true rfl) ?_
  intro p e s m below meth c A Q ls F I hret hl
  have hl : lv_has ls 3 [(0, .ref a.1), (1, .int (iI x)), (2, .int (iI y))] := hl
  have hR := hX.1
  refine lv_iload_n (pc := 0) F.1.1 F.1.2.1 dX0_certain_0 rfl (lv_at hl 1 rfl) ?_
  refine xi_zlt (pc := 1) (tgt := 20) F.1 (by omega) dX0_certain_1 (by decide) (fun c1 => ?_) (fun c1 => ?_)
  · refine xi_ic (pc := 20) F.1 dX0_certain_20 ?_
    exact hret 0 u _ _ (by omega) (⟨hX, fun _ _ => rfl, Or.inr ⟨rfl, fun z => by omega⟩⟩) I _ _ dX0_certain_21
  · refine lv_iload_n (pc := 4) F.1.1 F.1.2.1 dX0_certain_4 rfl (lv_at hl 1 rfl) ?_
    refine xi_bp (pc := 5) F.1 dX0_certain_5 (by decide) ?_
    refine xi_cgt (pc := 7) (tgt := 20) F.1 (by omega) dX0_certain_7 (by decide) (fun c2 => ?_) (fun c2 => ?_)
    · refine xi_ic (pc := 20) F.1 dX0_certain_20 ?_
      exact hret 0 u _ _ (by omega) (⟨hX, fun _ _ => rfl, Or.inr ⟨rfl, fun z => by omega⟩⟩) I _ _ dX0_certain_21
    · refine lv_iload_n (pc := 10) F.1.1 F.1.2.1 dX0_certain_10 rfl (lv_at hl 2 rfl) ?_
      refine xi_zlt (pc := 11) (tgt := 20) F.1 (by omega) dX0_certain_11 (by decide) (fun c3 => ?_) (fun c3 => ?_)
      · refine xi_ic (pc := 20) F.1 dX0_certain_20 ?_
        exact hret 0 u _ _ (by omega) (⟨hX, fun _ _ => rfl, Or.inr ⟨rfl, fun z => by omega⟩⟩) I _ _ dX0_certain_21
      · refine lv_iload_n (pc := 14) F.1.1 F.1.2.1 dX0_certain_14 rfl (lv_at hl 2 rfl) ?_
        refine xi_bp (pc := 15) F.1 dX0_certain_15 (by decide) ?_
        refine xi_cle (pc := 17) (tgt := 22) F.1 (by omega) dX0_certain_17 (by decide) (fun c4 => ?_) (fun c4 => ?_)
        · refine lv_aload_n (pc := 22) F.1.1 F.1.2.1 dX0_certain_22 rfl (lv_at hl 0 rfl) ?_
          refine caXv (pc := 23) (As := []) (rest := []) F I (cX_evaluate l D a u hX) (lw_V q132 q134 qs2 q24 q135) hdX_evaluate ⟨rfl, rfl⟩ ⟨Nat.le_of_ble_eq_true rfl, Nat.le_of_ble_eq_true rfl⟩ hl.1 rfl (Nat.le_of_ble_eq_true rfl) ⟨Nat.zero_le _, Nat.zero_le _⟩ dX0_certain_23 (fun u5 H locs hp5 I => ?_)
          have hR : Rng u5.1 := hp5.1.1
          have hca := hp5.1.2.2.2 hp5.2.1
          have db := db_eq hp5.2.2
          refine lv_aload_n (pc := 26) F.1.1 F.1.2.1 dX0_certain_26 rfl (lv_at hl 0 rfl) ?_
          refine gX_18 (pc := 27) F I dX0_certain_27 (fun v6 hv6 => ?_)
          refine xi_bp (pc := 30) F.1 dX0_certain_30 (by decide) ?_
          refine lv_iload_n (pc := 32) F.1.1 F.1.2.1 dX0_certain_32 rfl (lv_at hl 1 rfl) ?_
          refine xi_imul (pc := 33) F.1 dX0_certain_33 ?_
          refine lv_iload_n (pc := 34) F.1.1 F.1.2.1 dX0_certain_34 rfl (lv_at hl 2 rfl) ?_
          refine xi_iadd (pc := 35) F.1 dX0_certain_35 ?_
          refine lv_lushr (pc := 36) F.1.1 F.1.2.1 dX0_certain_36 rfl ?_
          refine lv_lconst (v := 1) (pc := 37) F.1.1 F.1.2.1 dX0_certain_37 rfl ?_
          refine lv_land (pc := 38) F.1.1 F.1.2.1 dX0_certain_38 ?_
          refine lv_lconst (v := 0) (pc := 39) F.1.1 F.1.2.1 dX0_certain_39 rfl ?_
          refine W.lcmp (pc := 40) F.1.1 F.1.2.1 dX0_certain_40 ?_
          refine xi_re (shr_c (cs := v6) (m := 7 * x + y) (by omega)) ?_
          refine xi_top (fun zc hzc => ?_)
          have rzc : zc = 0 ∨ zc = 1 := by rw [hzc]; split <;> omega
          refine xi_zeq (pc := 41) (tgt := 48) F.1 (by omega) dX0_certain_41 (by decide) (fun c7 => ?_) (fun c7 => ?_)
          · refine xi_ic (pc := 48) F.1 dX0_certain_48 ?_
            exact hret 0 u5 _ _ (by omega) (⟨hp5.1, hp5.2.2, Or.inr ⟨rfl, (by
            have q := hca.1 x y (by omega) (by omega)
            rw [← hv6] at q
            intro z
            rw [if_pos (q.mpr ((db.2.2.2.1 x y).mpr z.2))] at hzc
            omega)⟩⟩) I _ _ dX0_certain_49
          · refine xi_ic (pc := 44) F.1 dX0_certain_44 ?_
            refine lv_goto (pc := 45) (tgt := 49) F.1.1 F.1.2.1 dX0_certain_45 (by decide) ?_
            exact hret 1 u5 _ _ (by omega) (⟨hp5.1, hp5.2.2, Or.inl ⟨rfl, by omega, (by
            have q := hca.1 x y (by omega) (by omega)
            rw [← hv6] at q
            refine (db.2.2.2.1 x y).mp (q.mp ?_)
            split at hzc
            · assumption
            · omega)⟩⟩) I _ _ dX0_certain_49
        · refine xi_ic (pc := 20) F.1 dX0_certain_20 ?_
          exact hret 0 u _ _ (by omega) (⟨hX, fun _ _ => rfl, Or.inr ⟨rfl, fun z => by omega⟩⟩) I _ _ dX0_certain_21
set_option maxHeartbeats 4000000 in
/-- alwaysSome -/
theorem cX_alwaysSome (l : Launch) (D : va_G) (a : xAd) (u : xSt) (hX : XI u) : MXi l D a yX0_alwaysSome cX0_alwaysSome 1 (some .boolean) ({ frames := 6, cells := 0, slots := 0, locals := 139 } : Room) [] u (fun r u2 => XI u2 ∧ (∀ k, k ≤ 9 → u2.1 k = u.1 k) ∧ ((r = 1 ∧ SomeS u.1) ∨ (r = 0 ∧ ¬ SomeS u.1))) := by
  refine enXz (by decide +kernel) rfl (Nat.le_of_ble_eq_true rfl) ?_
  intro p e s m below meth c A Q ls F I hret hl
  have hl : lv_has ls 1 [(0, .ref a.1)] := hl
  have hR := hX.1
  refine lv_aload_n (pc := 0) F.1.1 F.1.2.1 dX0_alwaysSome_0 rfl (lv_at hl 0 rfl) ?_
  refine caXv (pc := 1) (As := []) (rest := []) F I (cX_evaluate l D a u hX) (lw_V q132 q134 qs2 q24 q135) hdX_evaluate ⟨rfl, rfl⟩ ⟨Nat.le_of_ble_eq_true rfl, Nat.le_of_ble_eq_true rfl⟩ hl.1 rfl (Nat.le_of_ble_eq_true rfl) ⟨Nat.zero_le _, Nat.zero_le _⟩ dX0_alwaysSome_1 (fun u1 H locs hp1 I => ?_)
  have hR : Rng u1.1 := hp1.1.1
  have hca := hp1.1.2.2.2 hp1.2.1
  have db := db_eq hp1.2.2
  refine lv_aload_n (pc := 4) F.1.1 F.1.2.1 dX0_alwaysSome_4 rfl (lv_at hl 0 rfl) ?_
  refine gX_19 (pc := 5) F I dX0_alwaysSome_5 (fun v2 hv2 => ?_)
  have rv2 : -1 ≤ v2 ∧ v2 ≤ 127 := by rw [hv2]; exact hR 19 0
  exact hret v2 u1 _ _ (by have q := hca.2; omega) (⟨hp1.1, hp1.2.2, (by have q := hca.2; rw [db.2.2.2.2.2.1, ← hv2] at q; exact q)⟩) I _ _ dX0_alwaysSome_8
set_option maxHeartbeats 4000000 in
/-- certainCount -/
theorem cX_certainCount (l : Launch) (D : va_G) (a : xAd) (u : xSt) (hX : XI u) : MXi l D a yX0_certainCount cX0_certainCount 3 (some .int) ({ frames := 6, cells := 0, slots := 0, locals := 139 } : Room) [] u (fun r u2 => XI u2 ∧ (∀ k, k ≤ 9 → u2.1 k = u.1 k) ∧ ∃ f : Nat → Bool, (∀ n : Nat, n < 49 → (f n = true ↔ CertS u.1 ((n : Int) / 7) ((n : Int) % 7))) ∧ r = cntB f 49) := by
  refine enXi (by decide +kernel) rfl (Nat.le_of_ble_eq_true rfl) ?_
  intro p e s m below meth c A Q ls F I hret hl
  have hl : lv_has ls 3 [(0, .ref a.1)] := hl
  have hR := hX.1
  have loop : ∀ (w : xSt), XI w → w.1 17 0 ≠ 0 → (∀ k, k ≤ 9 → w.1 k = u.1 k) → ∀ (n j : Nat) (i q : Int) (H : Heap) (locs : List Loc) (ls : Array Slot), i = j → j + n = 49 → q = cntB (bitL w.2) j → IX D a A s H locs w → lv_has ls 3 [(2, .int (iI i)), (1, .int (iI q)), (0, .ref a.1)] → W p l e ({ frames := 6, cells := 0, slots := 0, locals := 139 } : Room) s m (Value.ref a.1 :: []).toArray below meth c H locs 0 0 Q (F0 m 8 ls []) := by
    intro w hXw h17 hk n
    have hR := hXw.1
    have db := db_eq hk
    have hca := hXw.2.2.2 h17
    induction n with
    | zero =>
      intro j i q H locs ls hij hj hq I hl
      refine lv_iload_n (pc := 8) F.1.1 F.1.2.1 dX0_certainCount_8 rfl (lv_at hl 0 rfl) ?_
      refine xi_bp (pc := 9) F.1 dX0_certainCount_9 (by decide) ?_
      refine xi_cge (pc := 11) (tgt := 32) F.1 (by omega) dX0_certainCount_11 (by decide) (fun c1 => ?_) (fun c1 => ?_)
      · refine lv_iload_n (pc := 32) F.1.1 F.1.2.1 dX0_certainCount_32 rfl (lv_at hl 1 rfl) ?_
        exact hret q w _ _ (⟨hXw, hk, bitL w.2, fun n hn => by
          have z := hca.1 ((n : Int) / 7) ((n : Int) % 7) (by omega) (by omega)
          rw [show (7 * ((n : Int) / 7) + (n : Int) % 7).toNat = n by omega, db.2.2.2.1] at z
          exact z, by rw [hq, show j = 49 by omega]⟩) I _ _ dX0_certainCount_33
      · exfalso; omega
    | succ n ih =>
      intro j i q H locs ls hij hj hq I hl
      have hc : cntB (bitL w.2) (j + 1) = cntB (bitL w.2) j + (if bitL w.2 j = true then 1 else 0) := rfl
      have hqr := cntB_r (bitL w.2) j
      refine lv_iload_n (pc := 8) F.1.1 F.1.2.1 dX0_certainCount_8 rfl (lv_at hl 0 rfl) ?_
      refine xi_bp (pc := 9) F.1 dX0_certainCount_9 (by decide) ?_
      refine xi_cge (pc := 11) (tgt := 32) F.1 (by omega) dX0_certainCount_11 (by decide) (fun c1 => ?_) (fun c1 => ?_)
      · exfalso; omega
      · refine lv_iload_n (pc := 14) F.1.1 F.1.2.1 dX0_certainCount_14 rfl (lv_at hl 1 rfl) ?_
        refine lv_aload_n (pc := 15) F.1.1 F.1.2.1 dX0_certainCount_15 rfl (lv_at hl 2 rfl) ?_
        refine gX_18 (pc := 16) F I dX0_certainCount_16 (fun v2 hv2 => ?_)
        refine lv_iload_n (pc := 19) F.1.1 F.1.2.1 dX0_certainCount_19 rfl (lv_at hl 0 rfl) ?_
        refine lv_lushr (pc := 20) F.1.1 F.1.2.1 dX0_certainCount_20 rfl ?_
        refine lv_lconst (v := 1) (pc := 21) F.1.1 F.1.2.1 dX0_certainCount_21 rfl ?_
        refine lv_land (pc := 22) F.1.1 F.1.2.1 dX0_certainCount_22 ?_
        refine lv_l2i (pc := 23) F.1.1 F.1.2.1 dX0_certainCount_23 (shr_i (cs := v2) (m := i) (by omega)) ?_
        refine xi_iadd (pc := 24) F.1 dX0_certainCount_24 ?_
        refine xi_top (fun z3 hz3 => ?_)
        refine lv_istore_n (pc := 25) (lv' := [(1, .int (iI z3)), (2, .int (iI i)), (0, .ref a.1)]) F.1.1 F.1.2.1 dX0_certainCount_25 rfl hl (by decide) rfl (fun ls hl => ?_)
        refine xi_iinc (pc := 26) (lv' := [(2, .int (iI (i + 1))), (1, .int (iI z3)), (0, .ref a.1)]) F.1 dX0_certainCount_26 hl (k := 1) rfl (by decide) rfl (fun ls hl => ?_)
        refine lv_goto (pc := 29) (tgt := 8) F.1.1 F.1.2.1 dX0_certainCount_29 (by decide) ?_
        exact ih (j + 1) (i + 1) z3 _ _ ls (by omega) (by omega) (by rw [hz3, hv2, hc, hq, show i.toNat = j by omega]) I (lv_sub hl [0, 1, 2] rfl)
  refine lv_aload_n (pc := 0) F.1.1 F.1.2.1 dX0_certainCount_0 rfl (lv_at hl 0 rfl) ?_
  refine caXv (pc := 1) (As := []) (rest := []) F I (cX_evaluate l D a u hX) (lw_V q132 q134 qs2 q24 q135) hdX_evaluate ⟨rfl, rfl⟩ ⟨Nat.le_of_ble_eq_true rfl, Nat.le_of_ble_eq_true rfl⟩ hl.1 rfl (Nat.le_of_ble_eq_true rfl) ⟨Nat.zero_le _, Nat.zero_le _⟩ dX0_certainCount_1 (fun u1 H locs hp1 I => ?_)
  have hR : Rng u1.1 := hp1.1.1
  have hca := hp1.1.2.2.2 hp1.2.1
  have db := db_eq hp1.2.2
  refine xi_ic (pc := 4) F.1 dX0_certainCount_4 ?_
  refine lv_istore_n (pc := 5) (lv' := [(1, .int (iI 0)), (0, .ref a.1)]) F.1.1 F.1.2.1 dX0_certainCount_5 rfl hl (by decide) rfl (fun ls hl => ?_)
  refine xi_ic (pc := 6) F.1 dX0_certainCount_6 ?_
  refine lv_istore_n (pc := 7) (lv' := [(2, .int (iI 0)), (1, .int (iI 0)), (0, .ref a.1)]) F.1.1 F.1.2.1 dX0_certainCount_7 rfl hl (by decide) rfl (fun ls hl => ?_)
  exact loop u1 hp1.1 hp1.2.1 hp1.2.2 49 0 0 0 _ _ ls rfl rfl rfl I hl
end
section
set_option maxRecDepth 100000
theorem hdM_addRow : yX1_addRow.cls = RX1 ∧ yX1_addRow.cls ≠ "java/lang/invoke/MethodHandle" ∧ yX1_addRow.cls ≠ "java/lang/invoke/VarHandle" ∧ (parseMethodDescriptor yX1_addRow.desc).map (fun d => d.parameters.length) = some 3 := by decide +kernel
theorem hdM_isTable : yX1_isTable.cls = RX1 ∧ yX1_isTable.cls ≠ "java/lang/invoke/MethodHandle" ∧ yX1_isTable.cls ≠ "java/lang/invoke/VarHandle" ∧ (parseMethodDescriptor yX1_isTable.desc).map (fun d => d.parameters.length) = some 1 := by decide +kernel
theorem hdM_isValue : yX1_isValue.cls = RX1 ∧ yX1_isValue.cls ≠ "java/lang/invoke/MethodHandle" ∧ yX1_isValue.cls ≠ "java/lang/invoke/VarHandle" ∧ (parseMethodDescriptor yX1_isValue.desc).map (fun d => d.parameters.length) = some 1 := by decide +kernel
theorem hdM_dropRow : yX1_dropRow.cls = RX1 ∧ yX1_dropRow.cls ≠ "java/lang/invoke/MethodHandle" ∧ yX1_dropRow.cls ≠ "java/lang/invoke/VarHandle" ∧ (parseMethodDescriptor yX1_dropRow.desc).map (fun d => d.parameters.length) = some 1 := by decide +kernel
theorem hdM_learn : yX1_learn.cls = RX1 ∧ yX1_learn.cls ≠ "java/lang/invoke/MethodHandle" ∧ yX1_learn.cls ≠ "java/lang/invoke/VarHandle" ∧ (parseMethodDescriptor yX1_learn.desc).map (fun d => d.parameters.length) = some 2 := by decide +kernel
theorem hdM_rule : yX1_rule.cls = RX1 ∧ yX1_rule.cls ≠ "java/lang/invoke/MethodHandle" ∧ yX1_rule.cls ≠ "java/lang/invoke/VarHandle" ∧ (parseMethodDescriptor yX1_rule.desc).map (fun d => d.parameters.length) = some 2 := by decide +kernel
theorem hdM_isTerm : yX1_isTerm.cls = RX1 ∧ yX1_isTerm.cls ≠ "java/lang/invoke/MethodHandle" ∧ yX1_isTerm.cls ≠ "java/lang/invoke/VarHandle" ∧ (parseMethodDescriptor yX1_isTerm.desc).map (fun d => d.parameters.length) = some 1 := by decide +kernel
theorem hdM_atom : yX1_atom.cls = RX1 ∧ yX1_atom.cls ≠ "java/lang/invoke/MethodHandle" ∧ yX1_atom.cls ≠ "java/lang/invoke/VarHandle" ∧ (parseMethodDescriptor yX1_atom.desc).map (fun d => d.parameters.length) = some 3 := by decide +kernel
theorem hdM_dropRules : yX1_dropRules.cls = RX1 ∧ yX1_dropRules.cls ≠ "java/lang/invoke/MethodHandle" ∧ yX1_dropRules.cls ≠ "java/lang/invoke/VarHandle" ∧ (parseMethodDescriptor yX1_dropRules.desc).map (fun d => d.parameters.length) = some 0 := by decide +kernel
theorem hdM_certain : yX1_certain.cls = RX1 ∧ yX1_certain.cls ≠ "java/lang/invoke/MethodHandle" ∧ yX1_certain.cls ≠ "java/lang/invoke/VarHandle" ∧ (parseMethodDescriptor yX1_certain.desc).map (fun d => d.parameters.length) = some 2 := by decide +kernel
theorem hdM_isCouple : yX1_isCouple.cls = RX1 ∧ yX1_isCouple.cls ≠ "java/lang/invoke/MethodHandle" ∧ yX1_isCouple.cls ≠ "java/lang/invoke/VarHandle" ∧ (parseMethodDescriptor yX1_isCouple.desc).map (fun d => d.parameters.length) = some 2 := by decide +kernel
theorem hdM_evaluate : yX1_evaluate.cls = RX1 ∧ yX1_evaluate.cls ≠ "java/lang/invoke/MethodHandle" ∧ yX1_evaluate.cls ≠ "java/lang/invoke/VarHandle" ∧ (parseMethodDescriptor yX1_evaluate.desc).map (fun d => d.parameters.length) = some 0 := by decide +kernel
theorem hdM_complete : yX1_complete.cls = RX1 ∧ yX1_complete.cls ≠ "java/lang/invoke/MethodHandle" ∧ yX1_complete.cls ≠ "java/lang/invoke/VarHandle" ∧ (parseMethodDescriptor yX1_complete.desc).map (fun d => d.parameters.length) = some 1 := by decide +kernel
theorem hdM_apply : yX1_apply.cls = RX1 ∧ yX1_apply.cls ≠ "java/lang/invoke/MethodHandle" ∧ yX1_apply.cls ≠ "java/lang/invoke/VarHandle" ∧ (parseMethodDescriptor yX1_apply.desc).map (fun d => d.parameters.length) = some 1 := by decide +kernel
theorem hdM_fits : yX1_fits.cls = RX1 ∧ yX1_fits.cls ≠ "java/lang/invoke/MethodHandle" ∧ yX1_fits.cls ≠ "java/lang/invoke/VarHandle" ∧ (parseMethodDescriptor yX1_fits.desc).map (fun d => d.parameters.length) = some 2 := by decide +kernel
theorem hdM_constantAt : yX1_constantAt.cls = RX1 ∧ yX1_constantAt.cls ≠ "java/lang/invoke/MethodHandle" ∧ yX1_constantAt.cls ≠ "java/lang/invoke/VarHandle" ∧ (parseMethodDescriptor yX1_constantAt.desc).map (fun d => d.parameters.length) = some 1 := by decide +kernel
theorem hdM_fit : yX1_fit.cls = RX1 ∧ yX1_fit.cls ≠ "java/lang/invoke/MethodHandle" ∧ yX1_fit.cls ≠ "java/lang/invoke/VarHandle" ∧ (parseMethodDescriptor yX1_fit.desc).map (fun d => d.parameters.length) = some 2 := by decide +kernel
theorem hdM_headOf : yX1_headOf.cls = RX1 ∧ yX1_headOf.cls ≠ "java/lang/invoke/MethodHandle" ∧ yX1_headOf.cls ≠ "java/lang/invoke/VarHandle" ∧ (parseMethodDescriptor yX1_headOf.desc).map (fun d => d.parameters.length) = some 1 := by decide +kernel
theorem hdM_possible : yX1_possible.cls = RX1 ∧ yX1_possible.cls ≠ "java/lang/invoke/MethodHandle" ∧ yX1_possible.cls ≠ "java/lang/invoke/VarHandle" ∧ (parseMethodDescriptor yX1_possible.desc).map (fun d => d.parameters.length) = some 2 := by decide +kernel
theorem hdM_certainCount : yX1_certainCount.cls = RX1 ∧ yX1_certainCount.cls ≠ "java/lang/invoke/MethodHandle" ∧ yX1_certainCount.cls ≠ "java/lang/invoke/VarHandle" ∧ (parseMethodDescriptor yX1_certainCount.desc).map (fun d => d.parameters.length) = some 0 := by decide +kernel
theorem hdM_alwaysSome : yX1_alwaysSome.cls = RX1 ∧ yX1_alwaysSome.cls ≠ "java/lang/invoke/MethodHandle" ∧ yX1_alwaysSome.cls ≠ "java/lang/invoke/VarHandle" ∧ (parseMethodDescriptor yX1_alwaysSome.desc).map (fun d => d.parameters.length) = some 0 := by decide +kernel
set_option maxHeartbeats 4000000 in
/-- isTable -/
theorem cM_isTable (l : Launch) (D : va_G) (a : xAd) (u : xSt) (t : Int) (ht : i32 t) : MMi l D a yX1_isTable cX1_isTable 2 (some .boolean) ({ frames := 0, cells := 0, slots := 0, locals := 0 } : Room) [.int (iI t)] u (fun r u2 => u2 = u ∧ ((r = 1 ∧ 0 ≤ t ∧ t ≤ 1) ∨ (r = 0 ∧ ¬ (0 ≤ t ∧ t ≤ 1)))) := by
  refine enMz (by decide +kernel) rfl (Nat.le_of_ble_eq_true rfl) ?_
  intro p e s m below meth c A Q ls F I hret hl
  have hl : lv_has ls 2 [(0, .ref a.1), (1, .int (iI t))] := hl
  refine lv_iload_n (pc := 0) F.1.1 F.1.2.1 dX1_isTable_0 rfl (lv_at hl 1 rfl) ?_
  refine xi_zeq (pc := 1) (tgt := 9) F.1 (by omega) dX1_isTable_1 (by decide) (fun c1 => ?_) (fun c1 => ?_)
  · refine xi_ic (pc := 9) F.1 dX1_isTable_9 ?_
    refine lv_goto (pc := 10) (tgt := 14) F.1.1 F.1.2.1 dX1_isTable_10 (by decide) ?_
    exact hret 1 u _ _ (by omega) (⟨rfl, by omega⟩) I _ _ dX1_isTable_14
  · refine lv_iload_n (pc := 4) F.1.1 F.1.2.1 dX1_isTable_4 rfl (lv_at hl 1 rfl) ?_
    refine xi_ic (pc := 5) F.1 dX1_isTable_5 ?_
    refine xi_cne (pc := 6) (tgt := 13) F.1 (by omega) dX1_isTable_6 (by decide) (fun c2 => ?_) (fun c2 => ?_)
    · refine xi_ic (pc := 13) F.1 dX1_isTable_13 ?_
      exact hret 0 u _ _ (by omega) (⟨rfl, by omega⟩) I _ _ dX1_isTable_14
    · refine xi_ic (pc := 9) F.1 dX1_isTable_9 ?_
      refine lv_goto (pc := 10) (tgt := 14) F.1.1 F.1.2.1 dX1_isTable_10 (by decide) ?_
      exact hret 1 u _ _ (by omega) (⟨rfl, by omega⟩) I _ _ dX1_isTable_14
set_option maxHeartbeats 4000000 in
/-- isValue -/
theorem cM_isValue (l : Launch) (D : va_G) (a : xAd) (u : xSt) (v : Int) (hv : i32 v) : MMi l D a yX1_isValue cX1_isValue 2 (some .boolean) ({ frames := 0, cells := 0, slots := 0, locals := 0 } : Room) [.int (iI v)] u (fun r u2 => u2 = u ∧ ((r = 1 ∧ isV v) ∨ (r = 0 ∧ ¬ isV v))) := by
  refine enMz (by decide +kernel) rfl (Nat.le_of_ble_eq_true rfl) ?_
  intro p e s m below meth c A Q ls F I hret hl
  have hl : lv_has ls 2 [(0, .ref a.1), (1, .int (iI v))] := hl
  refine lv_iload_n (pc := 0) F.1.1 F.1.2.1 dX1_isValue_0 rfl (lv_at hl 1 rfl) ?_
  refine xi_zlt (pc := 1) (tgt := 9) F.1 (by omega) dX1_isValue_1 (by decide) (fun c1 => ?_) (fun c1 => ?_)
  · refine lv_iload_n (pc := 9) F.1.1 F.1.2.1 dX1_isValue_9 rfl (lv_at hl 1 rfl) ?_
    refine xi_bp (pc := 10) F.1 dX1_isValue_10 (by decide) ?_
    refine xi_clt (pc := 12) (tgt := 25) F.1 (by omega) dX1_isValue_12 (by decide) (fun c2 => ?_) (fun c2 => ?_)
    · refine xi_ic (pc := 25) F.1 dX1_isValue_25 ?_
      exact hret 0 u _ _ (by omega) (⟨rfl, by omega⟩) I _ _ dX1_isValue_26
    · refine lv_iload_n (pc := 15) F.1.1 F.1.2.1 dX1_isValue_15 rfl (lv_at hl 1 rfl) ?_
      refine xi_bp (pc := 16) F.1 dX1_isValue_16 (by decide) ?_
      refine xi_cgt (pc := 18) (tgt := 25) F.1 (by omega) dX1_isValue_18 (by decide) (fun c3 => ?_) (fun c3 => ?_)
      · refine xi_ic (pc := 25) F.1 dX1_isValue_25 ?_
        exact hret 0 u _ _ (by omega) (⟨rfl, by omega⟩) I _ _ dX1_isValue_26
      · refine xi_ic (pc := 21) F.1 dX1_isValue_21 ?_
        refine lv_goto (pc := 22) (tgt := 26) F.1.1 F.1.2.1 dX1_isValue_22 (by decide) ?_
        exact hret 1 u _ _ (by omega) (⟨rfl, by omega⟩) I _ _ dX1_isValue_26
  · refine lv_iload_n (pc := 4) F.1.1 F.1.2.1 dX1_isValue_4 rfl (lv_at hl 1 rfl) ?_
    refine xi_ic (pc := 5) F.1 dX1_isValue_5 ?_
    refine xi_cle (pc := 6) (tgt := 21) F.1 (by omega) dX1_isValue_6 (by decide) (fun c4 => ?_) (fun c4 => ?_)
    · refine xi_ic (pc := 21) F.1 dX1_isValue_21 ?_
      refine lv_goto (pc := 22) (tgt := 26) F.1.1 F.1.2.1 dX1_isValue_22 (by decide) ?_
      exact hret 1 u _ _ (by omega) (⟨rfl, by omega⟩) I _ _ dX1_isValue_26
    · refine lv_iload_n (pc := 9) F.1.1 F.1.2.1 dX1_isValue_9 rfl (lv_at hl 1 rfl) ?_
      refine xi_bp (pc := 10) F.1 dX1_isValue_10 (by decide) ?_
      refine xi_clt (pc := 12) (tgt := 25) F.1 (by omega) dX1_isValue_12 (by decide) (fun c5 => ?_) (fun c5 => ?_)
      · refine xi_ic (pc := 25) F.1 dX1_isValue_25 ?_
        exact hret 0 u _ _ (by omega) (⟨rfl, by omega⟩) I _ _ dX1_isValue_26
      · refine lv_iload_n (pc := 15) F.1.1 F.1.2.1 dX1_isValue_15 rfl (lv_at hl 1 rfl) ?_
        refine xi_bp (pc := 16) F.1 dX1_isValue_16 (by decide) ?_
        refine xi_cgt (pc := 18) (tgt := 25) F.1 (by omega) dX1_isValue_18 (by decide) (fun c6 => ?_) (fun c6 => ?_)
        · refine xi_ic (pc := 25) F.1 dX1_isValue_25 ?_
          exact hret 0 u _ _ (by omega) (⟨rfl, by omega⟩) I _ _ dX1_isValue_26
        · refine xi_ic (pc := 21) F.1 dX1_isValue_21 ?_
          refine lv_goto (pc := 22) (tgt := 26) F.1.1 F.1.2.1 dX1_isValue_22 (by decide) ?_
          exact hret 1 u _ _ (by omega) (⟨rfl, by omega⟩) I _ _ dX1_isValue_26
set_option maxHeartbeats 4000000 in
/-- isTerm -/
theorem cM_isTerm (l : Launch) (D : va_G) (a : xAd) (u : xSt) (v : Int) (hv : i32 v) : MMi l D a yX1_isTerm cX1_isTerm 2 (some .boolean) ({ frames := 0, cells := 0, slots := 0, locals := 0 } : Room) [.int (iI v)] u (fun r u2 => u2 = u ∧ ((r = 1 ∧ isT v) ∨ (r = 0 ∧ ¬ isT v))) := by
  refine enMz (by decide +kernel) rfl (Nat.le_of_ble_eq_true rfl) ?_
  intro p e s m below meth c A Q ls F I hret hl
  have hl : lv_has ls 2 [(0, .ref a.1), (1, .int (iI v))] := hl
  refine lv_iload_n (pc := 0) F.1.1 F.1.2.1 dX1_isTerm_0 rfl (lv_at hl 1 rfl) ?_
  refine xi_zlt (pc := 1) (tgt := 9) F.1 (by omega) dX1_isTerm_1 (by decide) (fun c1 => ?_) (fun c1 => ?_)
  · refine lv_iload_n (pc := 9) F.1.1 F.1.2.1 dX1_isTerm_9 rfl (lv_at hl 1 rfl) ?_
    refine xi_bp (pc := 10) F.1 dX1_isTerm_10 (by decide) ?_
    refine xi_clt (pc := 12) (tgt := 25) F.1 (by omega) dX1_isTerm_12 (by decide) (fun c2 => ?_) (fun c2 => ?_)
    · refine xi_ic (pc := 25) F.1 dX1_isTerm_25 ?_
      exact hret 0 u _ _ (by omega) (⟨rfl, by omega⟩) I _ _ dX1_isTerm_26
    · refine lv_iload_n (pc := 15) F.1.1 F.1.2.1 dX1_isTerm_15 rfl (lv_at hl 1 rfl) ?_
      refine xi_bp (pc := 16) F.1 dX1_isTerm_16 (by decide) ?_
      refine xi_cgt (pc := 18) (tgt := 25) F.1 (by omega) dX1_isTerm_18 (by decide) (fun c3 => ?_) (fun c3 => ?_)
      · refine xi_ic (pc := 25) F.1 dX1_isTerm_25 ?_
        exact hret 0 u _ _ (by omega) (⟨rfl, by omega⟩) I _ _ dX1_isTerm_26
      · refine xi_ic (pc := 21) F.1 dX1_isTerm_21 ?_
        refine lv_goto (pc := 22) (tgt := 26) F.1.1 F.1.2.1 dX1_isTerm_22 (by decide) ?_
        exact hret 1 u _ _ (by omega) (⟨rfl, by omega⟩) I _ _ dX1_isTerm_26
  · refine lv_iload_n (pc := 4) F.1.1 F.1.2.1 dX1_isTerm_4 rfl (lv_at hl 1 rfl) ?_
    refine xi_ic (pc := 5) F.1 dX1_isTerm_5 ?_
    refine xi_cle (pc := 6) (tgt := 21) F.1 (by omega) dX1_isTerm_6 (by decide) (fun c4 => ?_) (fun c4 => ?_)
    · refine xi_ic (pc := 21) F.1 dX1_isTerm_21 ?_
      refine lv_goto (pc := 22) (tgt := 26) F.1.1 F.1.2.1 dX1_isTerm_22 (by decide) ?_
      exact hret 1 u _ _ (by omega) (⟨rfl, by omega⟩) I _ _ dX1_isTerm_26
    · refine lv_iload_n (pc := 9) F.1.1 F.1.2.1 dX1_isTerm_9 rfl (lv_at hl 1 rfl) ?_
      refine xi_bp (pc := 10) F.1 dX1_isTerm_10 (by decide) ?_
      refine xi_clt (pc := 12) (tgt := 25) F.1 (by omega) dX1_isTerm_12 (by decide) (fun c5 => ?_) (fun c5 => ?_)
      · refine xi_ic (pc := 25) F.1 dX1_isTerm_25 ?_
        exact hret 0 u _ _ (by omega) (⟨rfl, by omega⟩) I _ _ dX1_isTerm_26
      · refine lv_iload_n (pc := 15) F.1.1 F.1.2.1 dX1_isTerm_15 rfl (lv_at hl 1 rfl) ?_
        refine xi_bp (pc := 16) F.1 dX1_isTerm_16 (by decide) ?_
        refine xi_cgt (pc := 18) (tgt := 25) F.1 (by omega) dX1_isTerm_18 (by decide) (fun c6 => ?_) (fun c6 => ?_)
        · refine xi_ic (pc := 25) F.1 dX1_isTerm_25 ?_
          exact hret 0 u _ _ (by omega) (⟨rfl, by omega⟩) I _ _ dX1_isTerm_26
        · refine xi_ic (pc := 21) F.1 dX1_isTerm_21 ?_
          refine lv_goto (pc := 22) (tgt := 26) F.1.1 F.1.2.1 dX1_isTerm_22 (by decide) ?_
          exact hret 1 u _ _ (by omega) (⟨rfl, by omega⟩) I _ _ dX1_isTerm_26
set_option maxHeartbeats 4000000 in
/-- isCouple -/
theorem cM_isCouple (l : Launch) (D : va_G) (a : xAd) (u : xSt) (x y : Int) (hx : i32 x) (hy : i32 y) : MMi l D a yX1_isCouple cX1_isCouple 3 (some .boolean) ({ frames := 0, cells := 0, slots := 0, locals := 0 } : Room) [.int (iI x), .int (iI y)] u (fun r u2 => u2 = u ∧ ((r = 1 ∧ (0 ≤ x ∧ x ≤ 6) ∧ 0 ≤ y ∧ y ≤ 6) ∨ (r = 0 ∧ ¬ ((0 ≤ x ∧ x ≤ 6) ∧ 0 ≤ y ∧ y ≤ 6)))) := by
  refine enMz (by decide +kernel) rfl (Nat.le_of_ble_eq_true rfl) ?_
  intro p e s m below meth c A Q ls F I hret hl
  have hl : lv_has ls 3 [(0, .ref a.1), (1, .int (iI x)), (2, .int (iI y))] := hl
  refine lv_iload_n (pc := 0) F.1.1 F.1.2.1 dX1_isCouple_0 rfl (lv_at hl 1 rfl) ?_
  refine xi_zlt (pc := 1) (tgt := 24) F.1 (by omega) dX1_isCouple_1 (by decide) (fun c1 => ?_) (fun c1 => ?_)
  · refine xi_ic (pc := 24) F.1 dX1_isCouple_24 ?_
    exact hret 0 u _ _ (by omega) (⟨rfl, by omega⟩) I _ _ dX1_isCouple_25
  · refine lv_iload_n (pc := 4) F.1.1 F.1.2.1 dX1_isCouple_4 rfl (lv_at hl 1 rfl) ?_
    refine xi_bp (pc := 5) F.1 dX1_isCouple_5 (by decide) ?_
    refine xi_cgt (pc := 7) (tgt := 24) F.1 (by omega) dX1_isCouple_7 (by decide) (fun c2 => ?_) (fun c2 => ?_)
    · refine xi_ic (pc := 24) F.1 dX1_isCouple_24 ?_
      exact hret 0 u _ _ (by omega) (⟨rfl, by omega⟩) I _ _ dX1_isCouple_25
    · refine lv_iload_n (pc := 10) F.1.1 F.1.2.1 dX1_isCouple_10 rfl (lv_at hl 2 rfl) ?_
      refine xi_zlt (pc := 11) (tgt := 24) F.1 (by omega) dX1_isCouple_11 (by decide) (fun c3 => ?_) (fun c3 => ?_)
      · refine xi_ic (pc := 24) F.1 dX1_isCouple_24 ?_
        exact hret 0 u _ _ (by omega) (⟨rfl, by omega⟩) I _ _ dX1_isCouple_25
      · refine lv_iload_n (pc := 14) F.1.1 F.1.2.1 dX1_isCouple_14 rfl (lv_at hl 2 rfl) ?_
        refine xi_bp (pc := 15) F.1 dX1_isCouple_15 (by decide) ?_
        refine xi_cgt (pc := 17) (tgt := 24) F.1 (by omega) dX1_isCouple_17 (by decide) (fun c4 => ?_) (fun c4 => ?_)
        · refine xi_ic (pc := 24) F.1 dX1_isCouple_24 ?_
          exact hret 0 u _ _ (by omega) (⟨rfl, by omega⟩) I _ _ dX1_isCouple_25
        · refine xi_ic (pc := 20) F.1 dX1_isCouple_20 ?_
          refine lv_goto (pc := 21) (tgt := 25) F.1.1 F.1.2.1 dX1_isCouple_21 (by decide) ?_
          exact hret 1 u _ _ (by omega) (⟨rfl, by omega⟩) I _ _ dX1_isCouple_25
/-- a new row, a new rule, a new atom in the reference -/
def adM (g : xG) (t x y : Int) : xG := up (up (up g 1 (10 * t + 2 * g 0 t) x) 1 (10 * t + 2 * g 0 t + 1) y) 0 t (g 0 t + 1)
def ruM (g : xG) (x y : Int) : xG := up (up (up (up g 3 (2 * g 2 0) x) 3 (2 * g 2 0 + 1) y) 4 (g 2 0) 0) 2 0 (g 2 0 + 1)
def atM (g : xG) (t x y : Int) : xG := up (up (up (up g 5 (3 * (g 2 0 - 1) + g 4 (g 2 0 - 1)) t) 6 (2 * (3 * (g 2 0 - 1) + g 4 (g 2 0 - 1))) x) 6 (2 * (3 * (g 2 0 - 1) + g 4 (g 2 0 - 1)) + 1) y) 4 (g 2 0 - 1) (g 4 (g 2 0 - 1) + 1)
set_option maxHeartbeats 4000000 in
/-- addRow -/
theorem cM_addRow (l : Launch) (D : va_G) (a : xAd) (u : xSt) (t x y : Int) (ht : i32 t) (hx : i32 x) (hy : i32 y) (hR : Rng u.1) (hn : ∀ j, 0 ≤ j → j ≤ 1 → 0 ≤ u.1 0 j ∧ u.1 0 j ≤ 5) : MMi l D a yX1_addRow cX1_addRow 5 (some .int) ({ frames := 1, cells := 0, slots := 0, locals := 21 } : Room) [.int (iI t), .int (iI x), .int (iI y)] u (fun r u2 => (¬ ((0 ≤ t ∧ t ≤ 1) ∧ isV x ∧ isV y) ∧ r = -1 ∧ u2 = u) ∨ (((0 ≤ t ∧ t ≤ 1) ∧ isV x ∧ isV y) ∧ u.1 0 t = 5 ∧ r = -2 ∧ u2 = u) ∨ (((0 ≤ t ∧ t ≤ 1) ∧ isV x ∧ isV y) ∧ u.1 0 t ≠ 5 ∧ r = u.1 0 t + 1 ∧ u2 = (adM u.1 t x y, u.2))) := by
  refine enMi (by decide +kernel) rfl (Nat.le_of_ble_eq_true rfl) ?_
  intro p e s m below meth c A Q ls F I hret hl
  have hl : lv_has ls 5 [(0, .ref a.1), (1, .int (iI t)), (2, .int (iI x)), (3, .int (iI y))] := hl
  refine lv_aload_n (pc := 0) F.1.1 F.1.2.1 dX1_addRow_0 rfl (lv_at hl 0 rfl) ?_
  refine lv_iload_n (pc := 1) F.1.1 F.1.2.1 dX1_addRow_1 rfl (lv_at hl 1 rfl) ?_
  refine caMi (pc := 2) (As := [.int (iI t)]) (rest := []) F I (cM_isTable l D a u t (by omega)) (lw_V q236 q238 qs12 q25 q239) hdM_isTable ⟨rfl, rfl⟩ ⟨Nat.le_of_ble_eq_true rfl, Nat.le_of_ble_eq_true rfl⟩ hl.1 rfl (Nat.le_of_ble_eq_true rfl) ⟨Nat.zero_le _, Nat.zero_le _⟩ dX1_addRow_2 (fun r2 u1 H locs hp2 I => ?_)
  rw [hp2.1] at I
  have hr2 := hp2.2
  refine xi_zeq (pc := 5) (tgt := 24) F.1 (by omega) dX1_addRow_5 (by decide) (fun c3 => ?_) (fun c3 => ?_)
  · refine xi_ic (pc := 24) F.1 dX1_addRow_24 ?_
    exact hret (-1) u _ _ (Or.inl ⟨by omega, rfl, rfl⟩) I _ _ dX1_addRow_25
  · refine lv_aload_n (pc := 8) F.1.1 F.1.2.1 dX1_addRow_8 rfl (lv_at hl 0 rfl) ?_
    refine lv_iload_n (pc := 9) F.1.1 F.1.2.1 dX1_addRow_9 rfl (lv_at hl 2 rfl) ?_
    refine caMi (pc := 10) (As := [.int (iI x)]) (rest := []) F I (cM_isValue l D a u x (by omega)) (lw_V q240 q242 qs13 q25 q243) hdM_isValue ⟨rfl, rfl⟩ ⟨Nat.le_of_ble_eq_true rfl, Nat.le_of_ble_eq_true rfl⟩ hl.1 rfl (Nat.le_of_ble_eq_true rfl) ⟨Nat.zero_le _, Nat.zero_le _⟩ dX1_addRow_10 (fun r5 u4 H locs hp5 I => ?_)
    rw [hp5.1] at I
    have hr5 := hp5.2
    refine xi_zeq (pc := 13) (tgt := 24) F.1 (by omega) dX1_addRow_13 (by decide) (fun c6 => ?_) (fun c6 => ?_)
    · refine xi_ic (pc := 24) F.1 dX1_addRow_24 ?_
      exact hret (-1) u _ _ (Or.inl ⟨by omega, rfl, rfl⟩) I _ _ dX1_addRow_25
    · refine lv_aload_n (pc := 16) F.1.1 F.1.2.1 dX1_addRow_16 rfl (lv_at hl 0 rfl) ?_
      refine lv_iload_n (pc := 17) F.1.1 F.1.2.1 dX1_addRow_17 rfl (lv_at hl 3 rfl) ?_
      refine caMi (pc := 18) (As := [.int (iI y)]) (rest := []) F I (cM_isValue l D a u y (by omega)) (lw_V q240 q242 qs13 q25 q243) hdM_isValue ⟨rfl, rfl⟩ ⟨Nat.le_of_ble_eq_true rfl, Nat.le_of_ble_eq_true rfl⟩ hl.1 rfl (Nat.le_of_ble_eq_true rfl) ⟨Nat.zero_le _, Nat.zero_le _⟩ dX1_addRow_18 (fun r8 u7 H locs hp8 I => ?_)
      rw [hp8.1] at I
      have hr8 := hp8.2
      refine xi_zne (pc := 21) (tgt := 26) F.1 (by omega) dX1_addRow_21 (by decide) (fun c9 => ?_) (fun c9 => ?_)
      · refine lv_aload_n (pc := 26) F.1.1 F.1.2.1 dX1_addRow_26 rfl (lv_at hl 0 rfl) ?_
        refine gM_0 (pc := 27) F I dX1_addRow_27 ?_
        refine lv_iload_n (pc := 30) F.1.1 F.1.2.1 dX1_addRow_30 rfl (lv_at hl 1 rfl) ?_
        refine ldM_0 (pc := 31) F I (by omega) dX1_addRow_31 (fun v10 hv10 => ?_)
        have rv10 : -1 ≤ v10 ∧ v10 ≤ 127 := by rw [hv10]; exact hR 0 _
        refine xi_ic (pc := 32) F.1 dX1_addRow_32 ?_
        refine xi_cne (pc := 33) (tgt := 39) F.1 (by omega) dX1_addRow_33 (by decide) (fun c11 => ?_) (fun c11 => ?_)
        · have hnt := hn t (by omega) (by omega)
          refine xi_bp (pc := 39) F.1 dX1_addRow_39 (by decide) ?_
          refine lv_iload_n (pc := 41) F.1.1 F.1.2.1 dX1_addRow_41 rfl (lv_at hl 1 rfl) ?_
          refine xi_imul (pc := 42) F.1 dX1_addRow_42 ?_
          refine xi_ic (pc := 43) F.1 dX1_addRow_43 ?_
          refine lv_aload_n (pc := 44) F.1.1 F.1.2.1 dX1_addRow_44 rfl (lv_at hl 0 rfl) ?_
          refine gM_0 (pc := 45) F I dX1_addRow_45 ?_
          refine lv_iload_n (pc := 48) F.1.1 F.1.2.1 dX1_addRow_48 rfl (lv_at hl 1 rfl) ?_
          refine ldM_0 (pc := 49) F I (by omega) dX1_addRow_49 (fun v12 hv12 => ?_)
          have rv12 : -1 ≤ v12 ∧ v12 ≤ 127 := by rw [hv12]; exact hR 0 _
          refine xi_imul (pc := 50) F.1 dX1_addRow_50 ?_
          refine xi_iadd (pc := 51) F.1 dX1_addRow_51 ?_
          refine xi_top (fun z13 hz13 => ?_)
          refine lv_istore (pc := 52) (lv' := [(4, .int (iI z13)), (0, .ref a.1), (1, .int (iI t)), (2, .int (iI x)), (3, .int (iI y))]) F.1.1 F.1.2.1 dX1_addRow_52 hl (by decide) rfl (fun ls hl => ?_)
          refine lv_aload_n (pc := 54) F.1.1 F.1.2.1 dX1_addRow_54 rfl (lv_at hl 1 rfl) ?_
          refine gM_1 (pc := 55) F I dX1_addRow_55 ?_
          refine lv_iload (pc := 58) F.1.1 F.1.2.1 dX1_addRow_58 (lv_at hl 0 rfl) ?_
          refine lv_iload_n (pc := 60) F.1.1 F.1.2.1 dX1_addRow_60 rfl (lv_at hl 3 rfl) ?_
          refine stM_1 (pc := 61) F I (by omega) dX1_addRow_61 (fun u14 H locs hu14 I => ?_)
          have hR : Rng u14.1 := by rw [hu14]; exact Rng_up hR (by omega)
          refine lv_aload_n (pc := 62) F.1.1 F.1.2.1 dX1_addRow_62 rfl (lv_at hl 1 rfl) ?_
          refine gM_1 (pc := 63) F I dX1_addRow_63 ?_
          refine lv_iload (pc := 66) F.1.1 F.1.2.1 dX1_addRow_66 (lv_at hl 0 rfl) ?_
          refine xi_ic (pc := 68) F.1 dX1_addRow_68 ?_
          refine xi_iadd (pc := 69) F.1 dX1_addRow_69 ?_
          refine lv_iload_n (pc := 70) F.1.1 F.1.2.1 dX1_addRow_70 rfl (lv_at hl 4 rfl) ?_
          refine stM_1 (pc := 71) F I (by omega) dX1_addRow_71 (fun u15 H locs hu15 I => ?_)
          have hR : Rng u15.1 := by rw [hu15]; exact Rng_up hR (by omega)
          refine lv_aload_n (pc := 72) F.1.1 F.1.2.1 dX1_addRow_72 rfl (lv_at hl 1 rfl) ?_
          refine gM_0 (pc := 73) F I dX1_addRow_73 ?_
          refine lv_iload_n (pc := 76) F.1.1 F.1.2.1 dX1_addRow_76 rfl (lv_at hl 2 rfl) ?_
          refine lv_dup2_11 (pc := 77) F.1.1 F.1.2.1 dX1_addRow_77 rfl rfl ?_
          refine ldM_0 (pc := 78) F I (by omega) dX1_addRow_78 (fun v16 hv16 => ?_)
          have rv16 : -1 ≤ v16 ∧ v16 ≤ 127 := by rw [hv16]; exact hR 0 _
          have ev16 : v16 = u.1 0 t := by simp [hv16, hu15, hu14, up]
          refine xi_ic (pc := 79) F.1 dX1_addRow_79 ?_
          refine xi_iadd (pc := 80) F.1 dX1_addRow_80 ?_
          refine stM_0 (pc := 81) F I (by omega) dX1_addRow_81 (fun u17 H locs hu17 I => ?_)
          have hR : Rng u17.1 := by rw [hu17]; exact Rng_up hR (by omega)
          refine lv_aload_n (pc := 82) F.1.1 F.1.2.1 dX1_addRow_82 rfl (lv_at hl 1 rfl) ?_
          refine gM_0 (pc := 83) F I dX1_addRow_83 ?_
          refine lv_iload_n (pc := 86) F.1.1 F.1.2.1 dX1_addRow_86 rfl (lv_at hl 2 rfl) ?_
          refine ldM_0 (pc := 87) F I (by omega) dX1_addRow_87 (fun v18 hv18 => ?_)
          have rv18 : -1 ≤ v18 ∧ v18 ≤ 127 := by rw [hv18]; exact hR 0 _
          have ev18 : v18 = (v16 + 1) := by simp [hv18, hu17, hu15, hu14, up]
          exact hret v18 u17 _ _ (Or.inr (Or.inr ⟨by omega, by omega, by omega, by simp only [adM, hu17, hu15, hu14, hv10, hv12, hz13, ev16, ev18]⟩)) I _ _ dX1_addRow_88
        · refine xi_bp (pc := 36) F.1 dX1_addRow_36 (by decide) ?_
          exact hret (-2) u _ _ (Or.inr (Or.inl ⟨by omega, by omega, rfl, rfl⟩)) I _ _ dX1_addRow_38
      · refine xi_ic (pc := 24) F.1 dX1_addRow_24 ?_
        exact hret (-1) u _ _ (Or.inl ⟨by omega, rfl, rfl⟩) I _ _ dX1_addRow_25
set_option maxHeartbeats 4000000 in
/-- rule -/
theorem cM_rule (l : Launch) (D : va_G) (a : xAd) (u : xSt) (x y : Int) (hx : i32 x) (hy : i32 y) (hR : Rng u.1) (hn : 0 ≤ u.1 2 0 ∧ u.1 2 0 ≤ 2) : MMi l D a yX1_rule cX1_rule 3 (some .int) ({ frames := 1, cells := 0, slots := 0, locals := 21 } : Room) [.int (iI x), .int (iI y)] u (fun r u2 => (¬ (isT x ∧ isT y) ∧ r = -1 ∧ u2 = u) ∨ ((isT x ∧ isT y) ∧ u.1 2 0 = 2 ∧ r = -2 ∧ u2 = u) ∨ ((isT x ∧ isT y) ∧ u.1 2 0 ≠ 2 ∧ r = u.1 2 0 + 1 ∧ u2 = (ruM u.1 x y, u.2))) := by
  refine enMi (by decide +kernel) rfl (Nat.le_of_ble_eq_true rfl) ?_
  intro p e s m below meth c A Q ls F I hret hl
  have hl : lv_has ls 3 [(0, .ref a.1), (1, .int (iI x)), (2, .int (iI y))] := hl
  refine lv_aload_n (pc := 0) F.1.1 F.1.2.1 dX1_rule_0 rfl (lv_at hl 0 rfl) ?_
  refine lv_iload_n (pc := 1) F.1.1 F.1.2.1 dX1_rule_1 rfl (lv_at hl 1 rfl) ?_
  refine caMi (pc := 2) (As := [.int (iI x)]) (rest := []) F I (cM_isTerm l D a u x (by omega)) (lw_V q256 q258 qs14 q25 q259) hdM_isTerm ⟨rfl, rfl⟩ ⟨Nat.le_of_ble_eq_true rfl, Nat.le_of_ble_eq_true rfl⟩ hl.1 rfl (Nat.le_of_ble_eq_true rfl) ⟨Nat.zero_le _, Nat.zero_le _⟩ dX1_rule_2 (fun r2 u1 H locs hp2 I => ?_)
  rw [hp2.1] at I
  have hr2 := hp2.2
  refine xi_zeq (pc := 5) (tgt := 16) F.1 (by omega) dX1_rule_5 (by decide) (fun c3 => ?_) (fun c3 => ?_)
  · refine xi_ic (pc := 16) F.1 dX1_rule_16 ?_
    exact hret (-1) u _ _ (Or.inl ⟨by omega, rfl, rfl⟩) I _ _ dX1_rule_17
  · refine lv_aload_n (pc := 8) F.1.1 F.1.2.1 dX1_rule_8 rfl (lv_at hl 0 rfl) ?_
    refine lv_iload_n (pc := 9) F.1.1 F.1.2.1 dX1_rule_9 rfl (lv_at hl 2 rfl) ?_
    refine caMi (pc := 10) (As := [.int (iI y)]) (rest := []) F I (cM_isTerm l D a u y (by omega)) (lw_V q256 q258 qs14 q25 q259) hdM_isTerm ⟨rfl, rfl⟩ ⟨Nat.le_of_ble_eq_true rfl, Nat.le_of_ble_eq_true rfl⟩ hl.1 rfl (Nat.le_of_ble_eq_true rfl) ⟨Nat.zero_le _, Nat.zero_le _⟩ dX1_rule_10 (fun r5 u4 H locs hp5 I => ?_)
    rw [hp5.1] at I
    have hr5 := hp5.2
    refine xi_zne (pc := 13) (tgt := 18) F.1 (by omega) dX1_rule_13 (by decide) (fun c6 => ?_) (fun c6 => ?_)
    · refine lv_aload_n (pc := 18) F.1.1 F.1.2.1 dX1_rule_18 rfl (lv_at hl 0 rfl) ?_
      refine gM_2 (pc := 19) F I dX1_rule_19 (fun v7 hv7 => ?_)
      have rv7 : -1 ≤ v7 ∧ v7 ≤ 127 := by rw [hv7]; exact hR 2 0
      refine xi_ic (pc := 22) F.1 dX1_rule_22 ?_
      refine xi_cne (pc := 23) (tgt := 29) F.1 (by omega) dX1_rule_23 (by decide) (fun c8 => ?_) (fun c8 => ?_)
      · refine lv_aload_n (pc := 29) F.1.1 F.1.2.1 dX1_rule_29 rfl (lv_at hl 0 rfl) ?_
        refine gM_3 (pc := 30) F I dX1_rule_30 ?_
        refine xi_ic (pc := 33) F.1 dX1_rule_33 ?_
        refine lv_aload_n (pc := 34) F.1.1 F.1.2.1 dX1_rule_34 rfl (lv_at hl 0 rfl) ?_
        refine gM_2 (pc := 35) F I dX1_rule_35 (fun v9 hv9 => ?_)
        have rv9 : -1 ≤ v9 ∧ v9 ≤ 127 := by rw [hv9]; exact hR 2 0
        refine xi_imul (pc := 38) F.1 dX1_rule_38 ?_
        refine lv_iload_n (pc := 39) F.1.1 F.1.2.1 dX1_rule_39 rfl (lv_at hl 1 rfl) ?_
        refine stM_3 (pc := 40) F I (by omega) dX1_rule_40 (fun u10 H locs hu10 I => ?_)
        have hR : Rng u10.1 := by rw [hu10]; exact Rng_up hR (by omega)
        refine lv_aload_n (pc := 41) F.1.1 F.1.2.1 dX1_rule_41 rfl (lv_at hl 0 rfl) ?_
        refine gM_3 (pc := 42) F I dX1_rule_42 ?_
        refine xi_ic (pc := 45) F.1 dX1_rule_45 ?_
        refine lv_aload_n (pc := 46) F.1.1 F.1.2.1 dX1_rule_46 rfl (lv_at hl 0 rfl) ?_
        refine gM_2 (pc := 47) F I dX1_rule_47 (fun v11 hv11 => ?_)
        have rv11 : -1 ≤ v11 ∧ v11 ≤ 127 := by rw [hv11]; exact hR 2 0
        have ev11 : v11 = u.1 2 0 := by simp [hv11, hu10, up]
        refine xi_imul (pc := 50) F.1 dX1_rule_50 ?_
        refine xi_ic (pc := 51) F.1 dX1_rule_51 ?_
        refine xi_iadd (pc := 52) F.1 dX1_rule_52 ?_
        refine lv_iload_n (pc := 53) F.1.1 F.1.2.1 dX1_rule_53 rfl (lv_at hl 2 rfl) ?_
        refine stM_3 (pc := 54) F I (by omega) dX1_rule_54 (fun u12 H locs hu12 I => ?_)
        have hR : Rng u12.1 := by rw [hu12]; exact Rng_up hR (by omega)
        refine lv_aload_n (pc := 55) F.1.1 F.1.2.1 dX1_rule_55 rfl (lv_at hl 0 rfl) ?_
        refine gM_4 (pc := 56) F I dX1_rule_56 ?_
        refine lv_aload_n (pc := 59) F.1.1 F.1.2.1 dX1_rule_59 rfl (lv_at hl 0 rfl) ?_
        refine gM_2 (pc := 60) F I dX1_rule_60 (fun v13 hv13 => ?_)
        have rv13 : -1 ≤ v13 ∧ v13 ≤ 127 := by rw [hv13]; exact hR 2 0
        have ev13 : v13 = u.1 2 0 := by simp [hv13, hu12, hu10, up]
        refine xi_ic (pc := 63) F.1 dX1_rule_63 ?_
        refine stM_4 (pc := 64) F I (by omega) dX1_rule_64 (fun u14 H locs hu14 I => ?_)
        have hR : Rng u14.1 := by rw [hu14]; exact Rng_up hR (by omega)
        refine lv_aload_n (pc := 65) F.1.1 F.1.2.1 dX1_rule_65 rfl (lv_at hl 0 rfl) ?_
        refine lv_dup (pc := 66) F.1.1 F.1.2.1 dX1_rule_66 rfl ?_
        refine gM_2 (pc := 67) F I dX1_rule_67 (fun v15 hv15 => ?_)
        have rv15 : -1 ≤ v15 ∧ v15 ≤ 127 := by rw [hv15]; exact hR 2 0
        have ev15 : v15 = u.1 2 0 := by simp [hv15, hu14, hu12, hu10, up]
        refine xi_ic (pc := 70) F.1 dX1_rule_70 ?_
        refine xi_iadd (pc := 71) F.1 dX1_rule_71 ?_
        refine pM_2 (pc := 72) F I dX1_rule_72 (fun u16 H locs hu16 I => ?_)
        have hR : Rng u16.1 := by rw [hu16]; exact Rng_up hR (by omega)
        refine lv_aload_n (pc := 75) F.1.1 F.1.2.1 dX1_rule_75 rfl (lv_at hl 0 rfl) ?_
        refine gM_2 (pc := 76) F I dX1_rule_76 (fun v17 hv17 => ?_)
        have rv17 : -1 ≤ v17 ∧ v17 ≤ 127 := by rw [hv17]; exact hR 2 0
        have ev17 : v17 = (v15 + 1) := by simp [hv17, hu16, hu14, hu12, hu10, up]
        exact hret v17 u16 _ _ (Or.inr (Or.inr ⟨by omega, by omega, by omega, by simp only [ruM, hu16, hu14, hu12, hu10, hv7, hv9, ev11, ev13, ev15, ev17]⟩)) I _ _ dX1_rule_79
      · refine xi_bp (pc := 26) F.1 dX1_rule_26 (by decide) ?_
        exact hret (-2) u _ _ (Or.inr (Or.inl ⟨by omega, by omega, rfl, rfl⟩)) I _ _ dX1_rule_28
    · refine xi_ic (pc := 16) F.1 dX1_rule_16 ?_
      exact hret (-1) u _ _ (Or.inl ⟨by omega, rfl, rfl⟩) I _ _ dX1_rule_17
set_option maxHeartbeats 4000000 in
/-- atom -/
theorem cM_atom (l : Launch) (D : va_G) (a : xAd) (u : xSt) (t x y : Int) (ht : i32 t) (hx : i32 x) (hy : i32 y) (hR : Rng u.1) (hn : 0 ≤ u.1 2 0 ∧ u.1 2 0 ≤ 2) (hq : 0 < u.1 2 0 → 0 ≤ u.1 4 (u.1 2 0 - 1) ∧ u.1 4 (u.1 2 0 - 1) ≤ 3) : MMi l D a yX1_atom cX1_atom 6 (some .int) ({ frames := 1, cells := 0, slots := 0, locals := 21 } : Room) [.int (iI t), .int (iI x), .int (iI y)] u (fun r u2 => (¬ ((0 ≤ t ∧ t ≤ 1) ∧ isT x ∧ isT y) ∧ r = -1 ∧ u2 = u) ∨ (((0 ≤ t ∧ t ≤ 1) ∧ isT x ∧ isT y) ∧ u.1 2 0 = 0 ∧ r = -3 ∧ u2 = u) ∨ (((0 ≤ t ∧ t ≤ 1) ∧ isT x ∧ isT y) ∧ 0 < u.1 2 0 ∧ u.1 4 (u.1 2 0 - 1) = 3 ∧ r = -2 ∧ u2 = u) ∨ (((0 ≤ t ∧ t ≤ 1) ∧ isT x ∧ isT y) ∧ 0 < u.1 2 0 ∧ u.1 4 (u.1 2 0 - 1) ≠ 3 ∧ r = u.1 4 (u.1 2 0 - 1) + 1 ∧ u2 = (atM u.1 t x y, u.2))) := by
  refine enMi (by decide +kernel) rfl (Nat.le_of_ble_eq_true rfl) ?_
  intro p e s m below meth c A Q ls F I hret hl
  have hl : lv_has ls 6 [(0, .ref a.1), (1, .int (iI t)), (2, .int (iI x)), (3, .int (iI y))] := hl
  refine lv_aload_n (pc := 0) F.1.1 F.1.2.1 dX1_atom_0 rfl (lv_at hl 0 rfl) ?_
  refine lv_iload_n (pc := 1) F.1.1 F.1.2.1 dX1_atom_1 rfl (lv_at hl 1 rfl) ?_
  refine caMi (pc := 2) (As := [.int (iI t)]) (rest := []) F I (cM_isTable l D a u t (by omega)) (lw_V q236 q238 qs12 q25 q239) hdM_isTable ⟨rfl, rfl⟩ ⟨Nat.le_of_ble_eq_true rfl, Nat.le_of_ble_eq_true rfl⟩ hl.1 rfl (Nat.le_of_ble_eq_true rfl) ⟨Nat.zero_le _, Nat.zero_le _⟩ dX1_atom_2 (fun r2 u1 H locs hp2 I => ?_)
  rw [hp2.1] at I
  have hr2 := hp2.2
  refine xi_zeq (pc := 5) (tgt := 24) F.1 (by omega) dX1_atom_5 (by decide) (fun c3 => ?_) (fun c3 => ?_)
  · refine xi_ic (pc := 24) F.1 dX1_atom_24 ?_
    exact hret (-1) u _ _ (Or.inl ⟨by omega, rfl, rfl⟩) I _ _ dX1_atom_25
  · refine lv_aload_n (pc := 8) F.1.1 F.1.2.1 dX1_atom_8 rfl (lv_at hl 0 rfl) ?_
    refine lv_iload_n (pc := 9) F.1.1 F.1.2.1 dX1_atom_9 rfl (lv_at hl 2 rfl) ?_
    refine caMi (pc := 10) (As := [.int (iI x)]) (rest := []) F I (cM_isTerm l D a u x (by omega)) (lw_V q256 q258 qs14 q25 q259) hdM_isTerm ⟨rfl, rfl⟩ ⟨Nat.le_of_ble_eq_true rfl, Nat.le_of_ble_eq_true rfl⟩ hl.1 rfl (Nat.le_of_ble_eq_true rfl) ⟨Nat.zero_le _, Nat.zero_le _⟩ dX1_atom_10 (fun r5 u4 H locs hp5 I => ?_)
    rw [hp5.1] at I
    have hr5 := hp5.2
    refine xi_zeq (pc := 13) (tgt := 24) F.1 (by omega) dX1_atom_13 (by decide) (fun c6 => ?_) (fun c6 => ?_)
    · refine xi_ic (pc := 24) F.1 dX1_atom_24 ?_
      exact hret (-1) u _ _ (Or.inl ⟨by omega, rfl, rfl⟩) I _ _ dX1_atom_25
    · refine lv_aload_n (pc := 16) F.1.1 F.1.2.1 dX1_atom_16 rfl (lv_at hl 0 rfl) ?_
      refine lv_iload_n (pc := 17) F.1.1 F.1.2.1 dX1_atom_17 rfl (lv_at hl 3 rfl) ?_
      refine caMi (pc := 18) (As := [.int (iI y)]) (rest := []) F I (cM_isTerm l D a u y (by omega)) (lw_V q256 q258 qs14 q25 q259) hdM_isTerm ⟨rfl, rfl⟩ ⟨Nat.le_of_ble_eq_true rfl, Nat.le_of_ble_eq_true rfl⟩ hl.1 rfl (Nat.le_of_ble_eq_true rfl) ⟨Nat.zero_le _, Nat.zero_le _⟩ dX1_atom_18 (fun r8 u7 H locs hp8 I => ?_)
      rw [hp8.1] at I
      have hr8 := hp8.2
      refine xi_zne (pc := 21) (tgt := 26) F.1 (by omega) dX1_atom_21 (by decide) (fun c9 => ?_) (fun c9 => ?_)
      · refine lv_aload_n (pc := 26) F.1.1 F.1.2.1 dX1_atom_26 rfl (lv_at hl 0 rfl) ?_
        refine gM_2 (pc := 27) F I dX1_atom_27 (fun v10 hv10 => ?_)
        have rv10 : -1 ≤ v10 ∧ v10 ≤ 127 := by rw [hv10]; exact hR 2 0
        refine xi_zne (pc := 30) (tgt := 36) F.1 (by omega) dX1_atom_30 (by decide) (fun c11 => ?_) (fun c11 => ?_)
        · refine lv_aload_n (pc := 36) F.1.1 F.1.2.1 dX1_atom_36 rfl (lv_at hl 0 rfl) ?_
          refine gM_2 (pc := 37) F I dX1_atom_37 (fun v12 hv12 => ?_)
          have rv12 : -1 ≤ v12 ∧ v12 ≤ 127 := by rw [hv12]; exact hR 2 0
          refine xi_ic (pc := 40) F.1 dX1_atom_40 ?_
          refine xi_isub (pc := 41) F.1 dX1_atom_41 ?_
          refine xi_top (fun z13 hz13 => ?_)
          refine lv_istore (pc := 42) (lv' := [(4, .int (iI z13)), (0, .ref a.1), (1, .int (iI t)), (2, .int (iI x)), (3, .int (iI y))]) F.1.1 F.1.2.1 dX1_atom_42 hl (by decide) rfl (fun ls hl => ?_)
          refine lv_aload_n (pc := 44) F.1.1 F.1.2.1 dX1_atom_44 rfl (lv_at hl 1 rfl) ?_
          refine gM_4 (pc := 45) F I dX1_atom_45 ?_
          refine lv_iload (pc := 48) F.1.1 F.1.2.1 dX1_atom_48 (lv_at hl 0 rfl) ?_
          refine ldM_4 (pc := 50) F I (by omega) dX1_atom_50 (fun v14 hv14 => ?_)
          have rv14 : -1 ≤ v14 ∧ v14 ≤ 127 := by rw [hv14]; exact hR 4 _
          have hz2 : z13 = u.1 2 0 - 1 := by omega
          have hq1 := hq (by omega)
          rw [hz2] at hv14
          refine xi_ic (pc := 51) F.1 dX1_atom_51 ?_
          refine xi_cne (pc := 52) (tgt := 58) F.1 (by omega) dX1_atom_52 (by decide) (fun c15 => ?_) (fun c15 => ?_)
          · refine xi_ic (pc := 58) F.1 dX1_atom_58 ?_
            refine lv_iload (pc := 59) F.1.1 F.1.2.1 dX1_atom_59 (lv_at hl 0 rfl) ?_
            refine xi_imul (pc := 61) F.1 dX1_atom_61 ?_
            refine lv_aload_n (pc := 62) F.1.1 F.1.2.1 dX1_atom_62 rfl (lv_at hl 1 rfl) ?_
            refine gM_4 (pc := 63) F I dX1_atom_63 ?_
            refine lv_iload (pc := 66) F.1.1 F.1.2.1 dX1_atom_66 (lv_at hl 0 rfl) ?_
            refine ldM_4 (pc := 68) F I (by omega) dX1_atom_68 (fun v16 hv16 => ?_)
            have rv16 : -1 ≤ v16 ∧ v16 ≤ 127 := by rw [hv16]; exact hR 4 _
            rw [hz2] at hv16
            refine xi_iadd (pc := 69) F.1 dX1_atom_69 ?_
            refine xi_top (fun z17 hz17 => ?_)
            refine lv_istore (pc := 70) (lv' := [(5, .int (iI z17)), (4, .int (iI z13)), (0, .ref a.1), (1, .int (iI t)), (2, .int (iI x)), (3, .int (iI y))]) F.1.1 F.1.2.1 dX1_atom_70 hl (by decide) rfl (fun ls hl => ?_)
            refine lv_aload_n (pc := 72) F.1.1 F.1.2.1 dX1_atom_72 rfl (lv_at hl 2 rfl) ?_
            refine gM_5 (pc := 73) F I dX1_atom_73 ?_
            refine lv_iload (pc := 76) F.1.1 F.1.2.1 dX1_atom_76 (lv_at hl 0 rfl) ?_
            refine lv_iload_n (pc := 78) F.1.1 F.1.2.1 dX1_atom_78 rfl (lv_at hl 3 rfl) ?_
            refine stM_5 (pc := 79) F I (by omega) dX1_atom_79 (fun u18 H locs hu18 I => ?_)
            have hR : Rng u18.1 := by rw [hu18]; exact Rng_up hR (by omega)
            refine lv_aload_n (pc := 80) F.1.1 F.1.2.1 dX1_atom_80 rfl (lv_at hl 2 rfl) ?_
            refine gM_6 (pc := 81) F I dX1_atom_81 ?_
            refine xi_ic (pc := 84) F.1 dX1_atom_84 ?_
            refine lv_iload (pc := 85) F.1.1 F.1.2.1 dX1_atom_85 (lv_at hl 0 rfl) ?_
            refine xi_imul (pc := 87) F.1 dX1_atom_87 ?_
            refine lv_iload_n (pc := 88) F.1.1 F.1.2.1 dX1_atom_88 rfl (lv_at hl 4 rfl) ?_
            refine stM_6 (pc := 89) F I (by omega) dX1_atom_89 (fun u19 H locs hu19 I => ?_)
            have hR : Rng u19.1 := by rw [hu19]; exact Rng_up hR (by omega)
            refine lv_aload_n (pc := 90) F.1.1 F.1.2.1 dX1_atom_90 rfl (lv_at hl 2 rfl) ?_
            refine gM_6 (pc := 91) F I dX1_atom_91 ?_
            refine xi_ic (pc := 94) F.1 dX1_atom_94 ?_
            refine lv_iload (pc := 95) F.1.1 F.1.2.1 dX1_atom_95 (lv_at hl 0 rfl) ?_
            refine xi_imul (pc := 97) F.1 dX1_atom_97 ?_
            refine xi_ic (pc := 98) F.1 dX1_atom_98 ?_
            refine xi_iadd (pc := 99) F.1 dX1_atom_99 ?_
            refine lv_iload_n (pc := 100) F.1.1 F.1.2.1 dX1_atom_100 rfl (lv_at hl 5 rfl) ?_
            refine stM_6 (pc := 101) F I (by omega) dX1_atom_101 (fun u20 H locs hu20 I => ?_)
            have hR : Rng u20.1 := by rw [hu20]; exact Rng_up hR (by omega)
            refine lv_aload_n (pc := 102) F.1.1 F.1.2.1 dX1_atom_102 rfl (lv_at hl 2 rfl) ?_
            refine gM_4 (pc := 103) F I dX1_atom_103 ?_
            refine lv_iload (pc := 106) F.1.1 F.1.2.1 dX1_atom_106 (lv_at hl 1 rfl) ?_
            refine lv_dup2_11 (pc := 108) F.1.1 F.1.2.1 dX1_atom_108 rfl rfl ?_
            refine ldM_4 (pc := 109) F I (by omega) dX1_atom_109 (fun v21 hv21 => ?_)
            have rv21 : -1 ≤ v21 ∧ v21 ≤ 127 := by rw [hv21]; exact hR 4 _
            have ev21 : v21 = u.1 4 z13 := by simp [hv21, hu20, hu19, hu18, up]
            rw [hz2] at ev21
            refine xi_ic (pc := 110) F.1 dX1_atom_110 ?_
            refine xi_iadd (pc := 111) F.1 dX1_atom_111 ?_
            refine stM_4 (pc := 112) F I (by omega) dX1_atom_112 (fun u22 H locs hu22 I => ?_)
            have hR : Rng u22.1 := by rw [hu22]; exact Rng_up hR (by omega)
            refine lv_aload_n (pc := 113) F.1.1 F.1.2.1 dX1_atom_113 rfl (lv_at hl 2 rfl) ?_
            refine gM_4 (pc := 114) F I dX1_atom_114 ?_
            refine lv_iload (pc := 117) F.1.1 F.1.2.1 dX1_atom_117 (lv_at hl 1 rfl) ?_
            refine ldM_4 (pc := 119) F I (by omega) dX1_atom_119 (fun v23 hv23 => ?_)
            have rv23 : -1 ≤ v23 ∧ v23 ≤ 127 := by rw [hv23]; exact hR 4 _
            have ev23 : v23 = (v21 + 1) := by simp [hv23, hu22, hu20, hu19, hu18, up]
            exact hret v23 u22 _ _ (Or.inr (Or.inr (Or.inr ⟨by omega, by omega, by omega, by omega, by simp only [atM, hu22, hu20, hu19, hu18, hv10, hv12, hz13, hv14, hv16, hz17, ev21, ev23]⟩))) I _ _ dX1_atom_120
          · refine xi_bp (pc := 55) F.1 dX1_atom_55 (by decide) ?_
            exact hret (-2) u _ _ (Or.inr (Or.inr (Or.inl ⟨by omega, by omega, by omega, rfl, rfl⟩))) I _ _ dX1_atom_57
        · refine xi_bp (pc := 33) F.1 dX1_atom_33 (by decide) ?_
          exact hret (-3) u _ _ (Or.inr (Or.inl ⟨by omega, by omega, rfl, rfl⟩)) I _ _ dX1_atom_35
      · refine xi_ic (pc := 24) F.1 dX1_atom_24 ?_
        exact hret (-1) u _ _ (Or.inl ⟨by omega, rfl, rfl⟩) I _ _ dX1_atom_25
set_option maxHeartbeats 4000000 in
/-- dropRules -/
theorem cM_dropRules (l : Launch) (D : va_G) (a : xAd) (u : xSt) (hR : Rng u.1) : MMi l D a yX1_dropRules cX1_dropRules 2 (some .int) ({ frames := 0, cells := 0, slots := 0, locals := 0 } : Room) [] u (fun r u2 => r = u.1 2 0 ∧ u2 = (up u.1 2 0 0, u.2)) := by
  refine enMi (by decide +kernel) rfl (Nat.le_of_ble_eq_true rfl) ?_
  intro p e s m below meth c A Q ls F I hret hl
  have hl : lv_has ls 2 [(0, .ref a.1)] := hl
  refine lv_aload_n (pc := 0) F.1.1 F.1.2.1 dX1_dropRules_0 rfl (lv_at hl 0 rfl) ?_
  refine gM_2 (pc := 1) F I dX1_dropRules_1 (fun v1 hv1 => ?_)
  have rv1 : -1 ≤ v1 ∧ v1 ≤ 127 := by rw [hv1]; exact hR 2 0
  refine lv_istore_n (pc := 4) (lv' := [(1, .int (iI v1)), (0, .ref a.1)]) F.1.1 F.1.2.1 dX1_dropRules_4 rfl hl (by decide) rfl (fun ls hl => ?_)
  refine lv_aload_n (pc := 5) F.1.1 F.1.2.1 dX1_dropRules_5 rfl (lv_at hl 1 rfl) ?_
  refine xi_ic (pc := 6) F.1 dX1_dropRules_6 ?_
  refine pM_2 (pc := 7) F I dX1_dropRules_7 (fun u2 H locs hu2 I => ?_)
  have hR : Rng u2.1 := by rw [hu2]; exact Rng_up hR (by omega)
  refine lv_iload_n (pc := 10) F.1.1 F.1.2.1 dX1_dropRules_10 rfl (lv_at hl 0 rfl) ?_
  exact hret v1 u2 _ _ (⟨by omega, by simp only [hu2, hv1]⟩) I _ _ dX1_dropRules_11
set_option maxHeartbeats 4000000 in
/-- headOf -/
theorem cM_headOf (l : Launch) (D : va_G) (a : xAd) (u : xSt) (t : Int) (ht : isT t) (hR : Rng u.1) : MMi l D a yX1_headOf cX1_headOf 2 (some .int) ({ frames := 0, cells := 0, slots := 0, locals := 0 } : Room) [.int (iI t)] u (fun r u2 => u2 = u ∧ ((t < 20 ∧ r = t) ∨ (20 ≤ t ∧ r = u.1 8 (t - 20)))) := by
  refine enMi (by decide +kernel) rfl (Nat.le_of_ble_eq_true rfl) ?_
  intro p e s m below meth c A Q ls F I hret hl
  have hl : lv_has ls 2 [(0, .ref a.1), (1, .int (iI t))] := hl
  refine lv_iload_n (pc := 0) F.1.1 F.1.2.1 dX1_headOf_0 rfl (lv_at hl 1 rfl) ?_
  refine xi_bp (pc := 1) F.1 dX1_headOf_1 (by decide) ?_
  refine xi_cge (pc := 3) (tgt := 10) F.1 (by omega) dX1_headOf_3 (by decide) (fun c1 => ?_) (fun c1 => ?_)
  · refine lv_aload_n (pc := 10) F.1.1 F.1.2.1 dX1_headOf_10 rfl (lv_at hl 0 rfl) ?_
    refine gM_8 (pc := 11) F I dX1_headOf_11 ?_
    refine lv_iload_n (pc := 14) F.1.1 F.1.2.1 dX1_headOf_14 rfl (lv_at hl 1 rfl) ?_
    refine xi_bp (pc := 15) F.1 dX1_headOf_15 (by decide) ?_
    refine xi_isub (pc := 17) F.1 dX1_headOf_17 ?_
    refine ldM_8 (pc := 18) F I (by omega) dX1_headOf_18 (fun v2 hv2 => ?_)
    have rv2 : -1 ≤ v2 ∧ v2 ≤ 127 := by rw [hv2]; exact hR 8 _
    exact hret v2 u _ _ (⟨rfl, by omega⟩) I _ _ dX1_headOf_19
  · refine lv_iload_n (pc := 6) F.1.1 F.1.2.1 dX1_headOf_6 rfl (lv_at hl 1 rfl) ?_
    refine lv_goto (pc := 7) (tgt := 19) F.1.1 F.1.2.1 dX1_headOf_7 (by decide) ?_
    exact hret t u _ _ (⟨rfl, by omega⟩) I _ _ dX1_headOf_19
set_option maxHeartbeats 4000000 in
/-- constantAt -/
theorem cM_constantAt (l : Launch) (D : va_G) (a : xAd) (u : xSt) (t : Int) (ht : 0 ≤ t ∧ t < 20) (hv : isV (u.1 1 t)) (hR : Rng u.1) : MMi l D a yX1_constantAt cX1_constantAt 2 (some .int) ({ frames := 0, cells := 0, slots := 0, locals := 0 } : Room) [.int (iI t)] u (fun r u2 => u2 = u ∧ ((10 ≤ u.1 1 t ∧ r = u.1 7 (u.1 1 t - 10)) ∨ (u.1 1 t < 10 ∧ r = u.1 1 t))) := by
  refine enMi (by decide +kernel) rfl (Nat.le_of_ble_eq_true rfl) ?_
  intro p e s m below meth c A Q ls F I hret hl
  have hl : lv_has ls 2 [(0, .ref a.1), (1, .int (iI t))] := hl
  refine lv_aload_n (pc := 0) F.1.1 F.1.2.1 dX1_constantAt_0 rfl (lv_at hl 0 rfl) ?_
  refine gM_1 (pc := 1) F I dX1_constantAt_1 ?_
  refine lv_iload_n (pc := 4) F.1.1 F.1.2.1 dX1_constantAt_4 rfl (lv_at hl 1 rfl) ?_
  refine ldM_1 (pc := 5) F I (by omega) dX1_constantAt_5 (fun v1 hv1 => ?_)
  have rv1 : -1 ≤ v1 ∧ v1 ≤ 127 := by rw [hv1]; exact hR 1 _
  refine xi_bp (pc := 6) F.1 dX1_constantAt_6 (by decide) ?_
  refine xi_clt (pc := 8) (tgt := 28) F.1 (by omega) dX1_constantAt_8 (by decide) (fun c2 => ?_) (fun c2 => ?_)
  · refine lv_aload_n (pc := 28) F.1.1 F.1.2.1 dX1_constantAt_28 rfl (lv_at hl 0 rfl) ?_
    refine gM_1 (pc := 29) F I dX1_constantAt_29 ?_
    refine lv_iload_n (pc := 32) F.1.1 F.1.2.1 dX1_constantAt_32 rfl (lv_at hl 1 rfl) ?_
    refine ldM_1 (pc := 33) F I (by omega) dX1_constantAt_33 (fun v3 hv3 => ?_)
    have rv3 : -1 ≤ v3 ∧ v3 ≤ 127 := by rw [hv3]; exact hR 1 _
    exact hret v3 u _ _ (⟨rfl, Or.inr ⟨by omega, by omega⟩⟩) I _ _ dX1_constantAt_34
  · refine lv_aload_n (pc := 11) F.1.1 F.1.2.1 dX1_constantAt_11 rfl (lv_at hl 0 rfl) ?_
    refine gM_7 (pc := 12) F I dX1_constantAt_12 ?_
    refine lv_aload_n (pc := 15) F.1.1 F.1.2.1 dX1_constantAt_15 rfl (lv_at hl 0 rfl) ?_
    refine gM_1 (pc := 16) F I dX1_constantAt_16 ?_
    refine lv_iload_n (pc := 19) F.1.1 F.1.2.1 dX1_constantAt_19 rfl (lv_at hl 1 rfl) ?_
    refine ldM_1 (pc := 20) F I (by omega) dX1_constantAt_20 (fun v4 hv4 => ?_)
    have rv4 : -1 ≤ v4 ∧ v4 ≤ 127 := by rw [hv4]; exact hR 1 _
    refine xi_bp (pc := 21) F.1 dX1_constantAt_21 (by decide) ?_
    refine xi_isub (pc := 23) F.1 dX1_constantAt_23 ?_
    refine ldM_7 (pc := 24) F I (by omega) dX1_constantAt_24 (fun v5 hv5 => ?_)
    have rv5 : -1 ≤ v5 ∧ v5 ≤ 127 := by rw [hv5]; exact hR 7 _
    refine lv_goto (pc := 25) (tgt := 34) F.1.1 F.1.2.1 dX1_constantAt_25 (by decide) ?_
    exact hret v5 u _ _ (⟨rfl, Or.inl ⟨by omega, by rw [hv5, hv4]⟩⟩) I _ _ dX1_constantAt_34
set_option maxHeartbeats 4000000 in
/-- fit -/
theorem cM_fit (l : Launch) (D : va_G) (a : xAd) (u : xSt) (t q : Int) (ht : isT t) (hq : 0 ≤ q ∧ q ≤ 6) (hR : Rng u.1) : MMi l D a yX1_fit cX1_fit 3 (some .boolean) ({ frames := 0, cells := 0, slots := 0, locals := 0 } : Room) [.int (iI t), .int (iI q)] u (fun r u2 => (u2 = u ∧ t < 20 ∧ ((r = 1 ∧ t = q) ∨ (r = 0 ∧ t ≠ q))) ∨ (20 ≤ t ∧ u.1 8 (t - 20) < 0 ∧ u2 = (up u.1 8 (t - 20) q, u.2) ∧ r = 1) ∨ (20 ≤ t ∧ 0 ≤ u.1 8 (t - 20) ∧ u2 = u ∧ ((r = 1 ∧ u.1 8 (t - 20) = q) ∨ (r = 0 ∧ u.1 8 (t - 20) ≠ q)))) := by
  refine enMz (by decide +kernel) rfl (Nat.le_of_ble_eq_true rfl) ?_
  intro p e s m below meth c A Q ls F I hret hl
  have hl : lv_has ls 3 [(0, .ref a.1), (1, .int (iI t)), (2, .int (iI q))] := hl
  refine lv_iload_n (pc := 0) F.1.1 F.1.2.1 dX1_fit_0 rfl (lv_at hl 1 rfl) ?_
  refine xi_bp (pc := 1) F.1 dX1_fit_1 (by decide) ?_
  refine xi_cge (pc := 3) (tgt := 17) F.1 (by omega) dX1_fit_3 (by decide) (fun c1 => ?_) (fun c1 => ?_)
  · refine lv_aload_n (pc := 17) F.1.1 F.1.2.1 dX1_fit_17 rfl (lv_at hl 0 rfl) ?_
    refine gM_8 (pc := 18) F I dX1_fit_18 ?_
    refine lv_iload_n (pc := 21) F.1.1 F.1.2.1 dX1_fit_21 rfl (lv_at hl 1 rfl) ?_
    refine xi_bp (pc := 22) F.1 dX1_fit_22 (by decide) ?_
    refine xi_isub (pc := 24) F.1 dX1_fit_24 ?_
    refine ldM_8 (pc := 25) F I (by omega) dX1_fit_25 (fun v2 hv2 => ?_)
    have rv2 : -1 ≤ v2 ∧ v2 ≤ 127 := by rw [hv2]; exact hR 8 _
    refine xi_zge (pc := 26) (tgt := 39) F.1 (by omega) dX1_fit_26 (by decide) (fun c3 => ?_) (fun c3 => ?_)
    · refine lv_aload_n (pc := 39) F.1.1 F.1.2.1 dX1_fit_39 rfl (lv_at hl 0 rfl) ?_
      refine gM_8 (pc := 40) F I dX1_fit_40 ?_
      refine lv_iload_n (pc := 43) F.1.1 F.1.2.1 dX1_fit_43 rfl (lv_at hl 1 rfl) ?_
      refine xi_bp (pc := 44) F.1 dX1_fit_44 (by decide) ?_
      refine xi_isub (pc := 46) F.1 dX1_fit_46 ?_
      refine ldM_8 (pc := 47) F I (by omega) dX1_fit_47 (fun v4 hv4 => ?_)
      have rv4 : -1 ≤ v4 ∧ v4 ≤ 127 := by rw [hv4]; exact hR 8 _
      refine lv_iload_n (pc := 48) F.1.1 F.1.2.1 dX1_fit_48 rfl (lv_at hl 2 rfl) ?_
      refine xi_cne (pc := 49) (tgt := 56) F.1 (by omega) dX1_fit_49 (by decide) (fun c5 => ?_) (fun c5 => ?_)
      · refine xi_ic (pc := 56) F.1 dX1_fit_56 ?_
        exact hret 0 u _ _ (by omega) (Or.inr (Or.inr ⟨by omega, by omega, rfl, by omega⟩)) I _ _ dX1_fit_57
      · refine xi_ic (pc := 52) F.1 dX1_fit_52 ?_
        refine lv_goto (pc := 53) (tgt := 57) F.1.1 F.1.2.1 dX1_fit_53 (by decide) ?_
        exact hret 1 u _ _ (by omega) (Or.inr (Or.inr ⟨by omega, by omega, rfl, by omega⟩)) I _ _ dX1_fit_57
    · refine lv_aload_n (pc := 29) F.1.1 F.1.2.1 dX1_fit_29 rfl (lv_at hl 0 rfl) ?_
      refine gM_8 (pc := 30) F I dX1_fit_30 ?_
      refine lv_iload_n (pc := 33) F.1.1 F.1.2.1 dX1_fit_33 rfl (lv_at hl 1 rfl) ?_
      refine xi_bp (pc := 34) F.1 dX1_fit_34 (by decide) ?_
      refine xi_isub (pc := 36) F.1 dX1_fit_36 ?_
      refine lv_iload_n (pc := 37) F.1.1 F.1.2.1 dX1_fit_37 rfl (lv_at hl 2 rfl) ?_
      refine stM_8 (pc := 38) F I (by omega) dX1_fit_38 (fun u6 H locs hu6 I => ?_)
      have hR : Rng u6.1 := by rw [hu6]; exact Rng_up hR (by omega)
      refine lv_aload_n (pc := 39) F.1.1 F.1.2.1 dX1_fit_39 rfl (lv_at hl 0 rfl) ?_
      refine gM_8 (pc := 40) F I dX1_fit_40 ?_
      refine lv_iload_n (pc := 43) F.1.1 F.1.2.1 dX1_fit_43 rfl (lv_at hl 1 rfl) ?_
      refine xi_bp (pc := 44) F.1 dX1_fit_44 (by decide) ?_
      refine xi_isub (pc := 46) F.1 dX1_fit_46 ?_
      refine ldM_8 (pc := 47) F I (by omega) dX1_fit_47 (fun v7 hv7 => ?_)
      have rv7 : -1 ≤ v7 ∧ v7 ≤ 127 := by rw [hv7]; exact hR 8 _
      have ev7 : v7 = q := by simp [hv7, hu6, up]
      refine lv_iload_n (pc := 48) F.1.1 F.1.2.1 dX1_fit_48 rfl (lv_at hl 2 rfl) ?_
      refine xi_cne (pc := 49) (tgt := 56) F.1 (by omega) dX1_fit_49 (by decide) (fun c8 => ?_) (fun c8 => ?_)
      · refine xi_ic (pc := 56) F.1 dX1_fit_56 ?_
        exact hret 0 u6 _ _ (by omega) (Or.inr (Or.inl ⟨by omega, by omega, hu6, by omega⟩)) I _ _ dX1_fit_57
      · refine xi_ic (pc := 52) F.1 dX1_fit_52 ?_
        refine lv_goto (pc := 53) (tgt := 57) F.1.1 F.1.2.1 dX1_fit_53 (by decide) ?_
        exact hret 1 u6 _ _ (by omega) (Or.inr (Or.inl ⟨by omega, by omega, hu6, by omega⟩)) I _ _ dX1_fit_57
  · refine lv_iload_n (pc := 6) F.1.1 F.1.2.1 dX1_fit_6 rfl (lv_at hl 1 rfl) ?_
    refine lv_iload_n (pc := 7) F.1.1 F.1.2.1 dX1_fit_7 rfl (lv_at hl 2 rfl) ?_
    refine xi_cne (pc := 8) (tgt := 15) F.1 (by omega) dX1_fit_8 (by decide) (fun c9 => ?_) (fun c9 => ?_)
    · refine xi_ic (pc := 15) F.1 dX1_fit_15 ?_
      exact hret 0 u _ _ (by omega) (Or.inl ⟨rfl, by omega, by omega⟩) I _ _ dX1_fit_16
    · refine xi_ic (pc := 11) F.1 dX1_fit_11 ?_
      refine lv_goto (pc := 12) (tgt := 16) F.1.1 F.1.2.1 dX1_fit_12 (by decide) ?_
      exact hret 1 u _ _ (by omega) (Or.inl ⟨rfl, by omega, by omega⟩) I _ _ dX1_fit_16
end
section
set_option maxRecDepth 100000
def dsM (g : xG) (t i : Int) : xG := fun k j => if k = 1 ∧ 10 * t ≤ j ∧ j < 10 * t + i then g 1 (j + 2) else g k j
def dpM (g : xG) (t : Int) : xG := up (dsM g t 8) 0 t (g 0 t - 1)
theorem dsM_0 (g : xG) (t : Int) : dsM g t 0 = g := by
  funext k j
  unfold dsM
  rw [if_neg (by omega)]
theorem dsM_s (g : xG) {t i : Int} (hi : 0 ≤ i) : up (dsM g t i) 1 (10 * t + i) (dsM g t i 1 (10 * t + i + 2)) = dsM g t (i + 1) := by
  funext k j
  have e1 : dsM g t i 1 (10 * t + i + 2) = g 1 (10 * t + i + 2) := by unfold dsM; rw [if_neg (by omega)]
  rw [e1]
  unfold up dsM
  by_cases h1 : k = 1 ∧ j = 10 * t + i
  · rw [if_pos h1, if_pos (by omega), h1.2]
  · rw [if_neg h1]
    by_cases h3 : k = 1 ∧ 10 * t ≤ j ∧ j < 10 * t + i
    · rw [if_pos h3, if_pos (by omega)]
    · rw [if_neg h3, if_neg (by omega)]
def lnM (g : xG) (x y i : Int) : xG := fun k j => if k = 1 ∧ 0 ≤ j ∧ j < i ∧ j % 10 < 2 * g 0 (j / 10) ∧ g 1 j = x then y else g k j
def cnM (g : xG) (x : Int) : Nat → Int
  | 0 => 0
  | n + 1 => cnM g x n + (if (n : Int) % 10 < 2 * g 0 ((n : Int) / 10) ∧ g 1 (n : Int) = x then 1 else 0)
theorem lnM_0 (g : xG) (x y : Int) : lnM g x y 0 = g := by
  funext k j
  unfold lnM
  rw [if_neg (by omega)]
theorem lnM_f (g : xG) {x y i : Int} (hi : 0 ≤ i) (h : ¬ (i % 10 < 2 * g 0 (i / 10) ∧ g 1 i = x)) : lnM g x y i = lnM g x y (i + 1) := by
  funext k j
  unfold lnM
  by_cases hj : j = i
  · subst hj
    rw [if_neg (by omega), if_neg (fun q => h q.2.2.2)]
  · by_cases h1 : k = 1 ∧ 0 ≤ j ∧ j < i ∧ j % 10 < 2 * g 0 (j / 10) ∧ g 1 j = x
    · rw [if_pos h1, if_pos ⟨h1.1, h1.2.1, by omega, h1.2.2.2⟩]
    · rw [if_neg h1, if_neg (fun q => h1 ⟨q.1, q.2.1, by omega, q.2.2.2⟩)]
theorem lnM_t (g : xG) {x y i : Int} (hi : 0 ≤ i) (h : i % 10 < 2 * g 0 (i / 10) ∧ g 1 i = x) : up (lnM g x y i) 1 i y = lnM g x y (i + 1) := by
  funext k j
  unfold up lnM
  by_cases hj : k = 1 ∧ j = i
  · obtain ⟨rfl, rfl⟩ := hj
    rw [if_pos ⟨rfl, rfl⟩, if_pos ⟨rfl, hi, by omega, h⟩]
  · rw [if_neg hj]
    by_cases h1 : k = 1 ∧ 0 ≤ j ∧ j < i ∧ j % 10 < 2 * g 0 (j / 10) ∧ g 1 j = x
    · rw [if_pos h1, if_pos ⟨h1.1, h1.2.1, by omega, h1.2.2.2⟩]
    · rw [if_neg h1, if_neg (fun q => h1 ⟨q.1, q.2.1, by omega, q.2.2.2⟩)]
set_option maxHeartbeats 4000000 in
/-- dropRow -/
theorem cM_dropRow (l : Launch) (D : va_G) (a : xAd) (u : xSt) (t : Int) (ht : i32 t) (hR : Rng u.1) (hn : ∀ j, 0 ≤ j → j ≤ 1 → 0 ≤ u.1 0 j ∧ u.1 0 j ≤ 5) : MMi l D a yX1_dropRow cX1_dropRow 3 (some .int) ({ frames := 1, cells := 0, slots := 0, locals := 21 } : Room) [.int (iI t)] u (fun r u2 => (¬ ((0 ≤ t ∧ t ≤ 1) ∧ u.1 0 t ≠ 0) ∧ r = -1 ∧ u2 = u) ∨ (((0 ≤ t ∧ t ≤ 1) ∧ u.1 0 t ≠ 0) ∧ r = u.1 0 t - 1 ∧ u2 = (dpM u.1 t, u.2))) := by
  refine enMi (by decide +kernel) rfl (Nat.le_of_ble_eq_true rfl) ?_
  intro p e s m below meth c A Q ls F I hret hl
  have hl : lv_has ls 3 [(0, .ref a.1), (1, .int (iI t))] := hl
  have loop : (0 ≤ t ∧ t ≤ 1) → u.1 0 t ≠ 0 → ∀ (n : Nat) (i : Int) (w : xSt) (H : Heap) (locs : List Loc) (ls : Array Slot), 0 ≤ i → i + n = 8 → w = (dsM u.1 t i, u.2) → Rng w.1 → IM D a A s H locs w → lv_has ls 3 [(2, .int (iI i)), (0, .ref a.1), (1, .int (iI t))] → W p l e ({ frames := 1, cells := 0, slots := 0, locals := 21 } : Room) s m (Value.ref a.1 :: [.int (iI t)]).toArray below meth c H locs 0 0 Q (F0 m 21 ls []) := by
    intro ht1 ht2 n
    have hnt := hn t ht1.1 ht1.2
    induction n with
    | zero =>
      intro i w H locs ls h0 hi hw hR I hl
      have hN : w.1 0 t = u.1 0 t := by rw [hw]; simp [dsM]
      refine lv_iload_n (pc := 21) F.1.1 F.1.2.1 dX1_dropRow_21 rfl (lv_at hl 0 rfl) ?_
      refine xi_bp (pc := 22) F.1 dX1_dropRow_22 (by decide) ?_
      refine xi_cge (pc := 24) (tgt := 57) F.1 (by omega) dX1_dropRow_24 (by decide) (fun c1 => ?_) (fun c1 => ?_)
      · refine lv_aload_n (pc := 57) F.1.1 F.1.2.1 dX1_dropRow_57 rfl (lv_at hl 1 rfl) ?_
        refine gM_0 (pc := 58) F I dX1_dropRow_58 ?_
        refine lv_iload_n (pc := 61) F.1.1 F.1.2.1 dX1_dropRow_61 rfl (lv_at hl 2 rfl) ?_
        refine lv_dup2_11 (pc := 62) F.1.1 F.1.2.1 dX1_dropRow_62 rfl rfl ?_
        refine ldM_0 (pc := 63) F I (by omega) dX1_dropRow_63 (fun v2 hv2 => ?_)
        have rv2 : -1 ≤ v2 ∧ v2 ≤ 127 := by rw [hv2]; exact hR 0 _
        refine xi_ic (pc := 64) F.1 dX1_dropRow_64 ?_
        refine xi_isub (pc := 65) F.1 dX1_dropRow_65 ?_
        refine stM_0 (pc := 66) F I (by omega) dX1_dropRow_66 (fun u3 H locs hu3 I => ?_)
        have hR : Rng u3.1 := by rw [hu3]; exact Rng_up hR (by omega)
        refine lv_aload_n (pc := 67) F.1.1 F.1.2.1 dX1_dropRow_67 rfl (lv_at hl 1 rfl) ?_
        refine gM_0 (pc := 68) F I dX1_dropRow_68 ?_
        refine lv_iload_n (pc := 71) F.1.1 F.1.2.1 dX1_dropRow_71 rfl (lv_at hl 2 rfl) ?_
        refine ldM_0 (pc := 72) F I (by omega) dX1_dropRow_72 (fun v4 hv4 => ?_)
        have rv4 : -1 ≤ v4 ∧ v4 ≤ 127 := by rw [hv4]; exact hR 0 _
        have ev4 : v4 = (v2 - 1) := by simp [hv4, hu3, up]
        exact hret v4 u3 _ _ (Or.inr ⟨⟨ht1, ht2⟩, by omega, by rw [hu3, hv2, hN, hw]; unfold dpM; rw [show i = 8 by omega]⟩) I _ _ dX1_dropRow_73
      · exfalso; omega
    | succ n ih =>
      intro i w H locs ls h0 hi hw hR I hl
      refine lv_iload_n (pc := 21) F.1.1 F.1.2.1 dX1_dropRow_21 rfl (lv_at hl 0 rfl) ?_
      refine xi_bp (pc := 22) F.1 dX1_dropRow_22 (by decide) ?_
      refine xi_cge (pc := 24) (tgt := 57) F.1 (by omega) dX1_dropRow_24 (by decide) (fun c1 => ?_) (fun c1 => ?_)
      · exfalso; omega
      · refine lv_aload_n (pc := 27) F.1.1 F.1.2.1 dX1_dropRow_27 rfl (lv_at hl 1 rfl) ?_
        refine gM_1 (pc := 28) F I dX1_dropRow_28 ?_
        refine xi_bp (pc := 31) F.1 dX1_dropRow_31 (by decide) ?_
        refine lv_iload_n (pc := 33) F.1.1 F.1.2.1 dX1_dropRow_33 rfl (lv_at hl 2 rfl) ?_
        refine xi_imul (pc := 34) F.1 dX1_dropRow_34 ?_
        refine lv_iload_n (pc := 35) F.1.1 F.1.2.1 dX1_dropRow_35 rfl (lv_at hl 0 rfl) ?_
        refine xi_iadd (pc := 36) F.1 dX1_dropRow_36 ?_
        refine lv_aload_n (pc := 37) F.1.1 F.1.2.1 dX1_dropRow_37 rfl (lv_at hl 1 rfl) ?_
        refine gM_1 (pc := 38) F I dX1_dropRow_38 ?_
        refine xi_bp (pc := 41) F.1 dX1_dropRow_41 (by decide) ?_
        refine lv_iload_n (pc := 43) F.1.1 F.1.2.1 dX1_dropRow_43 rfl (lv_at hl 2 rfl) ?_
        refine xi_imul (pc := 44) F.1 dX1_dropRow_44 ?_
        refine lv_iload_n (pc := 45) F.1.1 F.1.2.1 dX1_dropRow_45 rfl (lv_at hl 0 rfl) ?_
        refine xi_iadd (pc := 46) F.1 dX1_dropRow_46 ?_
        refine xi_ic (pc := 47) F.1 dX1_dropRow_47 ?_
        refine xi_iadd (pc := 48) F.1 dX1_dropRow_48 ?_
        refine ldM_1 (pc := 49) F I (by omega) dX1_dropRow_49 (fun v2 hv2 => ?_)
        have rv2 : -1 ≤ v2 ∧ v2 ≤ 127 := by rw [hv2]; exact hR 1 _
        refine stM_1 (pc := 50) F I (by omega) dX1_dropRow_50 (fun u3 H locs hu3 I => ?_)
        have hR : Rng u3.1 := by rw [hu3]; exact Rng_up hR (by omega)
        refine xi_iinc (pc := 51) (lv' := [(2, .int (iI (i + 1))), (0, .ref a.1), (1, .int (iI t))]) F.1 dX1_dropRow_51 hl (k := 0) rfl (by decide) rfl (fun ls hl => ?_)
        refine lv_goto (pc := 54) (tgt := 21) F.1.1 F.1.2.1 dX1_dropRow_54 (by decide) ?_
        exact ih (i + 1) u3 _ _ ls (by omega) (by omega) (by rw [hu3, hv2, hw]; exact congrArg (fun z => (z, u.2)) (dsM_s u.1 h0)) hR I hl
  refine lv_aload_n (pc := 0) F.1.1 F.1.2.1 dX1_dropRow_0 rfl (lv_at hl 0 rfl) ?_
  refine lv_iload_n (pc := 1) F.1.1 F.1.2.1 dX1_dropRow_1 rfl (lv_at hl 1 rfl) ?_
  refine caMi (pc := 2) (As := [.int (iI t)]) (rest := []) F I (cM_isTable l D a u t (by omega)) (lw_V q236 q238 qs12 q25 q239) hdM_isTable ⟨rfl, rfl⟩ ⟨Nat.le_of_ble_eq_true rfl, Nat.le_of_ble_eq_true rfl⟩ hl.1 rfl (Nat.le_of_ble_eq_true rfl) ⟨Nat.zero_le _, Nat.zero_le _⟩ dX1_dropRow_2 (fun r2 u1 H locs hp2 I => ?_)
  rw [hp2.1] at I
  have hr2 := hp2.2
  refine xi_zeq (pc := 5) (tgt := 17) F.1 (by omega) dX1_dropRow_5 (by decide) (fun c3 => ?_) (fun c3 => ?_)
  · refine xi_ic (pc := 17) F.1 dX1_dropRow_17 ?_
    exact hret (-1) u _ _ (Or.inl ⟨by omega, rfl, rfl⟩) I _ _ dX1_dropRow_18
  · refine lv_aload_n (pc := 8) F.1.1 F.1.2.1 dX1_dropRow_8 rfl (lv_at hl 0 rfl) ?_
    refine gM_0 (pc := 9) F I dX1_dropRow_9 ?_
    refine lv_iload_n (pc := 12) F.1.1 F.1.2.1 dX1_dropRow_12 rfl (lv_at hl 1 rfl) ?_
    refine ldM_0 (pc := 13) F I (by omega) dX1_dropRow_13 (fun v4 hv4 => ?_)
    have rv4 : -1 ≤ v4 ∧ v4 ≤ 127 := by rw [hv4]; exact hR 0 _
    refine xi_zne (pc := 14) (tgt := 19) F.1 (by omega) dX1_dropRow_14 (by decide) (fun c5 => ?_) (fun c5 => ?_)
    · refine xi_ic (pc := 19) F.1 dX1_dropRow_19 ?_
      refine lv_istore_n (pc := 20) (lv' := [(2, .int (iI 0)), (0, .ref a.1), (1, .int (iI t))]) F.1.1 F.1.2.1 dX1_dropRow_20 rfl hl (by decide) rfl (fun ls hl => ?_)
      exact loop (by omega) (by omega) 8 0 u _ _ ls (by omega) (by omega) (by rw [dsM_0]) hR I hl
    · refine xi_ic (pc := 17) F.1 dX1_dropRow_17 ?_
      exact hret (-1) u _ _ (Or.inl ⟨by omega, rfl, rfl⟩) I _ _ dX1_dropRow_18
set_option maxHeartbeats 4000000 in
/-- learn -/
theorem cM_learn (l : Launch) (D : va_G) (a : xAd) (u : xSt) (x y : Int) (hx : i32 x) (hy : i32 y) (hR : Rng u.1) : MMi l D a yX1_learn cX1_learn 6 (some .int) ({ frames := 0, cells := 0, slots := 0, locals := 0 } : Room) [.int (iI x), .int (iI y)] u (fun r u2 => (¬ ((10 ≤ x ∧ x ≤ 12) ∧ 0 ≤ y ∧ y ≤ 3) ∧ r = -1 ∧ u2 = u) ∨ (((10 ≤ x ∧ x ≤ 12) ∧ 0 ≤ y ∧ y ≤ 3) ∧ r = cnM u.1 x 20 ∧ u2 = (lnM u.1 x y 20, u.2))) := by
  refine enMi (by decide +kernel) rfl (Nat.le_of_ble_eq_true rfl) ?_
  intro p e s m below meth c A Q ls F I hret hl
  have hl : lv_has ls 6 [(0, .ref a.1), (1, .int (iI x)), (2, .int (iI y))] := hl
  have loop : ((10 ≤ x ∧ x ≤ 12) ∧ 0 ≤ y ∧ y ≤ 3) → ∀ (n k : Nat) (i q : Int) (w : xSt) (H : Heap) (locs : List Loc) (ls : Array Slot), i = k → k + n = 20 → q = cnM u.1 x k → w = (lnM u.1 x y i, u.2) → Rng w.1 → IM D a A s H locs w → lv_has ls 6 [(4, .int (iI i)), (3, .int (iI q)), (0, .ref a.1), (1, .int (iI x)), (2, .int (iI y))] → W p l e ({ frames := 0, cells := 0, slots := 0, locals := 0 } : Room) s m (Value.ref a.1 :: [.int (iI x), .int (iI y)]).toArray below meth c H locs 0 0 Q (F0 m 28 ls []) := by
    intro hxy n
    induction n with
    | zero =>
      intro k i q w H locs ls hik hk hq hw hR I hl
      refine lv_iload (pc := 28) F.1.1 F.1.2.1 dX1_learn_28 (lv_at hl 0 rfl) ?_
      refine xi_bp (pc := 30) F.1 dX1_learn_30 (by decide) ?_
      refine xi_cge (pc := 32) (tgt := 95) F.1 (by omega) dX1_learn_32 (by decide) (fun c1 => ?_) (fun c1 => ?_)
      · refine lv_iload_n (pc := 95) F.1.1 F.1.2.1 dX1_learn_95 rfl (lv_at hl 1 rfl) ?_
        exact hret q w _ _ (Or.inr ⟨hxy, by rw [hq, show k = 20 by omega], by rw [hw, show i = 20 by omega]⟩) I _ _ dX1_learn_96
      · exfalso; omega
    | succ n ih =>
      intro k i q w H locs ls hik hk hq hw hR I hl
      have hi0 : 0 ≤ i := by omega
      have w0 : w.1 0 (i / 10) = u.1 0 (i / 10) := by rw [hw]; simp [lnM]
      have w1 : w.1 1 i = u.1 1 i := by rw [hw]; simp [lnM]
      have hc : cnM u.1 x (k + 1) = q + (if i % 10 < 2 * u.1 0 (i / 10) ∧ u.1 1 i = x then 1 else 0) := by rw [hq, hik]; rfl
      refine lv_iload (pc := 28) F.1.1 F.1.2.1 dX1_learn_28 (lv_at hl 0 rfl) ?_
      refine xi_bp (pc := 30) F.1 dX1_learn_30 (by decide) ?_
      refine xi_cge (pc := 32) (tgt := 95) F.1 (by omega) dX1_learn_32 (by decide) (fun c1 => ?_) (fun c1 => ?_)
      · exfalso; omega
      · refine lv_iload (pc := 35) F.1.1 F.1.2.1 dX1_learn_35 (lv_at hl 0 rfl) ?_
        refine xi_bp (pc := 37) F.1 dX1_learn_37 (by decide) ?_
        refine xi_irem (pc := 39) F.1 (by omega) dX1_learn_39 ?_
        refine xi_ic (pc := 40) F.1 dX1_learn_40 ?_
        refine lv_aload_n (pc := 41) F.1.1 F.1.2.1 dX1_learn_41 rfl (lv_at hl 2 rfl) ?_
        refine gM_0 (pc := 42) F I dX1_learn_42 ?_
        refine lv_iload (pc := 45) F.1.1 F.1.2.1 dX1_learn_45 (lv_at hl 0 rfl) ?_
        refine xi_bp (pc := 47) F.1 dX1_learn_47 (by decide) ?_
        refine xi_idiv (pc := 49) F.1 (by omega) dX1_learn_49 ?_
        refine ldM_0 (pc := 50) F I (by omega) dX1_learn_50 (fun v2 hv2 => ?_)
        have rv2 : -1 ≤ v2 ∧ v2 ≤ 127 := by rw [hv2]; exact hR 0 _
        refine xi_imul (pc := 51) F.1 dX1_learn_51 ?_
        refine xi_cge (pc := 52) (tgt := 59) F.1 (by omega) dX1_learn_52 (by decide) (fun c3 => ?_) (fun c3 => ?_)
        · refine xi_ic (pc := 59) F.1 dX1_learn_59 ?_
          refine lv_istore (pc := 60) (lv' := [(5, .int (iI 0)), (4, .int (iI i)), (3, .int (iI q)), (0, .ref a.1), (1, .int (iI x)), (2, .int (iI y))]) F.1.1 F.1.2.1 dX1_learn_60 hl (by decide) rfl (fun ls hl => ?_)
          refine lv_iload (pc := 62) F.1.1 F.1.2.1 dX1_learn_62 (lv_at hl 0 rfl) ?_
          refine xi_zeq (pc := 64) (tgt := 89) F.1 (by omega) dX1_learn_64 (by decide) (fun c4 => ?_) (fun c4 => ?_)
          · refine xi_iinc (pc := 89) (lv' := [(4, .int (iI (i + 1))), (5, .int (iI 0)), (3, .int (iI q)), (0, .ref a.1), (1, .int (iI x)), (2, .int (iI y))]) F.1 dX1_learn_89 hl (k := 1) rfl (by decide) rfl (fun ls hl => ?_)
            refine lv_goto (pc := 92) (tgt := 28) F.1.1 F.1.2.1 dX1_learn_92 (by decide) ?_
            exact ih (k + 1) (i + 1) (q) w _ _ ls (by omega) (by omega) (by rw [hc, if_neg (by omega)] <;> omega) (by rw [hw]; exact congrArg (fun z => (z, u.2)) (lnM_f u.1 hi0 (by omega))) hR I (lv_sub hl [0, 2, 3, 4, 5] rfl)
          · exfalso; omega
        · refine xi_ic (pc := 55) F.1 dX1_learn_55 ?_
          refine lv_goto (pc := 56) (tgt := 60) F.1.1 F.1.2.1 dX1_learn_56 (by decide) ?_
          refine lv_istore (pc := 60) (lv' := [(5, .int (iI 1)), (4, .int (iI i)), (3, .int (iI q)), (0, .ref a.1), (1, .int (iI x)), (2, .int (iI y))]) F.1.1 F.1.2.1 dX1_learn_60 hl (by decide) rfl (fun ls hl => ?_)
          refine lv_iload (pc := 62) F.1.1 F.1.2.1 dX1_learn_62 (lv_at hl 0 rfl) ?_
          refine xi_zeq (pc := 64) (tgt := 89) F.1 (by omega) dX1_learn_64 (by decide) (fun c5 => ?_) (fun c5 => ?_)
          · exfalso; omega
          · refine lv_aload_n (pc := 67) F.1.1 F.1.2.1 dX1_learn_67 rfl (lv_at hl 3 rfl) ?_
            refine gM_1 (pc := 68) F I dX1_learn_68 ?_
            refine lv_iload (pc := 71) F.1.1 F.1.2.1 dX1_learn_71 (lv_at hl 1 rfl) ?_
            refine ldM_1 (pc := 73) F I (by omega) dX1_learn_73 (fun v6 hv6 => ?_)
            have rv6 : -1 ≤ v6 ∧ v6 ≤ 127 := by rw [hv6]; exact hR 1 _
            refine lv_iload_n (pc := 74) F.1.1 F.1.2.1 dX1_learn_74 rfl (lv_at hl 4 rfl) ?_
            refine xi_cne (pc := 75) (tgt := 89) F.1 (by omega) dX1_learn_75 (by decide) (fun c7 => ?_) (fun c7 => ?_)
            · refine xi_iinc (pc := 89) (lv' := [(4, .int (iI (i + 1))), (5, .int (iI 1)), (3, .int (iI q)), (0, .ref a.1), (1, .int (iI x)), (2, .int (iI y))]) F.1 dX1_learn_89 hl (k := 1) rfl (by decide) rfl (fun ls hl => ?_)
              refine lv_goto (pc := 92) (tgt := 28) F.1.1 F.1.2.1 dX1_learn_92 (by decide) ?_
              exact ih (k + 1) (i + 1) (q) w _ _ ls (by omega) (by omega) (by rw [hc, if_neg (by omega)] <;> omega) (by rw [hw]; exact congrArg (fun z => (z, u.2)) (lnM_f u.1 hi0 (by omega))) hR I (lv_sub hl [0, 2, 3, 4, 5] rfl)
            · refine lv_aload_n (pc := 78) F.1.1 F.1.2.1 dX1_learn_78 rfl (lv_at hl 3 rfl) ?_
              refine gM_1 (pc := 79) F I dX1_learn_79 ?_
              refine lv_iload (pc := 82) F.1.1 F.1.2.1 dX1_learn_82 (lv_at hl 1 rfl) ?_
              refine lv_iload_n (pc := 84) F.1.1 F.1.2.1 dX1_learn_84 rfl (lv_at hl 5 rfl) ?_
              refine stM_1 (pc := 85) F I (by omega) dX1_learn_85 (fun u8 H locs hu8 I => ?_)
              have hR : Rng u8.1 := by rw [hu8]; exact Rng_up hR (by omega)
              refine xi_iinc (pc := 86) (lv' := [(3, .int (iI (q + 1))), (5, .int (iI 1)), (4, .int (iI i)), (0, .ref a.1), (1, .int (iI x)), (2, .int (iI y))]) F.1 dX1_learn_86 hl (k := 2) rfl (by decide) rfl (fun ls hl => ?_)
              refine xi_iinc (pc := 89) (lv' := [(4, .int (iI (i + 1))), (3, .int (iI (q + 1))), (5, .int (iI 1)), (0, .ref a.1), (1, .int (iI x)), (2, .int (iI y))]) F.1 dX1_learn_89 hl (k := 2) rfl (by decide) rfl (fun ls hl => ?_)
              refine lv_goto (pc := 92) (tgt := 28) F.1.1 F.1.2.1 dX1_learn_92 (by decide) ?_
              exact ih (k + 1) (i + 1) ((q + 1)) u8 _ _ ls (by omega) (by omega) (by rw [hc, if_pos (by omega)] <;> omega) (by rw [hu8, hw]; exact congrArg (fun z => (z, u.2)) (lnM_t u.1 hi0 (by omega))) hR I (lv_sub hl [0, 1, 3, 4, 5] rfl)
  refine lv_iload_n (pc := 0) F.1.1 F.1.2.1 dX1_learn_0 rfl (lv_at hl 1 rfl) ?_
  refine xi_bp (pc := 1) F.1 dX1_learn_1 (by decide) ?_
  refine xi_clt (pc := 3) (tgt := 21) F.1 (by omega) dX1_learn_3 (by decide) (fun c1 => ?_) (fun c1 => ?_)
  · refine xi_ic (pc := 21) F.1 dX1_learn_21 ?_
    exact hret (-1) u _ _ (Or.inl ⟨by omega, rfl, rfl⟩) I _ _ dX1_learn_22
  · refine lv_iload_n (pc := 6) F.1.1 F.1.2.1 dX1_learn_6 rfl (lv_at hl 1 rfl) ?_
    refine xi_bp (pc := 7) F.1 dX1_learn_7 (by decide) ?_
    refine xi_cgt (pc := 9) (tgt := 21) F.1 (by omega) dX1_learn_9 (by decide) (fun c2 => ?_) (fun c2 => ?_)
    · refine xi_ic (pc := 21) F.1 dX1_learn_21 ?_
      exact hret (-1) u _ _ (Or.inl ⟨by omega, rfl, rfl⟩) I _ _ dX1_learn_22
    · refine lv_iload_n (pc := 12) F.1.1 F.1.2.1 dX1_learn_12 rfl (lv_at hl 2 rfl) ?_
      refine xi_zlt (pc := 13) (tgt := 21) F.1 (by omega) dX1_learn_13 (by decide) (fun c3 => ?_) (fun c3 => ?_)
      · refine xi_ic (pc := 21) F.1 dX1_learn_21 ?_
        exact hret (-1) u _ _ (Or.inl ⟨by omega, rfl, rfl⟩) I _ _ dX1_learn_22
      · refine lv_iload_n (pc := 16) F.1.1 F.1.2.1 dX1_learn_16 rfl (lv_at hl 2 rfl) ?_
        refine xi_ic (pc := 17) F.1 dX1_learn_17 ?_
        refine xi_cle (pc := 18) (tgt := 23) F.1 (by omega) dX1_learn_18 (by decide) (fun c4 => ?_) (fun c4 => ?_)
        · refine xi_ic (pc := 23) F.1 dX1_learn_23 ?_
          refine lv_istore_n (pc := 24) (lv' := [(3, .int (iI 0)), (0, .ref a.1), (1, .int (iI x)), (2, .int (iI y))]) F.1.1 F.1.2.1 dX1_learn_24 rfl hl (by decide) rfl (fun ls hl => ?_)
          refine xi_ic (pc := 25) F.1 dX1_learn_25 ?_
          refine lv_istore (pc := 26) (lv' := [(4, .int (iI 0)), (3, .int (iI 0)), (0, .ref a.1), (1, .int (iI x)), (2, .int (iI y))]) F.1.1 F.1.2.1 dX1_learn_26 hl (by decide) rfl (fun ls hl => ?_)
          exact loop (by omega) 20 0 0 0 u _ _ ls rfl rfl rfl (by rw [lnM_0]) hR I hl
        · refine xi_ic (pc := 21) F.1 dX1_learn_21 ?_
          exact hret (-1) u _ _ (Or.inl ⟨by omega, rfl, rfl⟩) I _ _ dX1_learn_22
end
section
set_option maxRecDepth 100000
/-! the reference's matching: what its picks and bindings mean -/
/-- the reference's state says the same tables and rules -/
def RelM (g gm : xG) : Prop := (∀ t, 0 ≤ t → t ≤ 1 → gm 0 t = g 0 t ∧ ∀ i, 0 ≤ i → i < g 0 t → gm 1 (10 * t + 2 * i) = g 1 (5 * t + i) ∧ gm 1 (10 * t + 2 * i + 1) = g 2 (5 * t + i)) ∧ gm 2 0 = g 3 0 ∧
  (∀ r, 0 ≤ r → r < g 3 0 → gm 3 (2 * r) = g 4 r ∧ gm 3 (2 * r + 1) = g 5 r ∧ gm 4 r = g 6 r ∧ ∀ k, 0 ≤ k → k < g 6 r → gm 5 (3 * r + k) = g 7 (3 * r + k) ∧ gm 6 (2 * (3 * r + k)) = g 8 (3 * r + k) ∧ gm 6 (2 * (3 * r + k) + 1) = g 9 (3 * r + k))
theorem RelM_eq {g gm gm2 : xG} (h : ∀ k, k ≤ 6 → gm2 k = gm k) (hR : RelM g gm) : RelM g gm2 := by
  unfold RelM
  rw [h 0 (by decide), h 1 (by decide), h 2 (by decide), h 3 (by decide), h 4 (by decide), h 5 (by decide), h 6 (by decide)]
  exact hR
def kap (kn : Int → Int) : Int → Int := fun c => if 10 ≤ c ∧ c ≤ 12 then kn (c - 10) else c
def MatP (g : xG) (r : Int) (θ : Int → Int) (j row : Int) : Prop := row < g 0 (g 7 (3 * r + j)) ∧ θ (g 8 (3 * r + j)) = θ (g 1 (5 * g 7 (3 * r + j) + row)) ∧ θ (g 9 (3 * r + j)) = θ (g 2 (5 * g 7 (3 * r + j) + row))
def rsP (p : Int) : Nat → Int
  | 0 => p
  | n + 1 => rsP p n / 5
theorem rsP_r {p : Int} (hp : 0 ≤ p ∧ p < 125) : ∀ n, 0 ≤ rsP p n ∧ rsP p n < 125 := by
  intro n
  induction n with
  | zero => exact hp
  | succ n ih =>
    show 0 ≤ rsP p n / 5 ∧ rsP p n / 5 < 125
    omega
def Ext (β θ : Int → Int) : Prop := ∀ i, 0 ≤ i → i < 4 → 0 ≤ β i → θ (20 + i) = β i
def bRg (β : Int → Int) : Prop := ∀ i, 0 ≤ i → i < 4 → β i = -1 ∨ (0 ≤ β i ∧ β i ≤ 6)
def FitJ (g : xG) (r p : Int) (κ : Int → Int) (kn : Nat) (β : Int → Int) : Prop := bRg β ∧
  (∀ i, 0 ≤ i → i < 4 → (0 ≤ β i ↔ ∃ j : Nat, j < kn ∧ (g 8 (3 * r + j) = 20 + i ∨ g 9 (3 * r + j) = 20 + i))) ∧
  (∀ θ : Int → Int, (∀ c, c < 20 → θ c = κ c) → ((∀ j : Nat, j < kn → MatP g r θ j (rsP p j % 5)) ↔ Ext β θ))
def FitF (g : xG) (r p : Int) (κ : Int → Int) : Prop := ∀ θ : Int → Int, (∀ c, c < 20 → θ c = κ c) → ¬ ∀ j : Nat, (j : Int) < g 6 r → MatP g r θ j (rsP p j % 5)
def fitS (κ : Int → Int) (t q r : Int) (β β2 : Int → Int) : Prop := (r = 1 ∧ bRg β2 ∧ (∀ i, 0 ≤ i → i < 4 → (0 ≤ β2 i ↔ (0 ≤ β i ∨ t = 20 + i))) ∧ ∀ θ : Int → Int, (∀ c, c < 20 → θ c = κ c) → (Ext β2 θ ↔ (Ext β θ ∧ θ t = q))) ∨ (r = 0 ∧ ∀ θ : Int → Int, (∀ c, c < 20 → θ c = κ c) → Ext β θ → θ t ≠ q)
theorem fit_sem {κ : Int → Int} {u u2 : xSt} {t q r : Int} (ht : isT t) (hq : 0 ≤ q ∧ q ≤ 6) (hκ : ∀ c, c < 10 → κ c = c) (hb : bRg (u.1 8)) (hR : Rng u.1)
    (h : (u2 = u ∧ t < 20 ∧ ((r = 1 ∧ t = q) ∨ (r = 0 ∧ t ≠ q))) ∨ (20 ≤ t ∧ u.1 8 (t - 20) < 0 ∧ u2 = (up u.1 8 (t - 20) q, u.2) ∧ r = 1) ∨ (20 ≤ t ∧ 0 ≤ u.1 8 (t - 20) ∧ u2 = u ∧ ((r = 1 ∧ u.1 8 (t - 20) = q) ∨ (r = 0 ∧ u.1 8 (t - 20) ≠ q)))) :
    (∀ k, k ≠ 8 → u2.1 k = u.1 k) ∧ u2.2 = u.2 ∧ Rng u2.1 ∧ fitS κ t q r (u.1 8) (u2.1 8) := by
  rcases h with ⟨rfl, h1, h2⟩ | ⟨h1, h2, rfl, h3⟩ | ⟨h1, h2, rfl, h3⟩
  · refine ⟨fun _ _ => rfl, rfl, hR, ?_⟩
    rcases h2 with ⟨h2, h3⟩ | ⟨h2, h3⟩
    · refine Or.inl ⟨h2, hb, fun i i0 i1 => ⟨fun z => Or.inl z, fun z => ?_⟩, fun θ hθ => ⟨fun z => ⟨z, ?_⟩, fun z => z.1⟩⟩
      · rcases z with z | z
        · exact z
        · omega
      · rw [hθ t h1, hκ t (by omega)]; exact h3
    · refine Or.inr ⟨h2, fun θ hθ _ => ?_⟩
      rw [hθ t h1, hκ t (by omega)]; exact h3
  · have e : ∀ i, ((up u.1 8 (t - 20) q, u.2) : xSt).1 8 i = if i = t - 20 then q else u.1 8 i := by
      intro i
      show up u.1 8 (t - 20) q 8 i = _
      unfold up
      by_cases hi : i = t - 20
      · rw [if_pos ⟨rfl, hi⟩, if_pos hi]
      · rw [if_neg (fun z => hi z.2), if_neg hi]
    refine ⟨fun k hk => up_o _ _ _ hk, rfl, Rng_up hR (by omega), Or.inl ⟨h3, fun i i0 i1 => ?_, fun i i0 i1 => ?_, fun θ hθ => ⟨fun z => ⟨fun i i0 i1 z1 => ?_, ?_⟩, fun z i i0 i1 z1 => ?_⟩⟩⟩
    · rw [e]
      split
      · exact Or.inr hq
      · exact hb i i0 i1
    · rw [e]
      split
      · constructor
        · intro _; exact Or.inr (by omega)
        · intro _; exact hq.1
      · constructor
        · intro z; exact Or.inl z
        · rintro (z | z)
          · exact z
          · omega
    · have h5 := z i i0 i1
      have h6 : ((up u.1 8 (t - 20) q, u.2) : xSt).1 8 i = u.1 8 i := by
        rw [e, if_neg]
        intro q2
        rw [q2] at z1
        omega
      rw [h6] at h5
      exact h5 z1
    · have h5 := z (t - 20) (by omega) (by omega)
      rw [e, if_pos rfl] at h5
      have h6 := h5 hq.1
      rw [show 20 + (t - 20) = t by omega] at h6
      exact h6
    · rw [e] at z1 ⊢
      by_cases hi : i = t - 20
      · rw [if_pos hi, hi, show 20 + (t - 20) = t by omega]
        exact z.2
      · rw [if_neg hi] at z1 ⊢
        exact z.1 i i0 i1 z1
  · refine ⟨fun _ _ => rfl, rfl, hR, ?_⟩
    have key : ∀ θ : Int → Int, Ext (u2.1 8) θ → θ t = u2.1 8 (t - 20) := by
      intro θ hE
      have h5 := hE (t - 20) (by omega) (by omega) h2
      rw [show 20 + (t - 20) = t by omega] at h5
      exact h5
    rcases h3 with ⟨h3, h4⟩ | ⟨h3, h4⟩
    · refine Or.inl ⟨h3, hb, fun i i0 i1 => ⟨fun z => Or.inl z, fun z => ?_⟩, fun θ hθ => ⟨fun z => ⟨z, (key θ z).trans h4⟩, fun z => z.1⟩⟩
      rcases z with z | z
      · exact z
      · rw [show i = t - 20 by omega]; exact h2
    · exact Or.inr ⟨h3, fun θ _ hE => by rw [key θ hE]; exact h4⟩
theorem FitJ_0 (g : xG) (r p : Int) (κ β : Int → Int) (hβ : ∀ i, 0 ≤ i → i < 4 → β i = -1) : FitJ g r p κ 0 β := by
  refine ⟨fun i i0 i1 => Or.inl (hβ i i0 i1), fun i i0 i1 => ⟨fun z => ?_, fun z => ?_⟩, fun θ _ => ⟨fun _ i i0 i1 z => ?_, fun _ j hj => ?_⟩⟩
  · rw [hβ i i0 i1] at z; omega
  · obtain ⟨j, hj, _⟩ := z; omega
  · rw [hβ i i0 i1] at z; omega
  · omega
theorem lt_sN {P : Nat → Prop} {k : Nat} : (∀ j : Nat, j < k + 1 → P j) ↔ ((∀ j : Nat, j < k → P j) ∧ P k) := by
  constructor
  · intro h; exact ⟨fun j hj => h j (by omega), h k (by omega)⟩
  · intro h j hj
    by_cases hk : j = k
    · exact hk ▸ h.2
    · exact h.1 j (by omega)
theorem FitJ_s {g : xG} {r p : Int} {κ : Int → Int} {kn : Nat} {β β1 β2 : Int → Int} {r1 r2 : Int} (h : FitJ g r p κ kn β) (hv : g 1 (5 * g 7 (3 * r + kn) + rsP p kn % 5) < 20 ∧ g 2 (5 * g 7 (3 * r + kn) + rsP p kn % 5) < 20) (hrow : rsP p kn % 5 < g 0 (g 7 (3 * r + kn)))
    (h1 : fitS κ (g 8 (3 * r + kn)) (κ (g 1 (5 * g 7 (3 * r + kn) + rsP p kn % 5))) r1 β β1) (e1 : r1 ≠ 0) (h2 : fitS κ (g 9 (3 * r + kn)) (κ (g 2 (5 * g 7 (3 * r + kn) + rsP p kn % 5))) r2 β1 β2) (e2 : r2 ≠ 0) : FitJ g r p κ (kn + 1) β2 := by
  rcases h1 with ⟨_, a1, a2, a3⟩ | ⟨z, _⟩
  · rcases h2 with ⟨_, b1, b2, b3⟩ | ⟨z, _⟩
    · refine ⟨b1, fun i i0 i1 => ?_, fun θ hθ => ?_⟩
      · rw [b2 i i0 i1, a2 i i0 i1, h.2.1 i i0 i1]
        constructor
        · rintro ((⟨j, hj, z⟩ | z) | z)
          · exact ⟨j, by omega, z⟩
          · exact ⟨kn, by omega, Or.inl z⟩
          · exact ⟨kn, by omega, Or.inr z⟩
        · rintro ⟨j, hj, z⟩
          by_cases hk : j = kn
          · subst hk
            rcases z with z | z
            · exact Or.inl (Or.inr z)
            · exact Or.inr z
          · exact Or.inl (Or.inl ⟨j, by omega, z⟩)
      · rw [b3 θ hθ, a3 θ hθ, ← h.2.2 θ hθ, lt_sN]
        unfold MatP
        rw [hθ _ hv.1, hθ _ hv.2]
        constructor
        · rintro ⟨z1, _, z2, z3⟩; exact ⟨⟨z1, z2⟩, z3⟩
        · rintro ⟨⟨z1, z2⟩, z3⟩; exact ⟨z1, hrow, z2, z3⟩
    · exact absurd z e2
  · exact absurd z e1
theorem FitF_1 {g : xG} {r p : Int} {κ : Int → Int} {kn : Nat} {β : Int → Int} (h : FitJ g r p κ kn β) (hk : (kn : Int) < g 6 r) (hx : ∀ θ : Int → Int, (∀ c, c < 20 → θ c = κ c) → Ext β θ → ¬ MatP g r θ kn (rsP p kn % 5)) : FitF g r p κ := by
  intro θ hθ hM
  have h1 := (h.2.2 θ hθ).mp (fun j hj => hM j (by omega))
  exact hx θ hθ h1 (hM kn hk)
/-- the number that picks given rows -/
theorem pick_ex {g : xG} {r : Int} {θ : Int → Int} (hn : 0 ≤ g 6 r ∧ g 6 r ≤ 3) (hc : ∀ j, 0 ≤ j → j < g 6 r → g 0 (g 7 (3 * r + j)) ≤ 5) (hM : Mat g r θ) : ∃ p, (0 ≤ p ∧ p < 125) ∧ rsP p (g 6 r).toNat = 0 ∧ ∀ j : Nat, (j : Int) < g 6 r → MatP g r θ j (rsP p j % 5) := by
  have row : ∀ j, ∃ w, (0 ≤ w ∧ w < 5) ∧ (0 ≤ j → j < g 6 r → MatP g r θ j w) := by
    intro j
    by_cases hj : 0 ≤ j ∧ j < g 6 r
    · obtain ⟨w, w0, w1, w2, w3⟩ := hM j hj.1 hj.2
      have := hc j hj.1 hj.2
      exact ⟨w, by omega, fun _ _ => ⟨w1, w2, w3⟩⟩
    · exact ⟨0, by omega, fun h1 h2 => absurd ⟨h1, h2⟩ hj⟩
  obtain ⟨w0, a0, b0⟩ := row 0
  obtain ⟨w1, a1, b1⟩ := row 1
  obtain ⟨w2, a2, b2⟩ := row 2
  have hcase : g 6 r = 0 ∨ g 6 r = 1 ∨ g 6 r = 2 ∨ g 6 r = 3 := by omega
  have r0 : ∀ p, rsP p 0 = p := fun _ => rfl
  have r1 : ∀ p, rsP p 1 = p / 5 := fun _ => rfl
  have r2 : ∀ p, rsP p 2 = p / 5 / 5 := fun _ => rfl
  have r3 : ∀ p, rsP p 3 = p / 5 / 5 / 5 := fun _ => rfl
  have c0 : ((0 : Nat) : Int) = 0 := rfl
  have c1 : ((1 : Nat) : Int) = 1 := rfl
  have c2 : ((2 : Nat) : Int) = 2 := rfl
  rcases hcase with hg | hg | hg | hg
  · refine ⟨0, by omega, by rw [hg]; rfl, fun j hj => ?_⟩
    omega
  · refine ⟨w0, by omega, by rw [hg, show (1 : Int).toNat = 1 from rfl, r1]; omega, fun j hj => ?_⟩
    have : j = 0 := by omega
    subst this
    rw [r0, c0, show w0 % 5 = w0 by omega]
    exact b0 (by omega) (by omega)
  · refine ⟨w0 + 5 * w1, by omega, by rw [hg, show (2 : Int).toNat = 2 from rfl, r2]; omega, fun j hj => ?_⟩
    have : j = 0 ∨ j = 1 := by omega
    rcases this with rfl | rfl
    · rw [r0, c0, show (w0 + 5 * w1) % 5 = w0 by omega]
      exact b0 (by omega) (by omega)
    · rw [r1, c1, show (w0 + 5 * w1) / 5 % 5 = w1 by omega]
      exact b1 (by omega) (by omega)
  · refine ⟨w0 + 5 * w1 + 25 * w2, by omega, by rw [hg, show (3 : Int).toNat = 3 from rfl, r3]; omega, fun j hj => ?_⟩
    have : j = 0 ∨ j = 1 ∨ j = 2 := by omega
    rcases this with rfl | rfl | rfl
    · rw [r0, c0, show (w0 + 5 * w1 + 25 * w2) % 5 = w0 by omega]
      exact b0 (by omega) (by omega)
    · rw [r1, c1, show (w0 + 5 * w1 + 25 * w2) / 5 % 5 = w1 by omega]
      exact b1 (by omega) (by omega)
    · rw [r2, c2, show (w0 + 5 * w1 + 25 * w2) / 5 / 5 % 5 = w2 by omega]
      exact b2 (by omega) (by omega)
/-- what a pick answers -/
def PAns (g : xG) (κ : Int → Int) (r p x y : Int) : Prop := rsP p (g 6 r).toNat = 0 ∧ ∃ θ : Int → Int, (∀ c, c < 20 → θ c = κ c) ∧ (∀ j : Nat, (j : Int) < g 6 r → MatP g r θ j (rsP p j % 5)) ∧ θ (g 4 r) = x ∧ θ (g 5 r) = y
def RAns (g : xG) (κ : Int → Int) (r x y : Int) : Prop := ∃ θ : Int → Int, (∀ c, c < 20 → θ c = κ c) ∧ Mat g r θ ∧ θ (g 4 r) = x ∧ θ (g 5 r) = y
theorem pick_iff {g : xG} {r x y : Int} {κ : Int → Int} (hV : Val g) (hr : 0 ≤ r ∧ r < g 3 0) : (∃ p, (0 ≤ p ∧ p < 125) ∧ PAns g κ r p x y) ↔ RAns g κ r x y := by
  have hq := hV.2.2 r hr.1 hr.2
  constructor
  · rintro ⟨p, hp, _, θ, t1, t2, t3, t4⟩
    refine ⟨θ, t1, fun j j0 j1 => ?_, t3, t4⟩
    obtain ⟨k, rfl⟩ := Int.eq_ofNat_of_zero_le j0
    have h := t2 k j1
    have := rsP_r hp k
    exact ⟨rsP p k % 5, by omega, h.1, h.2.1, h.2.2⟩
  · rintro ⟨θ, t1, t2, t3, t4⟩
    obtain ⟨p, hp, p1, p2⟩ := pick_ex (θ := θ) ⟨hq.2.2.1, hq.2.2.2.1⟩ (fun j j0 j1 => by
      have ha := hq.2.2.2.2 j j0 j1
      exact (hV.1 _ ha.1.1 ha.1.2).2.1) t2
    exact ⟨p, hp, p1, θ, t1, p2, t3, t4⟩
/-- the head's value under bindings -/
def hdV (β : Int → Int) (t : Int) : Int := if t < 20 then t else β (t - 20)
theorem hdV_bd {g : xG} {r p t : Int} {κ β : Int → Int} (hV : Val g) (hr : 0 ≤ r ∧ r < g 3 0) (ht : isT t) (h : FitJ g r p κ (g 6 r).toNat β) : (0 ≤ hdV β t ↔ inBd g r t) ∧ hdV β t ≤ 6 ∧ (-1 ≤ hdV β t) := by
  have hq := hV.2.2 r hr.1 hr.2
  unfold hdV
  by_cases h1 : t < 20
  · rw [if_pos h1]
    exact ⟨⟨fun _ => Or.inl h1, fun _ => by omega⟩, by omega, by omega⟩
  · rw [if_neg h1]
    have h2 := h.1 (t - 20) (by omega) (by omega)
    refine ⟨?_, by omega, by omega⟩
    rw [h.2.1 (t - 20) (by omega) (by omega)]
    constructor
    · rintro ⟨j, hj, z⟩
      exact Or.inr ⟨j, by omega, by omega, by omega⟩
    · rintro (z | ⟨k, k0, k1, z⟩)
      · omega
      · obtain ⟨j, rfl⟩ := Int.eq_ofNat_of_zero_le k0
        exact ⟨j, by omega, by omega⟩
theorem hdV_th {g : xG} {r p t : Int} {κ β θ : Int → Int} (hκ : ∀ c, c < 10 → κ c = c) (ht : isT t) (hθ : ∀ c, c < 20 → θ c = κ c) (hE : Ext β θ) (h0 : 0 ≤ hdV β t) : θ t = hdV β t := by
  unfold hdV at h0 ⊢
  by_cases h1 : t < 20
  · rw [if_pos h1, hθ t h1, hκ t (by omega)]
  · rw [if_neg h1] at h0 ⊢
    have h2 := hE (t - 20) (by omega) (by omega) h0
    rw [show 20 + (t - 20) = t by omega] at h2
    exact h2
theorem hit_ok {g : xG} {r p x y : Int} {κ β : Int → Int} (hκ : ∀ c, c < 10 → κ c = c) (hV : Val g) (hr : 0 ≤ r ∧ r < g 3 0) (hp : rsP p (g 6 r).toNat = 0) (h : FitJ g r p κ (g 6 r).toNat β) (ha : 0 ≤ hdV β (g 4 r)) (hb : 0 ≤ hdV β (g 5 r)) : PAns g κ r p x y ↔ (x = hdV β (g 4 r) ∧ y = hdV β (g 5 r)) := by
  have hq := hV.2.2 r hr.1 hr.2
  have key : ∀ θ : Int → Int, (∀ c, c < 20 → θ c = κ c) → ((∀ j : Nat, (j : Int) < g 6 r → MatP g r θ j (rsP p j % 5)) ↔ Ext β θ) := by
    intro θ hθ
    rw [← h.2.2 θ hθ]
    constructor
    · intro z j hj; exact z j (by omega)
    · intro z j hj; exact z j (by omega)
  constructor
  · rintro ⟨_, θ, t1, t2, t3, t4⟩
    have hE := (key θ t1).mp t2
    exact ⟨by rw [← t3]; exact hdV_th (g := g) (r := r) (p := p) hκ hq.1 t1 hE ha, by rw [← t4]; exact hdV_th (g := g) (r := r) (p := p) hκ hq.2.1 t1 hE hb⟩
  · rintro ⟨rfl, rfl⟩
    have hθ : ∀ c, c < 20 → (fun c => if c < 20 then κ c else β (c - 20)) c = κ c := fun c hc => if_pos hc
    have hE : Ext β (fun c => if c < 20 then κ c else β (c - 20)) := by
      intro i i0 i1 _
      dsimp only
      rw [if_neg (by omega), show 20 + i - 20 = i by omega]
    exact ⟨hp, _, hθ, (key _ hθ).mpr hE, hdV_th (g := g) (r := r) (p := p) hκ hq.1 hθ hE ha, hdV_th (g := g) (r := r) (p := p) hκ hq.2.1 hθ hE hb⟩
theorem no_pick {g : xG} {r p x y : Int} {κ : Int → Int} (h : rsP p (g 6 r).toNat ≠ 0 ∨ FitF g r p κ) : ¬ PAns g κ r p x y := by
  rintro ⟨h1, θ, t1, t2, _⟩
  rcases h with h | h
  · exact h h1
  · exact h θ t1 t2
end
section
set_option maxRecDepth 100000
theorem kap_of {kn : Int → Int} {v r : Int} (hv : isV v) (h : (10 ≤ v ∧ r = kn (v - 10)) ∨ (v < 10 ∧ r = v)) : r = kap kn v := by
  unfold kap
  rcases h with h | h
  · rw [if_pos (by omega)]; exact h.2
  · rw [if_neg (by omega)]; exact h.2
theorem kap_r {kn : Int → Int} {v : Int} (hk : ∀ i, 0 ≤ i → i ≤ 2 → 0 ≤ kn i ∧ kn i ≤ 6) (hv : isV v) : 0 ≤ kap kn v ∧ kap kn v ≤ 6 := by
  unfold kap
  split
  · exact hk (v - 10) (by omega) (by omega)
  · omega
theorem kap_lo (kn : Int → Int) : ∀ c, c < 10 → kap kn c = c := by
  intro c hc
  unfold kap
  rw [if_neg (by omega)]
theorem FitF_2 {g : xG} {r p : Int} {κ : Int → Int} {kn : Nat} {β β1 : Int → Int} {r1 : Int} (h : FitJ g r p κ kn β) (hk : (kn : Int) < g 6 r) (hv : g 1 (5 * g 7 (3 * r + kn) + rsP p kn % 5) < 20 ∧ g 2 (5 * g 7 (3 * r + kn) + rsP p kn % 5) < 20)
    (h1 : fitS κ (g 8 (3 * r + kn)) (κ (g 1 (5 * g 7 (3 * r + kn) + rsP p kn % 5))) r1 β β1) (e1 : r1 = 0) : FitF g r p κ := by
  refine FitF_1 h hk (fun θ hθ hE hM => ?_)
  rcases h1 with ⟨z, _⟩ | ⟨_, z⟩
  · omega
  · exact z θ hθ hE (by rw [hM.2.1, hθ _ hv.1])
theorem FitF_3 {g : xG} {r p : Int} {κ : Int → Int} {kn : Nat} {β β1 β2 : Int → Int} {r1 r2 : Int} (h : FitJ g r p κ kn β) (hk : (kn : Int) < g 6 r) (hv : g 1 (5 * g 7 (3 * r + kn) + rsP p kn % 5) < 20 ∧ g 2 (5 * g 7 (3 * r + kn) + rsP p kn % 5) < 20)
    (h1 : fitS κ (g 8 (3 * r + kn)) (κ (g 1 (5 * g 7 (3 * r + kn) + rsP p kn % 5))) r1 β β1) (e1 : r1 ≠ 0) (h2 : fitS κ (g 9 (3 * r + kn)) (κ (g 2 (5 * g 7 (3 * r + kn) + rsP p kn % 5))) r2 β1 β2) (e2 : r2 = 0) : FitF g r p κ := by
  refine FitF_1 h hk (fun θ hθ hE hM => ?_)
  rcases h1 with ⟨_, _, _, a3⟩ | ⟨z, _⟩
  · rcases h2 with ⟨z, _⟩ | ⟨_, z⟩
    · omega
    · exact z θ hθ ((a3 θ hθ).mpr ⟨hE, by rw [hM.2.1, hθ _ hv.1]⟩) (by rw [hM.2.2, hθ _ hv.2])
  · omega
theorem rsP_s (p : Int) (n : Nat) : rsP p (n + 1) = rsP p n / 5 := rfl
set_option maxHeartbeats 4000000 in
/-- fits -/
theorem cM_fits (l : Launch) (D : va_G) (a : xAd) (u : xSt) (r0 p0 : Int) (g : xG) (hV : Val g) (hG : RelM g u.1) (hr : 0 ≤ r0 ∧ r0 < g 3 0) (hp : 0 ≤ p0 ∧ p0 < 125) (hkn : ∀ i, 0 ≤ i → i ≤ 2 → 0 ≤ u.1 7 i ∧ u.1 7 i ≤ 6) (hR : Rng u.1) : MMi l D a yX1_fits cX1_fits 10 (some .boolean) ({ frames := 1, cells := 0, slots := 0, locals := 22 } : Room) [.int (iI r0), .int (iI p0)] u (fun r u2 => (∀ k, k ≠ 8 → u2.1 k = u.1 k) ∧ u2.2 = u.2 ∧ Rng u2.1 ∧ ((r = 1 ∧ rsP p0 (g 6 r0).toNat = 0 ∧ FitJ g r0 p0 (kap (u.1 7)) (g 6 r0).toNat (u2.1 8)) ∨ (r = 0 ∧ (rsP p0 (g 6 r0).toNat ≠ 0 ∨ FitF g r0 p0 (kap (u.1 7)))))) := by
  refine enMz (by decide +kernel) rfl (Nat.le_of_ble_eq_true rfl) ?_
  intro p e s m below meth c A Q ls F I hret hl
  have hl : lv_has ls 10 [(0, .ref a.1), (1, .int (iI r0)), (2, .int (iI p0))] := hl
  have hq := hV.2.2 r0 hr.1 hr.2
  have h3 := hV.2.1
  have hm := hG.2.2 r0 hr.1 hr.2
  have l2 : ∀ (n kn : Nat) (k rest : Int) (w : xSt) (H : Heap) (locs : List Loc) (ls : Array Slot), k = kn → rest = rsP p0 kn → k + n = g 6 r0 → (∀ j, j ≠ 8 → w.1 j = u.1 j) → w.2 = u.2 → Rng w.1 → FitJ g r0 p0 (kap (u.1 7)) kn (w.1 8) → IM D a A s H locs w → lv_has ls 10 [(4, .int (iI k)), (3, .int (iI rest)), (0, .ref a.1), (1, .int (iI r0)), (2, .int (iI p0))] → W p l e ({ frames := 1, cells := 0, slots := 0, locals := 22 } : Room) s m (Value.ref a.1 :: [.int (iI r0), .int (iI p0)]).toArray below meth c H locs 0 0 Q (F0 m 28 ls []) := by
    intro n
    induction n with
    | zero =>
      intro kn k rest w H locs ls hk hrest hn hw hw2 hR hJ I hl
      have hrr := rsP_r hp kn
      have hnA : (g 6 r0).toNat = kn := by omega
      refine lv_iload (pc := 28) F.1.1 F.1.2.1 dX1_fits_28 (lv_at hl 0 rfl) ?_
      refine lv_aload_n (pc := 30) F.1.1 F.1.2.1 dX1_fits_30 rfl (lv_at hl 2 rfl) ?_
      refine gM_4 (pc := 31) F I dX1_fits_31 ?_
      refine lv_iload_n (pc := 34) F.1.1 F.1.2.1 dX1_fits_34 rfl (lv_at hl 3 rfl) ?_
      refine ldM_4 (pc := 35) F I (by omega) dX1_fits_35 (fun v1 hv1 => ?_)
      have rv1 : -1 ≤ v1 ∧ v1 ≤ 127 := by rw [hv1]; exact hR 4 _
      have ev1 : v1 = g 6 r0 := by rw [hv1, hw 4 (by decide), hm.2.2.1]
      refine xi_cge (pc := 36) (tgt := 156) F.1 (by omega) dX1_fits_36 (by decide) (fun c2 => ?_) (fun c2 => ?_)
      · refine lv_iload_n (pc := 156) F.1.1 F.1.2.1 dX1_fits_156 rfl (lv_at hl 1 rfl) ?_
        refine xi_zne (pc := 157) (tgt := 164) F.1 (by omega) dX1_fits_157 (by decide) (fun c3 => ?_) (fun c3 => ?_)
        · refine xi_ic (pc := 164) F.1 dX1_fits_164 ?_
          exact hret 0 w _ _ (by omega) (⟨hw, hw2, hR, Or.inr ⟨rfl, Or.inl (by rw [hnA, ← hrest]; omega)⟩⟩) I _ _ dX1_fits_165
        · refine xi_ic (pc := 160) F.1 dX1_fits_160 ?_
          refine lv_goto (pc := 161) (tgt := 165) F.1.1 F.1.2.1 dX1_fits_161 (by decide) ?_
          exact hret 1 w _ _ (by omega) (⟨hw, hw2, hR, Or.inl ⟨rfl, by rw [hnA, ← hrest]; omega, by rw [hnA]; exact hJ⟩⟩) I _ _ dX1_fits_165
      · exfalso; omega
    | succ n ih =>
      intro kn k rest w H locs ls hk hrest hn hw hw2 hR hJ I hl
      have hrr := rsP_r hp kn
      have hmk := hm.2.2.2 k (by omega) (by omega)
      have hqk := hq.2.2.2.2 k (by omega) (by omega)
      have ht := hG.1 (g 7 (3 * r0 + k)) hqk.1.1 hqk.1.2
      have hvt := hV.1 (g 7 (3 * r0 + k)) hqk.1.1 hqk.1.2
      refine lv_iload (pc := 28) F.1.1 F.1.2.1 dX1_fits_28 (lv_at hl 0 rfl) ?_
      refine lv_aload_n (pc := 30) F.1.1 F.1.2.1 dX1_fits_30 rfl (lv_at hl 2 rfl) ?_
      refine gM_4 (pc := 31) F I dX1_fits_31 ?_
      refine lv_iload_n (pc := 34) F.1.1 F.1.2.1 dX1_fits_34 rfl (lv_at hl 3 rfl) ?_
      refine ldM_4 (pc := 35) F I (by omega) dX1_fits_35 (fun v1 hv1 => ?_)
      have rv1 : -1 ≤ v1 ∧ v1 ≤ 127 := by rw [hv1]; exact hR 4 _
      have ev1 : v1 = g 6 r0 := by rw [hv1, hw 4 (by decide), hm.2.2.1]
      refine xi_cge (pc := 36) (tgt := 156) F.1 (by omega) dX1_fits_36 (by decide) (fun c2 => ?_) (fun c2 => ?_)
      · exfalso; omega
      · refine xi_ic (pc := 39) F.1 dX1_fits_39 ?_
        refine lv_iload_n (pc := 40) F.1.1 F.1.2.1 dX1_fits_40 rfl (lv_at hl 3 rfl) ?_
        refine xi_imul (pc := 41) F.1 dX1_fits_41 ?_
        refine lv_iload (pc := 42) F.1.1 F.1.2.1 dX1_fits_42 (lv_at hl 0 rfl) ?_
        refine xi_iadd (pc := 44) F.1 dX1_fits_44 ?_
        refine xi_top (fun z3 hz3 => ?_)
        refine lv_istore (pc := 45) (lv' := [(5, .int (iI z3)), (4, .int (iI k)), (3, .int (iI rest)), (0, .ref a.1), (1, .int (iI r0)), (2, .int (iI p0))]) F.1.1 F.1.2.1 dX1_fits_45 hl (by decide) rfl (fun ls hl => ?_)
        refine lv_iload_n (pc := 47) F.1.1 F.1.2.1 dX1_fits_47 rfl (lv_at hl 2 rfl) ?_
        refine xi_ic (pc := 48) F.1 dX1_fits_48 ?_
        refine xi_irem (pc := 49) F.1 (by omega) dX1_fits_49 ?_
        refine xi_top (fun z4 hz4 => ?_)
        refine lv_istore (pc := 50) (lv' := [(6, .int (iI z4)), (5, .int (iI z3)), (4, .int (iI k)), (3, .int (iI rest)), (0, .ref a.1), (1, .int (iI r0)), (2, .int (iI p0))]) F.1.1 F.1.2.1 dX1_fits_50 hl (by decide) rfl (fun ls hl => ?_)
        refine lv_iload_n (pc := 52) F.1.1 F.1.2.1 dX1_fits_52 rfl (lv_at hl 3 rfl) ?_
        refine xi_ic (pc := 53) F.1 dX1_fits_53 ?_
        refine xi_idiv (pc := 54) F.1 (by omega) dX1_fits_54 ?_
        refine xi_top (fun z5 hz5 => ?_)
        refine lv_istore_n (pc := 55) (lv' := [(3, .int (iI z5)), (6, .int (iI z4)), (5, .int (iI z3)), (4, .int (iI k)), (0, .ref a.1), (1, .int (iI r0)), (2, .int (iI p0))]) F.1.1 F.1.2.1 dX1_fits_55 rfl hl (by decide) rfl (fun ls hl => ?_)
        refine xi_bp (pc := 56) F.1 dX1_fits_56 (by decide) ?_
        refine lv_aload_n (pc := 58) F.1.1 F.1.2.1 dX1_fits_58 rfl (lv_at hl 4 rfl) ?_
        refine gM_5 (pc := 59) F I dX1_fits_59 ?_
        refine lv_iload (pc := 62) F.1.1 F.1.2.1 dX1_fits_62 (lv_at hl 2 rfl) ?_
        refine ldM_5 (pc := 64) F I (by omega) dX1_fits_64 (fun v6 hv6 => ?_)
        have rv6 : -1 ≤ v6 ∧ v6 ≤ 127 := by rw [hv6]; exact hR 5 _
        have ev6 : v6 = g 7 (3 * r0 + k) := by rw [hv6, hw 5 (by decide), hz3, hmk.1]
        have tv6 : 0 ≤ v6 ∧ v6 ≤ 1 := by omega
        refine xi_imul (pc := 65) F.1 dX1_fits_65 ?_
        refine xi_ic (pc := 66) F.1 dX1_fits_66 ?_
        refine lv_iload (pc := 67) F.1.1 F.1.2.1 dX1_fits_67 (lv_at hl 1 rfl) ?_
        refine xi_imul (pc := 69) F.1 dX1_fits_69 ?_
        refine xi_iadd (pc := 70) F.1 dX1_fits_70 ?_
        refine xi_top (fun z7 hz7 => ?_)
        refine lv_istore (pc := 71) (lv' := [(7, .int (iI z7)), (3, .int (iI z5)), (6, .int (iI z4)), (5, .int (iI z3)), (4, .int (iI k)), (0, .ref a.1), (1, .int (iI r0)), (2, .int (iI p0))]) F.1.1 F.1.2.1 dX1_fits_71 hl (by decide) rfl (fun ls hl => ?_)
        refine lv_iload (pc := 73) F.1.1 F.1.2.1 dX1_fits_73 (lv_at hl 2 rfl) ?_
        refine lv_aload_n (pc := 75) F.1.1 F.1.2.1 dX1_fits_75 rfl (lv_at hl 5 rfl) ?_
        refine gM_0 (pc := 76) F I dX1_fits_76 ?_
        refine lv_aload_n (pc := 79) F.1.1 F.1.2.1 dX1_fits_79 rfl (lv_at hl 5 rfl) ?_
        refine gM_5 (pc := 80) F I dX1_fits_80 ?_
        refine lv_iload (pc := 83) F.1.1 F.1.2.1 dX1_fits_83 (lv_at hl 3 rfl) ?_
        refine ldM_5 (pc := 85) F I (by omega) dX1_fits_85 (fun v8 hv8 => ?_)
        have rv8 : -1 ≤ v8 ∧ v8 ≤ 127 := by rw [hv8]; exact hR 5 _
        have ev8 : v8 = g 7 (3 * r0 + k) := by rw [hv8, hw 5 (by decide), hz3, hmk.1]
        have tv8 : 0 ≤ v8 ∧ v8 ≤ 1 := by omega
        refine ldM_0 (pc := 86) F I (by omega) dX1_fits_86 (fun v9 hv9 => ?_)
        have rv9 : -1 ≤ v9 ∧ v9 ≤ 127 := by rw [hv9]; exact hR 0 _
        have ev9 : v9 = g 0 (g 7 (3 * r0 + k)) := by rw [hv9, hw 0 (by decide), ev8]; exact ht.1
        refine xi_clt (pc := 87) (tgt := 92) F.1 (by omega) dX1_fits_87 (by decide) (fun c10 => ?_) (fun c10 => ?_)
        · have hrow := hvt.2.2 z4 (by omega) (by omega)
          have hvr := ht.2 z4 (by omega) (by omega)
          have v1 : w.1 1 z7 = g 1 (5 * g 7 (3 * r0 + k) + z4) := by rw [hw 1 (by decide), show z7 = 10 * g 7 (3 * r0 + k) + 2 * z4 by omega]; exact hvr.1
          have v2 : w.1 1 (z7 + 1) = g 2 (5 * g 7 (3 * r0 + k) + z4) := by rw [hw 1 (by decide), show z7 = 10 * g 7 (3 * r0 + k) + 2 * z4 by omega]; exact hvr.2
          refine lv_aload_n (pc := 92) F.1.1 F.1.2.1 dX1_fits_92 rfl (lv_at hl 5 rfl) ?_
          refine lv_iload (pc := 93) F.1.1 F.1.2.1 dX1_fits_93 (lv_at hl 0 rfl) ?_
          refine caMi (pc := 95) (As := [.int (iI z7)]) (rest := []) F I (cM_constantAt l D a w (z7) (by omega) (by rw [v1]; exact hrow.1) hR) (lw_V q292 q294 qs20 q25 q295) hdM_constantAt ⟨rfl, rfl⟩ ⟨Nat.le_of_ble_eq_true rfl, Nat.le_of_ble_eq_true rfl⟩ hl.1 rfl (Nat.le_of_ble_eq_true rfl) ⟨Nat.zero_le _, Nat.zero_le _⟩ dX1_fits_95 (fun r12 u11 H locs hp12 I => ?_)
          rw [hp12.1] at I
          have hr12 := hp12.2
          rw [v1, hw 7 (by decide)] at hr12
          have kr12 := kap_of hrow.1 hr12
          have gr12 := kap_r hkn hrow.1
          rw [← kr12] at gr12
          refine lv_istore (pc := 98) (lv' := [(8, .int (iI r12)), (7, .int (iI z7)), (3, .int (iI z5)), (6, .int (iI z4)), (5, .int (iI z3)), (4, .int (iI k)), (0, .ref a.1), (1, .int (iI r0)), (2, .int (iI p0))]) F.1.1 F.1.2.1 dX1_fits_98 hl (by decide) rfl (fun ls hl => ?_)
          refine lv_aload_n (pc := 100) F.1.1 F.1.2.1 dX1_fits_100 rfl (lv_at hl 6 rfl) ?_
          refine lv_iload (pc := 101) F.1.1 F.1.2.1 dX1_fits_101 (lv_at hl 1 rfl) ?_
          refine xi_ic (pc := 103) F.1 dX1_fits_103 ?_
          refine xi_iadd (pc := 104) F.1 dX1_fits_104 ?_
          refine caMi (pc := 105) (As := [.int (iI (z7 + 1))]) (rest := []) F I (cM_constantAt l D a w ((z7 + 1)) (by omega) (by rw [v2]; exact hrow.2) hR) (lw_V q292 q294 qs20 q25 q295) hdM_constantAt ⟨rfl, rfl⟩ ⟨Nat.le_of_ble_eq_true rfl, Nat.le_of_ble_eq_true rfl⟩ hl.1 rfl (Nat.le_of_ble_eq_true rfl) ⟨Nat.zero_le _, Nat.zero_le _⟩ dX1_fits_105 (fun r14 u13 H locs hp14 I => ?_)
          rw [hp14.1] at I
          have hr14 := hp14.2
          rw [v2, hw 7 (by decide)] at hr14
          have kr14 := kap_of hrow.2 hr14
          have gr14 := kap_r hkn hrow.2
          rw [← kr14] at gr14
          refine lv_istore (pc := 108) (lv' := [(9, .int (iI r14)), (8, .int (iI r12)), (7, .int (iI z7)), (3, .int (iI z5)), (6, .int (iI z4)), (5, .int (iI z3)), (4, .int (iI k)), (0, .ref a.1), (1, .int (iI r0)), (2, .int (iI p0))]) F.1.1 F.1.2.1 dX1_fits_108 hl (by decide) rfl (fun ls hl => ?_)
          refine lv_aload_n (pc := 110) F.1.1 F.1.2.1 dX1_fits_110 rfl (lv_at hl 7 rfl) ?_
          refine lv_aload_n (pc := 111) F.1.1 F.1.2.1 dX1_fits_111 rfl (lv_at hl 7 rfl) ?_
          refine gM_6 (pc := 112) F I dX1_fits_112 ?_
          refine xi_ic (pc := 115) F.1 dX1_fits_115 ?_
          refine lv_iload (pc := 116) F.1.1 F.1.2.1 dX1_fits_116 (lv_at hl 5 rfl) ?_
          refine xi_imul (pc := 118) F.1 dX1_fits_118 ?_
          refine ldM_6 (pc := 119) F I (by omega) dX1_fits_119 (fun v15 hv15 => ?_)
          have rv15 : -1 ≤ v15 ∧ v15 ≤ 127 := by rw [hv15]; exact hR 6 _
          have ev15 : v15 = g 8 (3 * r0 + k) := by rw [hv15, hw 6 (by decide), hz3, hmk.2.1]
          refine lv_iload (pc := 120) F.1.1 F.1.2.1 dX1_fits_120 (lv_at hl 1 rfl) ?_
          refine caMi (pc := 122) (As := [.int (iI v15), .int (iI r12)]) (rest := []) F I (cM_fit l D a w v15 r12 (by omega) (by omega) hR) (lw_V q296 q298 qs21 q25 q299) hdM_fit ⟨rfl, rfl⟩ ⟨Nat.le_of_ble_eq_true rfl, Nat.le_of_ble_eq_true rfl⟩ hl.1 rfl (Nat.le_of_ble_eq_true rfl) ⟨Nat.zero_le _, Nat.zero_le _⟩ dX1_fits_122 (fun r17 u16 H locs hp17 I => ?_)
          have hs1 := fit_sem (κ := kap (u.1 7)) (by omega) (by omega) (kap_lo _) hJ.1 hR hp17
          have hR : Rng u16.1 := hs1.2.2.1
          have fs1 := hs1.2.2.2
          rw [ev15, kr12] at fs1
          have rr17 : 0 ≤ r17 ∧ r17 ≤ 1 := by rcases fs1 with z | z <;> omega
          have hw1 : ∀ j, j ≠ 8 → u16.1 j = u.1 j := fun j hj => (hs1.1 j hj).trans (hw j hj)
          have hrw : z4 = rsP p0 kn % 5 := by rw [hz4, hrest]
          have hlt : g 1 (5 * g 7 (3 * r0 + kn) + rsP p0 kn % 5) < 20 ∧ g 2 (5 * g 7 (3 * r0 + kn) + rsP p0 kn % 5) < 20 := by rw [← hrw, ← hk]; omega
          have hrl : rsP p0 kn % 5 < g 0 (g 7 (3 * r0 + kn)) := by rw [← hrw, ← hk]; omega
          rw [hrw, hk] at fs1
          refine xi_zeq (pc := 125) (tgt := 148) F.1 (by omega) dX1_fits_125 (by decide) (fun c18 => ?_) (fun c18 => ?_)
          · refine xi_ic (pc := 148) F.1 dX1_fits_148 ?_
            exact hret 0 u16 _ _ (by omega) (⟨hw1, hs1.2.1.trans hw2, hR, Or.inr ⟨rfl, Or.inr (FitF_2 hJ (by omega) hlt fs1 (by omega))⟩⟩) I _ _ dX1_fits_149
          · refine lv_aload_n (pc := 128) F.1.1 F.1.2.1 dX1_fits_128 rfl (lv_at hl 7 rfl) ?_
            refine lv_aload_n (pc := 129) F.1.1 F.1.2.1 dX1_fits_129 rfl (lv_at hl 7 rfl) ?_
            refine gM_6 (pc := 130) F I dX1_fits_130 ?_
            refine xi_ic (pc := 133) F.1 dX1_fits_133 ?_
            refine lv_iload (pc := 134) F.1.1 F.1.2.1 dX1_fits_134 (lv_at hl 5 rfl) ?_
            refine xi_imul (pc := 136) F.1 dX1_fits_136 ?_
            refine xi_ic (pc := 137) F.1 dX1_fits_137 ?_
            refine xi_iadd (pc := 138) F.1 dX1_fits_138 ?_
            refine ldM_6 (pc := 139) F I (by omega) dX1_fits_139 (fun v19 hv19 => ?_)
            have rv19 : -1 ≤ v19 ∧ v19 ≤ 127 := by rw [hv19]; exact hR 6 _
            have ev19 : v19 = g 9 (3 * r0 + k) := by rw [hv19, hw1 6 (by decide), hz3, hmk.2.2]
            refine lv_iload (pc := 140) F.1.1 F.1.2.1 dX1_fits_140 (lv_at hl 0 rfl) ?_
            refine caMi (pc := 142) (As := [.int (iI v19), .int (iI r14)]) (rest := []) F I (cM_fit l D a u16 v19 r14 (by omega) (by omega) hR) (lw_V q296 q298 qs21 q25 q299) hdM_fit ⟨rfl, rfl⟩ ⟨Nat.le_of_ble_eq_true rfl, Nat.le_of_ble_eq_true rfl⟩ hl.1 rfl (Nat.le_of_ble_eq_true rfl) ⟨Nat.zero_le _, Nat.zero_le _⟩ dX1_fits_142 (fun r21 u20 H locs hp21 I => ?_)
            have hs2 := fit_sem (κ := kap (u.1 7)) (by omega) (by omega) (kap_lo _) (hs1.2.2.2.elim (fun z => z.2.1) (fun z => absurd z.1 (by omega))) hR hp21
            have hR : Rng u20.1 := hs2.2.2.1
            have fs2 := hs2.2.2.2
            rw [ev19, kr14] at fs2
            have rr21 : 0 ≤ r21 ∧ r21 ≤ 1 := by rcases fs2 with z | z <;> omega
            have hwb : ∀ j, j ≠ 8 → u20.1 j = u.1 j := fun j hj => (hs2.1 j hj).trans (hw1 j hj)
            rw [hrw, hk] at fs2
            refine xi_zne (pc := 145) (tgt := 150) F.1 (by omega) dX1_fits_145 (by decide) (fun c22 => ?_) (fun c22 => ?_)
            · refine xi_iinc (pc := 150) (lv' := [(4, .int (iI (k + 1))), (9, .int (iI r14)), (8, .int (iI r12)), (7, .int (iI z7)), (3, .int (iI z5)), (6, .int (iI z4)), (5, .int (iI z3)), (0, .ref a.1), (1, .int (iI r0)), (2, .int (iI p0))]) F.1 dX1_fits_150 hl (k := 6) rfl (by decide) rfl (fun ls hl => ?_)
              refine lv_goto (pc := 153) (tgt := 28) F.1.1 F.1.2.1 dX1_fits_153 (by decide) ?_
              exact ih (kn + 1) (k + 1) z5 u20 _ _ ls (by omega) (by rw [hz5, hrest, rsP_s]) (by omega) hwb (hs2.2.1.trans (hs1.2.1.trans hw2)) hR (FitJ_s hJ hlt hrl fs1 (by omega) fs2 (by omega)) I (lv_sub hl [0, 4, 7, 8, 9] rfl)
            · refine xi_ic (pc := 148) F.1 dX1_fits_148 ?_
              exact hret 0 u20 _ _ (by omega) (⟨hwb, hs2.2.1.trans (hs1.2.1.trans hw2), hR, Or.inr ⟨rfl, Or.inr (FitF_3 hJ (by omega) hlt fs1 (by omega) fs2 (by omega))⟩⟩) I _ _ dX1_fits_149
        · refine xi_ic (pc := 90) F.1 dX1_fits_90 ?_
          exact hret 0 w _ _ (by omega) (⟨hw, hw2, hR, Or.inr ⟨rfl, Or.inr (FitF_1 hJ (by omega) (fun θ hθ hE hM => by have z := hM.1; rw [← hk, ← hrest, ← hz4] at z; omega))⟩⟩) I _ _ dX1_fits_91
  have l1 : ∀ (n : Nat) (i : Int) (w : xSt) (H : Heap) (locs : List Loc) (ls : Array Slot), 0 ≤ i → i + n = 4 → (∀ j, j ≠ 8 → w.1 j = u.1 j) → w.2 = u.2 → Rng w.1 → (∀ j, 0 ≤ j → j < i → w.1 8 j = -1) → IM D a A s H locs w → lv_has ls 10 [(4, .int (iI i)), (3, .int (iI p0)), (0, .ref a.1), (1, .int (iI r0)), (2, .int (iI p0))] → W p l e ({ frames := 1, cells := 0, slots := 0, locals := 22 } : Room) s m (Value.ref a.1 :: [.int (iI r0), .int (iI p0)]).toArray below meth c H locs 0 0 Q (F0 m 5 ls []) := by
    intro n
    induction n with
    | zero =>
      intro i w H locs ls h0 hn hw hw2 hR hb I hl
      obtain ⟨n, hn2⟩ := Int.eq_ofNat_of_zero_le hq.2.2.1
      refine lv_iload (pc := 5) F.1.1 F.1.2.1 dX1_fits_5 (lv_at hl 0 rfl) ?_
      refine xi_ic (pc := 7) F.1 dX1_fits_7 ?_
      refine xi_cge (pc := 8) (tgt := 25) F.1 (by omega) dX1_fits_8 (by decide) (fun c1 => ?_) (fun c1 => ?_)
      · refine xi_ic (pc := 25) F.1 dX1_fits_25 ?_
        refine lv_istore (pc := 26) (lv' := [(4, .int (iI 0)), (3, .int (iI p0)), (0, .ref a.1), (1, .int (iI r0)), (2, .int (iI p0))]) F.1.1 F.1.2.1 dX1_fits_26 hl (by decide) rfl (fun ls hl => ?_)
        exact l2 n 0 0 p0 w _ _ ls rfl rfl (by omega) hw hw2 hR (FitJ_0 g r0 p0 _ _ (fun j j0 j1 => hb j j0 (by omega))) I hl
      · exfalso; omega
    | succ n ih =>
      intro i w H locs ls h0 hn hw hw2 hR hb I hl
      refine lv_iload (pc := 5) F.1.1 F.1.2.1 dX1_fits_5 (lv_at hl 0 rfl) ?_
      refine xi_ic (pc := 7) F.1 dX1_fits_7 ?_
      refine xi_cge (pc := 8) (tgt := 25) F.1 (by omega) dX1_fits_8 (by decide) (fun c1 => ?_) (fun c1 => ?_)
      · exfalso; omega
      · refine lv_aload_n (pc := 11) F.1.1 F.1.2.1 dX1_fits_11 rfl (lv_at hl 2 rfl) ?_
        refine gM_8 (pc := 12) F I dX1_fits_12 ?_
        refine lv_iload (pc := 15) F.1.1 F.1.2.1 dX1_fits_15 (lv_at hl 0 rfl) ?_
        refine xi_ic (pc := 17) F.1 dX1_fits_17 ?_
        refine stM_8 (pc := 18) F I (by omega) dX1_fits_18 (fun u2 H locs hu2 I => ?_)
        have hR : Rng u2.1 := by rw [hu2]; exact Rng_up hR (by omega)
        refine xi_iinc (pc := 19) (lv' := [(4, .int (iI (i + 1))), (3, .int (iI p0)), (0, .ref a.1), (1, .int (iI r0)), (2, .int (iI p0))]) F.1 dX1_fits_19 hl (k := 0) rfl (by decide) rfl (fun ls hl => ?_)
        refine lv_goto (pc := 22) (tgt := 5) F.1.1 F.1.2.1 dX1_fits_22 (by decide) ?_
        refine ih (i + 1) u2 _ _ ls (by omega) (by omega) (fun j hj => by rw [hu2]; exact (up_o _ _ _ hj).trans (hw j hj)) (by rw [hu2]; exact hw2) hR (fun j j0 j1 => ?_) I hl
        rw [hu2]
        show up w.1 8 i (-1) 8 j = -1
        unfold up
        by_cases hj : j = i
        · rw [if_pos ⟨rfl, hj⟩]
        · rw [if_neg (fun z => hj z.2)]
          exact hb j j0 (by omega)
  refine lv_iload_n (pc := 0) F.1.1 F.1.2.1 dX1_fits_0 rfl (lv_at hl 2 rfl) ?_
  refine lv_istore_n (pc := 1) (lv' := [(3, .int (iI p0)), (0, .ref a.1), (1, .int (iI r0)), (2, .int (iI p0))]) F.1.1 F.1.2.1 dX1_fits_1 rfl hl (by decide) rfl (fun ls hl => ?_)
  refine xi_ic (pc := 2) F.1 dX1_fits_2 ?_
  refine lv_istore (pc := 3) (lv' := [(4, .int (iI 0)), (3, .int (iI p0)), (0, .ref a.1), (1, .int (iI r0)), (2, .int (iI p0))]) F.1.1 F.1.2.1 dX1_fits_3 hl (by decide) rfl (fun ls hl => ?_)
  exact l1 4 0 u _ _ ls (by omega) (by omega) (fun _ _ => rfl) rfl hR (fun j j0 j1 => by omega) I hl
end
section
set_option maxRecDepth 100000
/-! the reference's completions -/
abbrev i01 (x : Int) (P : Prop) : Prop := (x = 1 ∧ P) ∨ (x = 0 ∧ ¬ P)
theorem i01_iff {x : Int} {P Q : Prop} (h : P ↔ Q) (hx : i01 x P) : i01 x Q := by
  rcases hx with z | z
  · exact Or.inl ⟨z.1, h.mp z.2⟩
  · exact Or.inr ⟨z.1, fun q => z.2 (h.mpr q)⟩
theorem i01_r {x : Int} {P : Prop} (h : i01 x P) : x = 0 ∨ x = 1 := by omega
def apH (g : xG) (κ : Int → Int) (r i : Int) (h0 h1 : Int → Int) : Prop := ∀ n, 0 ≤ n → n < 49 → i01 (h1 n) (h0 n = 1 ∨ (safG g r ∧ ∃ p, (0 ≤ p ∧ p < i) ∧ PAns g κ r p (n / 7) (n % 7)))
theorem apH_0 (g : xG) (κ : Int → Int) (r : Int) {h : Int → Int} (hh : ∀ n, 0 ≤ n → n < 49 → h n = 0 ∨ h n = 1) : apH g κ r 0 h h := by
  intro n h0 h1
  rcases hh n h0 h1 with z | z
  · refine Or.inr ⟨z, ?_⟩
    rintro (q | ⟨_, p, hp, _⟩) <;> omega
  · exact Or.inl ⟨z, Or.inl z⟩
theorem apH_no {g : xG} {κ : Int → Int} {r i : Int} {h0 h1 : Int → Int} (hi : 0 ≤ i) (h : apH g κ r i h0 h1) (hn : safG g r → ∀ x y, ¬ PAns g κ r i x y) : apH g κ r (i + 1) h0 h1 := by
  intro n n0 n1
  refine i01_iff ?_ (h n n0 n1)
  rw [ex_lt hi]
  constructor
  · rintro (z | ⟨z1, z2⟩)
    · exact Or.inl z
    · exact Or.inr ⟨z1, Or.inl z2⟩
  · rintro (z | ⟨z1, z2 | z2⟩)
    · exact Or.inl z
    · exact Or.inr ⟨z1, z2⟩
    · exact absurd z2 (hn z1 _ _)
theorem apH_hit {g : xG} {κ : Int → Int} {r i x y : Int} {h0 h1 h2 : Int → Int} (hi : 0 ≤ i) (h : apH g κ r i h0 h1) (hs : safG g r) (hx : 0 ≤ x ∧ x ≤ 6) (hy : 0 ≤ y ∧ y ≤ 6) (hp : ∀ x2 y2, PAns g κ r i x2 y2 ↔ (x2 = x ∧ y2 = y)) (h2e : ∀ n, h2 n = if n = 7 * x + y then 1 else h1 n) : apH g κ r (i + 1) h0 h2 := by
  intro n n0 n1
  rw [h2e]
  have e : (h0 n = 1 ∨ (safG g r ∧ ∃ p, (0 ≤ p ∧ p < i + 1) ∧ PAns g κ r p (n / 7) (n % 7))) ↔ ((h0 n = 1 ∨ (safG g r ∧ ∃ p, (0 ≤ p ∧ p < i) ∧ PAns g κ r p (n / 7) (n % 7))) ∨ n = 7 * x + y) := by
    rw [ex_lt hi, hp]
    constructor
    · rintro (z | ⟨z1, z2 | z2⟩)
      · exact Or.inl (Or.inl z)
      · exact Or.inl (Or.inr ⟨z1, z2⟩)
      · exact Or.inr (by omega)
    · rintro ((z | ⟨z1, z2⟩) | z)
      · exact Or.inl z
      · exact Or.inr ⟨z1, Or.inl z2⟩
      · exact Or.inr ⟨hs, Or.inr (by omega)⟩
  refine i01_iff e.symm ?_
  by_cases hn : n = 7 * x + y
  · rw [if_pos hn]
    exact Or.inl ⟨rfl, Or.inr hn⟩
  · rw [if_neg hn]
    rcases h n n0 n1 with z | z
    · exact Or.inl ⟨z.1, Or.inl z.2⟩
    · refine Or.inr ⟨z.1, ?_⟩
      rintro (q | q)
      · exact z.2 q
      · exact hn q
theorem apH_end {g : xG} {κ : Int → Int} {r : Int} {h0 h1 : Int → Int} (hV : Val g) (hr : 0 ≤ r ∧ r < g 3 0) (h : apH g κ r 125 h0 h1) : ∀ n, 0 ≤ n → n < 49 → i01 (h1 n) (h0 n = 1 ∨ (safG g r ∧ RAns g κ r (n / 7) (n % 7))) := by
  intro n n0 n1
  refine i01_iff ?_ (h n n0 n1)
  rw [pick_iff hV hr]
/-- the unknowns' values by a number -/
def kpN (nb : Int) : Int → Int := fun c => if c = 10 then nb % 7 else if c = 11 then nb / 7 % 7 else if c = 12 then nb / 49 else c
theorem kpN_c {nb : Int} (h : 0 ≤ nb ∧ nb < 343) : Comp (kpN nb) := by
  refine ⟨fun c hc => ?_, fun c c0 c1 => ?_⟩
  · unfold kpN
    rw [if_neg (by omega), if_neg (by omega), if_neg (by omega)]
  · unfold kpN
    split
    · omega
    · split
      · omega
      · split
        · omega
        · omega
theorem kap_kpN {kn : Int → Int} {nb : Int} (h0 : kn 0 = nb % 7) (h1 : kn 1 = nb / 7 % 7) (h2 : kn 2 = nb / 49) : kap kn = kpN nb := by
  funext c
  unfold kap kpN
  by_cases c0 : c = 10
  · subst c0; rw [if_pos (by omega), if_pos rfl]; exact h0
  · rw [if_neg c0]
    by_cases c1 : c = 11
    · subst c1; rw [if_pos (by omega), if_pos rfl]; exact h1
    · rw [if_neg c1]
      by_cases c2 : c = 12
      · subst c2; rw [if_pos (by omega), if_pos rfl]; exact h2
      · rw [if_neg c2, if_neg (by omega)]
theorem AnsK_ext {g : xG} {κ κ2 : Int → Int} {x y : Int} (hV : Val g) (hk : ∀ c, c < 13 → κ c = κ2 c) (h : AnsK g κ x y) : AnsK g κ2 x y := by
  obtain ⟨r, hr, hf, θ, t1, t2, t3, t4⟩ := h
  have hq := hV.2.2 r hr.1 hr.2
  have e : ∀ c, (c < 13 ∨ 20 ≤ c) → (fun c => if 13 ≤ c ∧ c < 20 then κ2 c else θ c) c = θ c := by
    intro c hc
    dsimp only
    rw [if_neg (by omega)]
  refine ⟨r, hr, hf, fun c => if 13 ≤ c ∧ c < 20 then κ2 c else θ c, fun c hc => ?_, fun j j0 j1 => ?_, by rw [e _ (by omega)]; exact t3, by rw [e _ (by omega)]; exact t4⟩
  · by_cases h1 : 13 ≤ c
    · dsimp only; rw [if_pos ⟨h1, hc⟩]
    · rw [e c (by omega), t1 c hc, hk c (by omega)]
  · have ha := hq.2.2.2.2 j j0 j1
    obtain ⟨row, r0, r1, r2, r3⟩ := t2 j j0 j1
    have hv := (hV.1 _ ha.1.1 ha.1.2).2.2 row r0 r1
    exact ⟨row, r0, r1, by rw [e _ (by omega), e _ (by omega)]; exact r2, by rw [e _ (by omega), e _ (by omega)]; exact r3⟩
theorem comp_num {κ : Int → Int} (h : Comp κ) : ∃ nb, (0 ≤ nb ∧ nb < 343) ∧ ∀ c, c < 13 → κ c = kpN nb c := by
  have h0 := h.2 10 (by omega) (by omega)
  have h1 := h.2 11 (by omega) (by omega)
  have h2 := h.2 12 (by omega) (by omega)
  refine ⟨κ 10 + 7 * κ 11 + 49 * κ 12, by omega, fun c hc => ?_⟩
  unfold kpN
  by_cases c0 : c = 10
  · subst c0; rw [if_pos rfl]; omega
  · rw [if_neg c0]
    by_cases c1 : c = 11
    · subst c1; rw [if_pos rfl]; omega
    · rw [if_neg c1]
      by_cases c2 : c = 12
      · subst c2; rw [if_pos rfl]; omega
      · rw [if_neg c2]
        exact h.1 c (by omega)
theorem cert_num {g : xG} {x y : Int} (hV : Val g) : (∀ nb, (0 ≤ nb ∧ nb < 343) → AnsK g (kpN nb) x y) ↔ CertS g x y := by
  constructor
  · intro h κ hκ
    obtain ⟨nb, h1, h2⟩ := comp_num hκ
    exact AnsK_ext hV (fun c hc => (h2 c hc).symm) (h nb h1)
  · intro h nb hn
    exact h _ (kpN_c hn)
theorem poss_num {g : xG} {x y : Int} (hV : Val g) : (∃ nb, (0 ≤ nb ∧ nb < 343) ∧ AnsK g (kpN nb) x y) ↔ PossS g x y := by
  constructor
  · rintro ⟨nb, hn, h⟩
    exact ⟨_, kpN_c hn, h⟩
  · rintro ⟨κ, hκ, h⟩
    obtain ⟨nb, h1, h2⟩ := comp_num hκ
    exact ⟨nb, h1, AnsK_ext hV h2 h⟩
theorem some_num {g : xG} (hV : Val g) : (∀ nb, (0 ≤ nb ∧ nb < 343) → ∃ x y, AnsK g (kpN nb) x y) ↔ SomeS g := by
  constructor
  · intro h κ hκ
    obtain ⟨nb, h1, h2⟩ := comp_num hκ
    obtain ⟨x, y, h3⟩ := h nb h1
    exact ⟨x, y, AnsK_ext hV (fun c hc => (h2 c hc).symm) h3⟩
  · intro h nb hn
    exact h _ (kpN_c hn)
theorem AnsK_r {g : xG} {κ : Int → Int} {x y : Int} (hV : Val g) (hκ : Comp κ) (h : AnsK g κ x y) : (0 ≤ x ∧ x ≤ 6) ∧ 0 ≤ y ∧ y ≤ 6 := by
  obtain ⟨r, hr, hf, θ, t1, t2, t3, t4⟩ := h
  have hq := hV.2.2 r hr.1 hr.2
  have lo : ∀ v, isV v → 0 ≤ θ v ∧ θ v ≤ 6 := by
    intro v hv
    rw [t1 v (by omega)]
    by_cases h1 : v < 10
    · rw [hκ.1 v h1]; omega
    · exact hκ.2 v (by omega) (by omega)
  have e : ∀ t, isT t → inBd g r t → 0 ≤ θ t ∧ θ t ≤ 6 := by
    intro t ht hi
    rcases hi with hi | ⟨k, k0, k1, k2⟩
    · exact lo t (by omega)
    · have ha := hq.2.2.2.2 k k0 k1
      obtain ⟨row, r0, r1, r2, r3⟩ := t2 k k0 k1
      have hv := (hV.1 _ ha.1.1 ha.1.2).2.2 row r0 r1
      rcases k2 with k2 | k2
      · rw [k2] at r2; rw [r2]; exact lo _ hv.1
      · rw [k2] at r3; rw [r3]; exact lo _ hv.2
  rw [← t3, ← t4]
  exact ⟨e _ hq.1 hf.1, e _ hq.2.1 hf.2⟩
/-- behind i rules of a completion -/
def coH (g : xG) (κ : Int → Int) (i : Int) (h : Int → Int) : Prop := ∀ n, 0 ≤ n → n < 49 → i01 (h n) (∃ r, (0 ≤ r ∧ r < i) ∧ safG g r ∧ RAns g κ r (n / 7) (n % 7))
theorem coH_s {g : xG} {κ : Int → Int} {i : Int} {h h2 : Int → Int} (hi : 0 ≤ i) (hh : coH g κ i h) (hs : ∀ n, 0 ≤ n → n < 49 → i01 (h2 n) (h n = 1 ∨ (safG g i ∧ RAns g κ i (n / 7) (n % 7)))) : coH g κ (i + 1) h2 := by
  intro n n0 n1
  refine i01_iff ?_ (hs n n0 n1)
  rw [ex_lt hi]
  rcases hh n n0 n1 with z | z
  · constructor
    · intro _; exact Or.inl z.2
    · intro _; exact Or.inl z.1
  · constructor
    · rintro (q | q)
      · omega
      · exact Or.inr q
    · rintro (q | q)
      · exact absurd q z.2
      · exact Or.inr q
/-- the last loop of a completion -/
def loH (g : xG) (κ : Int → Int) (k : Int) (a0 o0 a1 o1 : Int → Int) (f : Int) : Prop :=
  (∀ n, 0 ≤ n → n < 49 → (n < k → i01 (a1 n) (a0 n = 1 ∧ AnsK g κ (n / 7) (n % 7)) ∧ i01 (o1 n) (o0 n = 1 ∨ AnsK g κ (n / 7) (n % 7))) ∧ (k ≤ n → a1 n = a0 n ∧ o1 n = o0 n)) ∧ i01 f (∃ n, (0 ≤ n ∧ n < k) ∧ AnsK g κ (n / 7) (n % 7))
theorem loH_0 (g : xG) (κ : Int → Int) (a0 o0 : Int → Int) : loH g κ 0 a0 o0 a0 o0 0 := by
  refine ⟨fun n n0 n1 => ⟨fun z => by omega, fun _ => ⟨rfl, rfl⟩⟩, Or.inr ⟨rfl, ?_⟩⟩
  rintro ⟨n, hn, _⟩
  omega
theorem loH_t {g : xG} {κ : Int → Int} {k f : Int} {a0 o0 a1 o1 o2 : Int → Int} (hk : 0 ≤ k ∧ k < 49) (h : loH g κ k a0 o0 a1 o1 f) (ha : ∀ n, 0 ≤ n → n < 49 → a0 n = 0 ∨ a0 n = 1) (hA : AnsK g κ (k / 7) (k % 7)) (ho : ∀ n, o2 n = if n = k then 1 else o1 n) : loH g κ (k + 1) a0 o0 a1 o2 1 := by
  refine ⟨fun n n0 n1 => ⟨fun z => ?_, fun z => ?_⟩, Or.inl ⟨rfl, k, by omega, hA⟩⟩
  · rw [ho]
    by_cases hn : n = k
    · subst hn
      rw [if_pos rfl]
      have e := ((h.1 n n0 n1).2 (by omega)).1
      rw [e]
      refine ⟨?_, Or.inl ⟨rfl, Or.inr hA⟩⟩
      rcases ha n n0 n1 with q | q
      · exact Or.inr ⟨q, fun w => by omega⟩
      · exact Or.inl ⟨q, q, hA⟩
    · rw [if_neg hn]
      exact (h.1 n n0 n1).1 (by omega)
  · rw [ho, if_neg (by omega)]
    exact (h.1 n n0 n1).2 (by omega)
theorem loH_f {g : xG} {κ : Int → Int} {k f : Int} {a0 o0 a1 a2 o1 : Int → Int} (hk : 0 ≤ k ∧ k < 49) (h : loH g κ k a0 o0 a1 o1 f) (ho0 : ∀ n, 0 ≤ n → n < 49 → o0 n = 0 ∨ o0 n = 1) (hA : ¬ AnsK g κ (k / 7) (k % 7)) (ha : ∀ n, a2 n = if n = k then 0 else a1 n) : loH g κ (k + 1) a0 o0 a2 o1 f := by
  refine ⟨fun n n0 n1 => ⟨fun z => ?_, fun z => ?_⟩, i01_iff ?_ h.2⟩
  · rw [ha]
    by_cases hn : n = k
    · subst hn
      rw [if_pos rfl]
      have e := ((h.1 n n0 n1).2 (by omega)).2
      rw [e]
      refine ⟨Or.inr ⟨rfl, fun q => hA q.2⟩, ?_⟩
      rcases ho0 n n0 n1 with q | q
      · refine Or.inr ⟨q, ?_⟩
        rintro (w | w)
        · omega
        · exact hA w
      · exact Or.inl ⟨q, Or.inl q⟩
    · rw [if_neg hn]
      exact (h.1 n n0 n1).1 (by omega)
  · rw [ha, if_neg (by omega)]
    exact (h.1 n n0 n1).2 (by omega)
  · rw [ex_lt hk.1]
    constructor
    · intro z; exact Or.inl z
    · rintro (z | z)
      · exact z
      · exact absurd z hA
theorem loH_any {g : xG} {κ : Int → Int} (hV : Val g) (hκ : Comp κ) : (∃ n, (0 ≤ n ∧ n < 49) ∧ AnsK g κ (n / 7) (n % 7)) ↔ ∃ x y, AnsK g κ x y := by
  constructor
  · rintro ⟨n, _, h⟩; exact ⟨_, _, h⟩
  · rintro ⟨x, y, h⟩
    have hr := AnsK_r hV hκ h
    refine ⟨7 * x + y, by omega, ?_⟩
    rw [show (7 * x + y) / 7 = x by omega, show (7 * x + y) % 7 = y by omega]
    exact h
theorem all_lt {P : Int → Prop} {i : Int} (hi : 0 ≤ i) : (∀ r, (0 ≤ r ∧ r < i + 1) → P r) ↔ ((∀ r, (0 ≤ r ∧ r < i) → P r) ∧ P i) := by
  constructor
  · intro h; exact ⟨fun r hr => h r (by omega), h i (by omega)⟩
  · intro h r hr
    by_cases hri : r = i
    · exact hri ▸ h.2
    · exact h.1 r (by omega)
/-- behind i completions -/
def evM (g : xG) (i : Int) (v : xG) : Prop := (∀ n, 0 ≤ n → n < 49 → i01 (v 10 n) (∀ nb, (0 ≤ nb ∧ nb < i) → AnsK g (kpN nb) (n / 7) (n % 7)) ∧ i01 (v 11 n) (∃ nb, (0 ≤ nb ∧ nb < i) ∧ AnsK g (kpN nb) (n / 7) (n % 7))) ∧ i01 (v 12 0) (∀ nb, (0 ≤ nb ∧ nb < i) → ∃ x y, AnsK g (kpN nb) x y)
theorem evM_s {g : xG} {i : Int} {v v2 : xG} {r : Int} (hi : 0 ≤ i) (h : evM g i v) (h2 : ∀ n, 0 ≤ n → n < 49 → i01 (v2 10 n) (v 10 n = 1 ∧ AnsK g (kpN i) (n / 7) (n % 7)) ∧ i01 (v2 11 n) (v 11 n = 1 ∨ AnsK g (kpN i) (n / 7) (n % 7))) (hr : i01 r (∃ x y, AnsK g (kpN i) x y)) (h12 : v2 12 0 = if r = 0 then 0 else v 12 0) : evM g (i + 1) v2 := by
  refine ⟨fun n n0 n1 => ⟨?_, ?_⟩, ?_⟩
  · rw [all_lt hi]
    refine i01_iff ?_ (h2 n n0 n1).1
    rcases (h.1 n n0 n1).1 with z | z
    · exact ⟨fun q => ⟨z.2, q.2⟩, fun q => ⟨z.1, q.2⟩⟩
    · exact ⟨fun q => by omega, fun q => absurd q.1 z.2⟩
  · rw [ex_lt hi]
    refine i01_iff ?_ (h2 n n0 n1).2
    rcases (h.1 n n0 n1).2 with z | z
    · exact ⟨fun _ => Or.inl z.2, fun _ => Or.inl z.1⟩
    · constructor
      · rintro (q | q)
        · omega
        · exact Or.inr q
      · rintro (q | q)
        · exact absurd q z.2
        · exact Or.inr q
  · rw [all_lt hi, h12]
    rcases hr with z | z
    · rw [if_neg (by omega)]
      refine i01_iff ⟨fun q => ⟨q, z.2⟩, fun q => q.1⟩ h.2
    · rw [if_pos z.1]
      exact Or.inr ⟨rfl, fun q => z.2 q.2⟩
end
section
set_option maxRecDepth 100000
theorem hdV_of {β : Int → Int} {t r : Int} (h : (t < 20 ∧ r = t) ∨ (20 ≤ t ∧ r = β (t - 20))) : r = hdV β t := by
  unfold hdV
  rcases h with h | h
  · rw [if_pos h.1]; exact h.2
  · rw [if_neg (by omega)]; exact h.2
theorem up_at (g : xG) (k : Nat) (i v n : Int) : up g k i v k n = if n = i then v else g k n := by
  unfold up
  by_cases h : n = i
  · rw [if_pos ⟨rfl, h⟩, if_pos h]
  · rw [if_neg (fun q => h q.2), if_neg h]
set_option maxHeartbeats 4000000 in
/-- apply -/
theorem cM_apply (l : Launch) (D : va_G) (a : xAd) (u : xSt) (r0 : Int) (g : xG) (hV : Val g) (hG : RelM g u.1) (hr : 0 ≤ r0 ∧ r0 < g 3 0) (hkn : ∀ i, 0 ≤ i → i ≤ 2 → 0 ≤ u.1 7 i ∧ u.1 7 i ≤ 6) (h9 : ∀ n, 0 ≤ n → n < 49 → u.1 9 n = 0 ∨ u.1 9 n = 1) (hR : Rng u.1) : MMv l D a yX1_apply cX1_apply 5 ({ frames := 2, cells := 0, slots := 0, locals := 51 } : Room) [.int (iI r0)] u (fun u2 => (∀ k, k ≠ 8 → k ≠ 9 → u2.1 k = u.1 k) ∧ u2.2 = u.2 ∧ Rng u2.1 ∧ ∀ n, 0 ≤ n → n < 49 → i01 (u2.1 9 n) (u.1 9 n = 1 ∨ (safG g r0 ∧ RAns g (kap (u.1 7)) r0 (n / 7) (n % 7)))) := by
  refine enMv (by decide +kernel) rfl (Nat.le_of_ble_eq_true rfl) ?_
  intro p e s m below meth c A Q ls F I hret hl
  have hl : lv_has ls 5 [(0, .ref a.1), (1, .int (iI r0))] := hl
  have hq := hV.2.2 r0 hr.1 hr.2
  have h3 := hV.2.1
  have hm := hG.2.2 r0 hr.1 hr.2
  have loop : ∀ (n : Nat) (i : Int) (w : xSt) (H : Heap) (locs : List Loc) (ls : Array Slot), 0 ≤ i → i + n = 125 → (∀ k, k ≠ 8 → k ≠ 9 → w.1 k = u.1 k) → w.2 = u.2 → Rng w.1 → apH g (kap (u.1 7)) r0 i (u.1 9) (w.1 9) → IM D a A s H locs w → lv_has ls 5 [(2, .int (iI i)), (0, .ref a.1), (1, .int (iI r0))] → W p l e ({ frames := 2, cells := 0, slots := 0, locals := 51 } : Room) s m (Value.ref a.1 :: [.int (iI r0)]).toArray below meth c H locs 0 0 Q (F0 m 2 ls []) := by
    intro n
    induction n with
    | zero =>
      intro i w H locs ls h0 hn hw hw2 hR hH I hl
      have hi : i = 125 := by omega
      subst hi
      refine lv_iload_n (pc := 2) F.1.1 F.1.2.1 dX1_apply_2 rfl (lv_at hl 0 rfl) ?_
      refine xi_bp (pc := 3) F.1 dX1_apply_3 (by decide) ?_
      refine xi_cge (pc := 5) (tgt := 74) F.1 (by omega) dX1_apply_5 (by decide) (fun c1 => ?_) (fun c1 => ?_)
      · exact hret w _ _ (⟨hw, hw2, hR, apH_end hV hr hH⟩) I _ _ dX1_apply_74
      · exfalso; omega
    | succ n ih =>
      intro i w H locs ls h0 hn hw hw2 hR hH I hl
      refine lv_iload_n (pc := 2) F.1.1 F.1.2.1 dX1_apply_2 rfl (lv_at hl 0 rfl) ?_
      refine xi_bp (pc := 3) F.1 dX1_apply_3 (by decide) ?_
      refine xi_cge (pc := 5) (tgt := 74) F.1 (by omega) dX1_apply_5 (by decide) (fun c1 => ?_) (fun c1 => ?_)
      · exfalso; omega
      · refine lv_aload_n (pc := 8) F.1.1 F.1.2.1 dX1_apply_8 rfl (lv_at hl 1 rfl) ?_
        refine lv_iload_n (pc := 9) F.1.1 F.1.2.1 dX1_apply_9 rfl (lv_at hl 2 rfl) ?_
        refine lv_iload_n (pc := 10) F.1.1 F.1.2.1 dX1_apply_10 rfl (lv_at hl 0 rfl) ?_
        refine caMi (pc := 11) (As := [.int (iI r0), .int (iI i)]) (rest := []) F I (cM_fits l D a w r0 i g hV (RelM_eq (fun k hk => hw k (by omega) (by omega)) hG) hr (by omega) (by rw [hw 7 (by decide) (by decide)]; exact hkn) hR) (lw_V q288 q290 qs19 q25 q291) hdM_fits ⟨rfl, rfl⟩ ⟨Nat.le_of_ble_eq_true rfl, Nat.le_of_ble_eq_true rfl⟩ hl.1 rfl (Nat.le_of_ble_eq_true rfl) ⟨Nat.zero_le _, Nat.zero_le _⟩ dX1_apply_11 (fun r3 u2 H locs hp3 I => ?_)
        rw [hw 7 (by decide) (by decide)] at hp3
        obtain ⟨hf, hf2, hR, hfq⟩ := hp3
        have hw1 : ∀ k, k ≠ 8 → k ≠ 9 → u2.1 k = u.1 k := fun k hk hk2 => (hf k hk).trans (hw k hk hk2)
        have hH1 : apH g (kap (u.1 7)) r0 i (u.1 9) (u2.1 9) := by rw [hf 9 (by decide)]; exact hH
        have rr3 : 0 ≤ r3 ∧ r3 ≤ 1 := by rcases hfq with z | z <;> omega
        refine xi_zeq (pc := 14) (tgt := 68) F.1 (by omega) dX1_apply_14 (by decide) (fun c4 => ?_) (fun c4 => ?_)
        · refine xi_iinc (pc := 68) (lv' := [(2, .int (iI (i + 1))), (0, .ref a.1), (1, .int (iI r0))]) F.1 dX1_apply_68 hl (k := 0) rfl (by decide) rfl (fun ls hl => ?_)
          refine lv_goto (pc := 71) (tgt := 2) F.1.1 F.1.2.1 dX1_apply_71 (by decide) ?_
          exact ih (i + 1) u2 _ _ ls (by omega) (by omega) hw1 (hf2.trans hw2) hR (apH_no h0 hH1 (fun _ x y => no_pick (hfq.elim (fun z => absurd z.1 (by omega)) (fun z => z.2)))) I (lv_sub hl [0, 1, 2] rfl)
        · refine lv_aload_n (pc := 17) F.1.1 F.1.2.1 dX1_apply_17 rfl (lv_at hl 1 rfl) ?_
          refine lv_aload_n (pc := 18) F.1.1 F.1.2.1 dX1_apply_18 rfl (lv_at hl 1 rfl) ?_
          refine gM_3 (pc := 19) F I dX1_apply_19 ?_
          refine xi_ic (pc := 22) F.1 dX1_apply_22 ?_
          refine lv_iload_n (pc := 23) F.1.1 F.1.2.1 dX1_apply_23 rfl (lv_at hl 2 rfl) ?_
          refine xi_imul (pc := 24) F.1 dX1_apply_24 ?_
          refine ldM_3 (pc := 25) F I (by omega) dX1_apply_25 (fun v5 hv5 => ?_)
          have rv5 : -1 ≤ v5 ∧ v5 ≤ 127 := by rw [hv5]; exact hR 3 _
          have ev5 : v5 = g 4 r0 := by rw [hv5, hw1 3 (by decide) (by decide)]; exact hm.1
          refine caMi (pc := 26) (As := [.int (iI v5)]) (rest := []) F I (cM_headOf l D a u2 v5 (by omega) hR) (lw_V q300 q302 qs22 q25 q303) hdM_headOf ⟨rfl, rfl⟩ ⟨Nat.le_of_ble_eq_true rfl, Nat.le_of_ble_eq_true rfl⟩ hl.1 rfl (Nat.le_of_ble_eq_true rfl) ⟨Nat.zero_le _, Nat.zero_le _⟩ dX1_apply_26 (fun r7 u6 H locs hp7 I => ?_)
          have hfj := hfq.elim (fun z => z.2) (fun z => absurd z.1 (by omega))
          rw [hp7.1] at I
          have hr7 := hdV_of hp7.2
          rw [ev5] at hr7
          have br7 := hdV_bd hV hr hq.1 hfj.2
          rw [← hr7] at br7
          refine lv_istore_n (pc := 29) (lv' := [(3, .int (iI r7)), (2, .int (iI i)), (0, .ref a.1), (1, .int (iI r0))]) F.1.1 F.1.2.1 dX1_apply_29 rfl hl (by decide) rfl (fun ls hl => ?_)
          refine lv_aload_n (pc := 30) F.1.1 F.1.2.1 dX1_apply_30 rfl (lv_at hl 2 rfl) ?_
          refine lv_aload_n (pc := 31) F.1.1 F.1.2.1 dX1_apply_31 rfl (lv_at hl 2 rfl) ?_
          refine gM_3 (pc := 32) F I dX1_apply_32 ?_
          refine xi_ic (pc := 35) F.1 dX1_apply_35 ?_
          refine lv_iload_n (pc := 36) F.1.1 F.1.2.1 dX1_apply_36 rfl (lv_at hl 3 rfl) ?_
          refine xi_imul (pc := 37) F.1 dX1_apply_37 ?_
          refine xi_ic (pc := 38) F.1 dX1_apply_38 ?_
          refine xi_iadd (pc := 39) F.1 dX1_apply_39 ?_
          refine ldM_3 (pc := 40) F I (by omega) dX1_apply_40 (fun v8 hv8 => ?_)
          have rv8 : -1 ≤ v8 ∧ v8 ≤ 127 := by rw [hv8]; exact hR 3 _
          have ev8 : v8 = g 5 r0 := by rw [hv8, hw1 3 (by decide) (by decide)]; exact hm.2.1
          refine caMi (pc := 41) (As := [.int (iI v8)]) (rest := []) F I (cM_headOf l D a u2 v8 (by omega) hR) (lw_V q300 q302 qs22 q25 q303) hdM_headOf ⟨rfl, rfl⟩ ⟨Nat.le_of_ble_eq_true rfl, Nat.le_of_ble_eq_true rfl⟩ hl.1 rfl (Nat.le_of_ble_eq_true rfl) ⟨Nat.zero_le _, Nat.zero_le _⟩ dX1_apply_41 (fun r10 u9 H locs hp10 I => ?_)
          rw [hp10.1] at I
          have hr10 := hdV_of hp10.2
          rw [ev8] at hr10
          have br10 := hdV_bd hV hr hq.2.1 hfj.2
          rw [← hr10] at br10
          refine lv_istore (pc := 44) (lv' := [(4, .int (iI r10)), (3, .int (iI r7)), (2, .int (iI i)), (0, .ref a.1), (1, .int (iI r0))]) F.1.1 F.1.2.1 dX1_apply_44 hl (by decide) rfl (fun ls hl => ?_)
          refine lv_iload_n (pc := 46) F.1.1 F.1.2.1 dX1_apply_46 rfl (lv_at hl 1 rfl) ?_
          refine xi_zlt (pc := 47) (tgt := 68) F.1 (by omega) dX1_apply_47 (by decide) (fun c11 => ?_) (fun c11 => ?_)
          · refine xi_iinc (pc := 68) (lv' := [(2, .int (iI (i + 1))), (4, .int (iI r10)), (3, .int (iI r7)), (0, .ref a.1), (1, .int (iI r0))]) F.1 dX1_apply_68 hl (k := 2) rfl (by decide) rfl (fun ls hl => ?_)
            refine lv_goto (pc := 71) (tgt := 2) F.1.1 F.1.2.1 dX1_apply_71 (by decide) ?_
            exact ih (i + 1) u2 _ _ ls (by omega) (by omega) hw1 (hf2.trans hw2) hR (apH_no h0 hH1 (fun hs => absurd (br7.1.mpr hs.1) (by omega))) I (lv_sub hl [0, 3, 4] rfl)
          · refine lv_iload (pc := 50) F.1.1 F.1.2.1 dX1_apply_50 (lv_at hl 0 rfl) ?_
            refine xi_zlt (pc := 52) (tgt := 68) F.1 (by omega) dX1_apply_52 (by decide) (fun c12 => ?_) (fun c12 => ?_)
            · refine xi_iinc (pc := 68) (lv' := [(2, .int (iI (i + 1))), (4, .int (iI r10)), (3, .int (iI r7)), (0, .ref a.1), (1, .int (iI r0))]) F.1 dX1_apply_68 hl (k := 2) rfl (by decide) rfl (fun ls hl => ?_)
              refine lv_goto (pc := 71) (tgt := 2) F.1.1 F.1.2.1 dX1_apply_71 (by decide) ?_
              exact ih (i + 1) u2 _ _ ls (by omega) (by omega) hw1 (hf2.trans hw2) hR (apH_no h0 hH1 (fun hs => absurd (br10.1.mpr hs.2) (by omega))) I (lv_sub hl [0, 3, 4] rfl)
            · refine lv_aload_n (pc := 55) F.1.1 F.1.2.1 dX1_apply_55 rfl (lv_at hl 3 rfl) ?_
              refine gM_9 (pc := 56) F I dX1_apply_56 ?_
              refine xi_bp (pc := 59) F.1 dX1_apply_59 (by decide) ?_
              refine lv_iload_n (pc := 61) F.1.1 F.1.2.1 dX1_apply_61 rfl (lv_at hl 1 rfl) ?_
              refine xi_imul (pc := 62) F.1 dX1_apply_62 ?_
              refine lv_iload (pc := 63) F.1.1 F.1.2.1 dX1_apply_63 (lv_at hl 0 rfl) ?_
              refine xi_iadd (pc := 65) F.1 dX1_apply_65 ?_
              refine xi_ic (pc := 66) F.1 dX1_apply_66 ?_
              refine stM_9 (pc := 67) F I (by omega) (by omega) dX1_apply_67 (fun u13 H locs hu13 I => ?_)
              have hR : Rng u13.1 := by rw [hu13]; exact Rng_up hR (by omega)
              refine xi_iinc (pc := 68) (lv' := [(2, .int (iI (i + 1))), (4, .int (iI r10)), (3, .int (iI r7)), (0, .ref a.1), (1, .int (iI r0))]) F.1 dX1_apply_68 hl (k := 2) rfl (by decide) rfl (fun ls hl => ?_)
              refine lv_goto (pc := 71) (tgt := 2) F.1.1 F.1.2.1 dX1_apply_71 (by decide) ?_
              refine ih (i + 1) u13 _ _ ls (by omega) (by omega) (fun k hk hk2 => by rw [hu13]; exact (up_o _ _ _ hk2).trans (hw1 k hk hk2)) (by rw [hu13]; exact hf2.trans hw2) hR (apH_hit (x := r7) (y := r10) h0 hH1 ⟨br7.1.mp (by omega), br10.1.mp (by omega)⟩ (by omega) (by omega) (fun x2 y2 => ?_) (fun n => by rw [hu13]; exact up_at _ _ _ _ _)) I (lv_sub hl [0, 3, 4] rfl)
              rw [hr7, hr10]
              exact hit_ok (kap_lo _) hV hr hfj.1 hfj.2 (by rw [← hr7]; omega) (by rw [← hr10]; omega)
  refine xi_ic (pc := 0) F.1 dX1_apply_0 ?_
  refine lv_istore_n (pc := 1) (lv' := [(2, .int (iI 0)), (0, .ref a.1), (1, .int (iI r0))]) F.1.1 F.1.2.1 dX1_apply_1 rfl hl (by decide) rfl (fun ls hl => ?_)
  exact loop 125 0 u _ _ ls (by omega) (by omega) (fun _ _ _ => rfl) rfl hR (apH_0 _ _ _ h9) I hl
set_option maxHeartbeats 4000000 in
/-- complete -/
theorem cM_complete (l : Launch) (D : va_G) (a : xAd) (u : xSt) (nb : Int) (g : xG) (hV : Val g) (hG : RelM g u.1) (hnb : 0 ≤ nb ∧ nb < 343) (hao : ∀ n, 0 ≤ n → n < 49 → (u.1 10 n = 0 ∨ u.1 10 n = 1) ∧ (u.1 11 n = 0 ∨ u.1 11 n = 1)) (hR : Rng u.1) : MMi l D a yX1_complete cX1_complete 4 (some .boolean) ({ frames := 3, cells := 0, slots := 0, locals := 75 } : Room) [.int (iI nb)] u (fun r u2 => (∀ k, k ≤ 6 ∨ k = 12 → u2.1 k = u.1 k) ∧ u2.2 = u.2 ∧ Rng u2.1 ∧ (∀ n, 0 ≤ n → n < 49 → i01 (u2.1 10 n) (u.1 10 n = 1 ∧ AnsK g (kpN nb) (n / 7) (n % 7)) ∧ i01 (u2.1 11 n) (u.1 11 n = 1 ∨ AnsK g (kpN nb) (n / 7) (n % 7))) ∧ i01 r (∃ x y, AnsK g (kpN nb) x y)) := by
  refine enMz (by decide +kernel) rfl (Nat.le_of_ble_eq_true rfl) ?_
  intro p e s m below meth c A Q ls F I hret hl
  have hl : lv_has ls 4 [(0, .ref a.1), (1, .int (iI nb))] := hl
  have h3 := hV.2.1
  have hcp := kpN_c hnb
  have l4 : ∀ (n : Nat) (k q : Int) (w : xSt) (H : Heap) (locs : List Loc) (ls : Array Slot), 0 ≤ k → k + n = 49 → (∀ j, j ≤ 6 ∨ j = 12 → w.1 j = u.1 j) → w.2 = u.2 → Rng w.1 → (∀ n, 0 ≤ n → n < 49 → i01 (w.1 9 n) (AnsK g (kpN nb) (n / 7) (n % 7))) → loH g (kpN nb) k (u.1 10) (u.1 11) (w.1 10) (w.1 11) q → IM D a A s H locs w → lv_has ls 4 [(3, .int (iI k)), (2, .int (iI q)), (0, .ref a.1), (1, .int (iI nb))] → W p l e ({ frames := 3, cells := 0, slots := 0, locals := 75 } : Room) s m (Value.ref a.1 :: [.int (iI nb)]).toArray below meth c H locs 0 0 Q (F0 m 79 ls []) := by
    intro n
    induction n with
    | zero =>
      intro k q w H locs ls h0 hn hw hw2 hR h9 hL I hl
      have hk : k = 49 := by omega
      subst hk
      refine lv_iload_n (pc := 79) F.1.1 F.1.2.1 dX1_complete_79 rfl (lv_at hl 0 rfl) ?_
      refine xi_bp (pc := 80) F.1 dX1_complete_80 (by decide) ?_
      refine xi_cge (pc := 82) (tgt := 119) F.1 (by omega) dX1_complete_82 (by decide) (fun c1 => ?_) (fun c1 => ?_)
      · refine lv_iload_n (pc := 119) F.1.1 F.1.2.1 dX1_complete_119 rfl (lv_at hl 1 rfl) ?_
        exact hret q w _ _ (by have z := hL.2; omega) (⟨hw, hw2, hR, fun n n0 n1 => (hL.1 n n0 n1).1 n1, i01_iff (loH_any hV hcp) hL.2⟩) I _ _ dX1_complete_120
      · exfalso; omega
    | succ n ih =>
      intro k q w H locs ls h0 hn hw hw2 hR h9 hL I hl
      have h9k := h9 k h0 (by omega)
      refine lv_iload_n (pc := 79) F.1.1 F.1.2.1 dX1_complete_79 rfl (lv_at hl 0 rfl) ?_
      refine xi_bp (pc := 80) F.1 dX1_complete_80 (by decide) ?_
      refine xi_cge (pc := 82) (tgt := 119) F.1 (by omega) dX1_complete_82 (by decide) (fun c1 => ?_) (fun c1 => ?_)
      · exfalso; omega
      · refine lv_aload_n (pc := 85) F.1.1 F.1.2.1 dX1_complete_85 rfl (lv_at hl 2 rfl) ?_
        refine gM_9 (pc := 86) F I dX1_complete_86 ?_
        refine lv_iload_n (pc := 89) F.1.1 F.1.2.1 dX1_complete_89 rfl (lv_at hl 0 rfl) ?_
        refine ldM_9 (pc := 90) F I (by omega) dX1_complete_90 (fun v2 hv2 => ?_)
        have rv2 : -1 ≤ v2 ∧ v2 ≤ 127 := by rw [hv2]; exact hR 9 _
        refine xi_zeq (pc := 91) (tgt := 106) F.1 (by omega) dX1_complete_91 (by decide) (fun c3 => ?_) (fun c3 => ?_)
        · refine lv_aload_n (pc := 106) F.1.1 F.1.2.1 dX1_complete_106 rfl (lv_at hl 2 rfl) ?_
          refine gM_10 (pc := 107) F I dX1_complete_107 ?_
          refine lv_iload_n (pc := 110) F.1.1 F.1.2.1 dX1_complete_110 rfl (lv_at hl 0 rfl) ?_
          refine xi_ic (pc := 111) F.1 dX1_complete_111 ?_
          refine stM_10 (pc := 112) F I (by omega) (by omega) dX1_complete_112 (fun u4 H locs hu4 I => ?_)
          have hR : Rng u4.1 := by rw [hu4]; exact Rng_up hR (by omega)
          refine xi_iinc (pc := 113) (lv' := [(3, .int (iI (k + 1))), (2, .int (iI q)), (0, .ref a.1), (1, .int (iI nb))]) F.1 dX1_complete_113 hl (k := 0) rfl (by decide) rfl (fun ls hl => ?_)
          refine lv_goto (pc := 116) (tgt := 79) F.1.1 F.1.2.1 dX1_complete_116 (by decide) ?_
          have ho : u4.1 11 = w.1 11 := by rw [hu4]; rfl
          exact ih (k + 1) q u4 _ _ ls (by omega) (by omega) (fun j hj => by rw [hu4]; exact (up_o _ _ _ (by omega)).trans (hw j hj)) (by rw [hu4]; exact hw2) hR (by rw [hu4]; exact h9) (by rw [ho]; exact (loH_f (a1 := w.1 10) (o1 := w.1 11) (by omega) hL (fun n n0 n1 => (hao n n0 n1).2) (h9k.elim (fun z => absurd z.1 (by omega)) (fun z => z.2)) (fun n => by rw [hu4]; exact up_at _ _ _ _ _))) I (lv_sub hl [0, 1, 2, 3] rfl)
        · refine lv_aload_n (pc := 94) F.1.1 F.1.2.1 dX1_complete_94 rfl (lv_at hl 2 rfl) ?_
          refine gM_11 (pc := 95) F I dX1_complete_95 ?_
          refine lv_iload_n (pc := 98) F.1.1 F.1.2.1 dX1_complete_98 rfl (lv_at hl 0 rfl) ?_
          refine xi_ic (pc := 99) F.1 dX1_complete_99 ?_
          refine stM_11 (pc := 100) F I (by omega) (by omega) dX1_complete_100 (fun u5 H locs hu5 I => ?_)
          have hR : Rng u5.1 := by rw [hu5]; exact Rng_up hR (by omega)
          refine xi_ic (pc := 101) F.1 dX1_complete_101 ?_
          refine lv_istore_n (pc := 102) (lv' := [(2, .int (iI 1)), (3, .int (iI k)), (0, .ref a.1), (1, .int (iI nb))]) F.1.1 F.1.2.1 dX1_complete_102 rfl hl (by decide) rfl (fun ls hl => ?_)
          refine lv_goto (pc := 103) (tgt := 113) F.1.1 F.1.2.1 dX1_complete_103 (by decide) ?_
          refine xi_iinc (pc := 113) (lv' := [(3, .int (iI (k + 1))), (2, .int (iI 1)), (0, .ref a.1), (1, .int (iI nb))]) F.1 dX1_complete_113 hl (k := 1) rfl (by decide) rfl (fun ls hl => ?_)
          refine lv_goto (pc := 116) (tgt := 79) F.1.1 F.1.2.1 dX1_complete_116 (by decide) ?_
          have ho : u5.1 10 = w.1 10 := by rw [hu5]; rfl
          exact ih (k + 1) 1 u5 _ _ ls (by omega) (by omega) (fun j hj => by rw [hu5]; exact (up_o _ _ _ (by omega)).trans (hw j hj)) (by rw [hu5]; exact hw2) hR (by rw [hu5]; exact h9) (by rw [ho]; exact (loH_t (a1 := w.1 10) (o1 := w.1 11) (by omega) hL (fun n n0 n1 => (hao n n0 n1).1) (h9k.elim (fun z => z.2) (fun z => absurd z.1 (by omega))) (fun n => by rw [hu5]; exact up_at _ _ _ _ _))) I (lv_sub hl [0, 1, 2, 3] rfl)
  have l3 : ∀ (n : Nat) (i : Int) (w : xSt) (H : Heap) (locs : List Loc) (ls : Array Slot), 0 ≤ i → i + n = g 3 0 → (∀ j, j ≤ 6 ∨ 10 ≤ j → w.1 j = u.1 j) → kap (w.1 7) = kpN nb → (∀ i, 0 ≤ i → i ≤ 2 → 0 ≤ w.1 7 i ∧ w.1 7 i ≤ 6) → w.2 = u.2 → Rng w.1 → coH g (kpN nb) i (w.1 9) → IM D a A s H locs w → lv_has ls 4 [(2, .int (iI i)), (0, .ref a.1), (1, .int (iI nb))] → W p l e ({ frames := 3, cells := 0, slots := 0, locals := 75 } : Room) s m (Value.ref a.1 :: [.int (iI nb)]).toArray below meth c H locs 0 0 Q (F0 m 56 ls []) := by
    intro n
    induction n with
    | zero =>
      intro i w H locs ls h0 hn hw hkp hkn hw2 hR hH I hl
      refine lv_iload_n (pc := 56) F.1.1 F.1.2.1 dX1_complete_56 rfl (lv_at hl 0 rfl) ?_
      refine lv_aload_n (pc := 57) F.1.1 F.1.2.1 dX1_complete_57 rfl (lv_at hl 1 rfl) ?_
      refine gM_2 (pc := 58) F I dX1_complete_58 (fun v1 hv1 => ?_)
      have rv1 : -1 ≤ v1 ∧ v1 ≤ 127 := by rw [hv1]; exact hR 2 0
      have ev1 : v1 = g 3 0 := by rw [hv1, hw 2 (by decide)]; exact hG.2.1
      refine xi_cge (pc := 61) (tgt := 75) F.1 (by omega) dX1_complete_61 (by decide) (fun c2 => ?_) (fun c2 => ?_)
      · refine xi_ic (pc := 75) F.1 dX1_complete_75 ?_
        refine lv_istore_n (pc := 76) (lv' := [(2, .int (iI 0)), (0, .ref a.1), (1, .int (iI nb))]) F.1.1 F.1.2.1 dX1_complete_76 rfl hl (by decide) rfl (fun ls hl => ?_)
        refine xi_ic (pc := 77) F.1 dX1_complete_77 ?_
        refine lv_istore_n (pc := 78) (lv' := [(3, .int (iI 0)), (2, .int (iI 0)), (0, .ref a.1), (1, .int (iI nb))]) F.1.1 F.1.2.1 dX1_complete_78 rfl hl (by decide) rfl (fun ls hl => ?_)
        refine l4 49 0 0 w _ _ ls (by omega) (by omega) (fun j hj => hw j (by omega)) hw2 hR (fun n n0 n1 => i01_iff ?_ (hH n n0 n1)) (by rw [hw 10 (by decide), hw 11 (by decide)]; exact loH_0 _ _ _ _) I hl
        rw [show i = g 3 0 by omega]
        exact Iff.rfl
      · exfalso; omega
    | succ n ih =>
      intro i w H locs ls h0 hn hw hkp hkn hw2 hR hH I hl
      refine lv_iload_n (pc := 56) F.1.1 F.1.2.1 dX1_complete_56 rfl (lv_at hl 0 rfl) ?_
      refine lv_aload_n (pc := 57) F.1.1 F.1.2.1 dX1_complete_57 rfl (lv_at hl 1 rfl) ?_
      refine gM_2 (pc := 58) F I dX1_complete_58 (fun v1 hv1 => ?_)
      have rv1 : -1 ≤ v1 ∧ v1 ≤ 127 := by rw [hv1]; exact hR 2 0
      have ev1 : v1 = g 3 0 := by rw [hv1, hw 2 (by decide)]; exact hG.2.1
      refine xi_cge (pc := 61) (tgt := 75) F.1 (by omega) dX1_complete_61 (by decide) (fun c2 => ?_) (fun c2 => ?_)
      · exfalso; omega
      · refine lv_aload_n (pc := 64) F.1.1 F.1.2.1 dX1_complete_64 rfl (lv_at hl 1 rfl) ?_
        refine lv_iload_n (pc := 65) F.1.1 F.1.2.1 dX1_complete_65 rfl (lv_at hl 0 rfl) ?_
        refine caMv (pc := 66) (As := [.int (iI i)]) (rest := []) F I (cM_apply l D a w i g hV (RelM_eq (fun k hk => hw k (by omega)) hG) (by omega) hkn (fun n n0 n1 => i01_r (hH n n0 n1)) hR) (lw_V q284 q286 qs18 q25 q287) hdM_apply ⟨rfl, rfl⟩ ⟨Nat.le_of_ble_eq_true rfl, Nat.le_of_ble_eq_true rfl⟩ hl.1 rfl (Nat.le_of_ble_eq_true rfl) ⟨Nat.zero_le _, Nat.zero_le _⟩ dX1_complete_66 (fun u3 H locs hp3 I => ?_)
        rw [hkp] at hp3
        have hR : Rng u3.1 := hp3.2.2.1
        refine xi_iinc (pc := 69) (lv' := [(2, .int (iI (i + 1))), (0, .ref a.1), (1, .int (iI nb))]) F.1 dX1_complete_69 hl (k := 0) rfl (by decide) rfl (fun ls hl => ?_)
        refine lv_goto (pc := 72) (tgt := 56) F.1.1 F.1.2.1 dX1_complete_72 (by decide) ?_
        exact ih (i + 1) u3 _ _ ls (by omega) (by omega) (fun j hj => (hp3.1 j (by omega) (by omega)).trans (hw j hj)) (by rw [hp3.1 7 (by decide) (by decide)]; exact hkp) (by rw [hp3.1 7 (by decide) (by decide)]; exact hkn) (hp3.2.1.trans hw2) hR (coH_s h0 hH hp3.2.2.2) I hl
  have l2 : ∀ (n : Nat) (i : Int) (w : xSt) (H : Heap) (locs : List Loc) (ls : Array Slot), 0 ≤ i → i + n = 49 → (∀ j, j ≤ 6 ∨ 10 ≤ j → w.1 j = u.1 j) → kap (w.1 7) = kpN nb → (∀ i, 0 ≤ i → i ≤ 2 → 0 ≤ w.1 7 i ∧ w.1 7 i ≤ 6) → w.2 = u.2 → Rng w.1 → (∀ n, 0 ≤ n → n < i → w.1 9 n = 0) → IM D a A s H locs w → lv_has ls 4 [(2, .int (iI i)), (0, .ref a.1), (1, .int (iI nb))] → W p l e ({ frames := 3, cells := 0, slots := 0, locals := 75 } : Room) s m (Value.ref a.1 :: [.int (iI nb)]).toArray below meth c H locs 0 0 Q (F0 m 35 ls []) := by
    intro n
    induction n with
    | zero =>
      intro i w H locs ls h0 hn hw hkp hkn hw2 hR hZ I hl
      obtain ⟨n, hn2⟩ := Int.eq_ofNat_of_zero_le h3.1
      refine lv_iload_n (pc := 35) F.1.1 F.1.2.1 dX1_complete_35 rfl (lv_at hl 0 rfl) ?_
      refine xi_bp (pc := 36) F.1 dX1_complete_36 (by decide) ?_
      refine xi_cge (pc := 38) (tgt := 54) F.1 (by omega) dX1_complete_38 (by decide) (fun c1 => ?_) (fun c1 => ?_)
      · refine xi_ic (pc := 54) F.1 dX1_complete_54 ?_
        refine lv_istore_n (pc := 55) (lv' := [(2, .int (iI 0)), (0, .ref a.1), (1, .int (iI nb))]) F.1.1 F.1.2.1 dX1_complete_55 rfl hl (by decide) rfl (fun ls hl => ?_)
        exact l3 n 0 w _ _ ls (by omega) (by omega) hw hkp hkn hw2 hR (fun n n0 n1 => Or.inr ⟨hZ n n0 (by omega), fun ⟨r, hr, _⟩ => by omega⟩) I hl
      · exfalso; omega
    | succ n ih =>
      intro i w H locs ls h0 hn hw hkp hkn hw2 hR hZ I hl
      refine lv_iload_n (pc := 35) F.1.1 F.1.2.1 dX1_complete_35 rfl (lv_at hl 0 rfl) ?_
      refine xi_bp (pc := 36) F.1 dX1_complete_36 (by decide) ?_
      refine xi_cge (pc := 38) (tgt := 54) F.1 (by omega) dX1_complete_38 (by decide) (fun c1 => ?_) (fun c1 => ?_)
      · exfalso; omega
      · refine lv_aload_n (pc := 41) F.1.1 F.1.2.1 dX1_complete_41 rfl (lv_at hl 1 rfl) ?_
        refine gM_9 (pc := 42) F I dX1_complete_42 ?_
        refine lv_iload_n (pc := 45) F.1.1 F.1.2.1 dX1_complete_45 rfl (lv_at hl 0 rfl) ?_
        refine xi_ic (pc := 46) F.1 dX1_complete_46 ?_
        refine stM_9 (pc := 47) F I (by omega) (by omega) dX1_complete_47 (fun u2 H locs hu2 I => ?_)
        have hR : Rng u2.1 := by rw [hu2]; exact Rng_up hR (by omega)
        refine xi_iinc (pc := 48) (lv' := [(2, .int (iI (i + 1))), (0, .ref a.1), (1, .int (iI nb))]) F.1 dX1_complete_48 hl (k := 0) rfl (by decide) rfl (fun ls hl => ?_)
        refine lv_goto (pc := 51) (tgt := 35) F.1.1 F.1.2.1 dX1_complete_51 (by decide) ?_
        refine ih (i + 1) u2 _ _ ls (by omega) (by omega) (fun j hj => by rw [hu2]; exact (up_o _ _ _ (by omega)).trans (hw j hj)) (by rw [hu2]; exact hkp) (by rw [hu2]; exact hkn) (by rw [hu2]; exact hw2) hR (fun n n0 n1 => ?_) I hl
        rw [hu2]
        show up w.1 9 i 0 9 n = 0
        rw [up_at]
        split
        · rfl
        · exact hZ n n0 (by omega)
  refine lv_aload_n (pc := 0) F.1.1 F.1.2.1 dX1_complete_0 rfl (lv_at hl 0 rfl) ?_
  refine gM_7 (pc := 1) F I dX1_complete_1 ?_
  refine xi_ic (pc := 4) F.1 dX1_complete_4 ?_
  refine lv_iload_n (pc := 5) F.1.1 F.1.2.1 dX1_complete_5 rfl (lv_at hl 1 rfl) ?_
  refine xi_bp (pc := 6) F.1 dX1_complete_6 (by decide) ?_
  refine xi_irem (pc := 8) F.1 (by omega) dX1_complete_8 ?_
  refine stM_7 (pc := 9) F I (by omega) dX1_complete_9 (fun u1 H locs hu1 I => ?_)
  have hR : Rng u1.1 := by rw [hu1]; exact Rng_up hR (by omega)
  refine lv_aload_n (pc := 10) F.1.1 F.1.2.1 dX1_complete_10 rfl (lv_at hl 0 rfl) ?_
  refine gM_7 (pc := 11) F I dX1_complete_11 ?_
  refine xi_ic (pc := 14) F.1 dX1_complete_14 ?_
  refine lv_iload_n (pc := 15) F.1.1 F.1.2.1 dX1_complete_15 rfl (lv_at hl 1 rfl) ?_
  refine xi_bp (pc := 16) F.1 dX1_complete_16 (by decide) ?_
  refine xi_idiv (pc := 18) F.1 (by omega) dX1_complete_18 ?_
  refine xi_bp (pc := 19) F.1 dX1_complete_19 (by decide) ?_
  refine xi_irem (pc := 21) F.1 (by omega) dX1_complete_21 ?_
  refine stM_7 (pc := 22) F I (by omega) dX1_complete_22 (fun u2 H locs hu2 I => ?_)
  have hR : Rng u2.1 := by rw [hu2]; exact Rng_up hR (by omega)
  refine lv_aload_n (pc := 23) F.1.1 F.1.2.1 dX1_complete_23 rfl (lv_at hl 0 rfl) ?_
  refine gM_7 (pc := 24) F I dX1_complete_24 ?_
  refine xi_ic (pc := 27) F.1 dX1_complete_27 ?_
  refine lv_iload_n (pc := 28) F.1.1 F.1.2.1 dX1_complete_28 rfl (lv_at hl 1 rfl) ?_
  refine xi_bp (pc := 29) F.1 dX1_complete_29 (by decide) ?_
  refine xi_idiv (pc := 31) F.1 (by omega) dX1_complete_31 ?_
  refine stM_7 (pc := 32) F I (by omega) dX1_complete_32 (fun u3 H locs hu3 I => ?_)
  have hR : Rng u3.1 := by rw [hu3]; exact Rng_up hR (by omega)
  refine xi_ic (pc := 33) F.1 dX1_complete_33 ?_
  refine lv_istore_n (pc := 34) (lv' := [(2, .int (iI 0)), (0, .ref a.1), (1, .int (iI nb))]) F.1.1 F.1.2.1 dX1_complete_34 rfl hl (by decide) rfl (fun ls hl => ?_)
  have k0 : u3.1 7 0 = nb % 7 := by rw [hu3, hu2, hu1]; rfl
  have k1 : u3.1 7 1 = nb / 7 % 7 := by rw [hu3, hu2, hu1]; rfl
  have k2 : u3.1 7 2 = nb / 49 := by rw [hu3, hu2, hu1]; rfl
  refine l2 49 0 u3 _ _ ls (by omega) (by omega) (fun j hj => by rw [hu3, hu2, hu1]; exact (up_o _ _ _ (by omega)).trans ((up_o _ _ _ (by omega)).trans (up_o _ _ _ (by omega)))) (kap_kpN k0 k1 k2) (fun i i0 i1 => ?_) (by rw [hu3, hu2, hu1]) hR (fun n n0 n1 => by omega) I hl
  rcases (show i = 0 ∨ i = 1 ∨ i = 2 by omega) with rfl | rfl | rfl
  · rw [k0]; omega
  · rw [k1]; omega
  · rw [k2]; omega
set_option maxHeartbeats 4000000 in
/-- evaluate -/
theorem cM_evaluate (l : Launch) (D : va_G) (a : xAd) (u : xSt) (g : xG) (hV : Val g) (hG : RelM g u.1) (hR : Rng u.1) : MMv l D a yX1_evaluate cX1_evaluate 2 ({ frames := 4, cells := 0, slots := 0, locals := 98 } : Room) [] u (fun u2 => (∀ k, k ≤ 6 → u2.1 k = u.1 k) ∧ Rng u2.1 ∧ evM g 343 u2.1) := by
  refine enMv (by decide +kernel) rfl (Nat.le_of_ble_eq_true rfl) ?_
  intro p e s m below meth c A Q ls F I hret hl
  have hl : lv_has ls 2 [(0, .ref a.1)] := hl
  have l2 : ∀ (n : Nat) (i : Int) (w : xSt) (H : Heap) (locs : List Loc) (ls : Array Slot), 0 ≤ i → i + n = 343 → (∀ j, j ≤ 6 → w.1 j = u.1 j) → Rng w.1 → evM g i w.1 → IM D a A s H locs w → lv_has ls 2 [(1, .int (iI i)), (0, .ref a.1)] → W p l e ({ frames := 4, cells := 0, slots := 0, locals := 98 } : Room) s m (Value.ref a.1 :: []).toArray below meth c H locs 0 0 Q (F0 m 35 ls []) := by
    intro n
    induction n with
    | zero =>
      intro i w H locs ls h0 hn hw hR hE I hl
      have hi : i = 343 := by omega
      subst hi
      refine lv_iload_n (pc := 35) F.1.1 F.1.2.1 dX1_evaluate_35 rfl (lv_at hl 0 rfl) ?_
      refine xi_sp (pc := 36) F.1 dX1_evaluate_36 (by decide) ?_
      refine xi_cge (pc := 39) (tgt := 61) F.1 (by omega) dX1_evaluate_39 (by decide) (fun c1 => ?_) (fun c1 => ?_)
      · exact hret w _ _ (⟨hw, hR, hE⟩) I _ _ dX1_evaluate_61
      · exfalso; omega
    | succ n ih =>
      intro i w H locs ls h0 hn hw hR hE I hl
      refine lv_iload_n (pc := 35) F.1.1 F.1.2.1 dX1_evaluate_35 rfl (lv_at hl 0 rfl) ?_
      refine xi_sp (pc := 36) F.1 dX1_evaluate_36 (by decide) ?_
      refine xi_cge (pc := 39) (tgt := 61) F.1 (by omega) dX1_evaluate_39 (by decide) (fun c1 => ?_) (fun c1 => ?_)
      · exfalso; omega
      · refine lv_aload_n (pc := 42) F.1.1 F.1.2.1 dX1_evaluate_42 rfl (lv_at hl 1 rfl) ?_
        refine lv_iload_n (pc := 43) F.1.1 F.1.2.1 dX1_evaluate_43 rfl (lv_at hl 0 rfl) ?_
        refine caMi (pc := 44) (As := [.int (iI i)]) (rest := []) F I (cM_complete l D a w i g hV (RelM_eq hw hG) (by omega) (fun n n0 n1 => ⟨i01_r (hE.1 n n0 n1).1, i01_r (hE.1 n n0 n1).2⟩) hR) (lw_V q280 q282 qs17 q25 q283) hdM_complete ⟨rfl, rfl⟩ ⟨Nat.le_of_ble_eq_true rfl, Nat.le_of_ble_eq_true rfl⟩ hl.1 rfl (Nat.le_of_ble_eq_true rfl) ⟨Nat.zero_le _, Nat.zero_le _⟩ dX1_evaluate_44 (fun r3 u2 H locs hp3 I => ?_)
        obtain ⟨hc1, hc2, hR, hc3, hc4⟩ := hp3
        have rr3 : 0 ≤ r3 ∧ r3 ≤ 1 := by omega
        refine xi_zne (pc := 47) (tgt := 55) F.1 (by omega) dX1_evaluate_47 (by decide) (fun c4 => ?_) (fun c4 => ?_)
        · refine xi_iinc (pc := 55) (lv' := [(1, .int (iI (i + 1))), (0, .ref a.1)]) F.1 dX1_evaluate_55 hl (k := 0) rfl (by decide) rfl (fun ls hl => ?_)
          refine lv_goto (pc := 58) (tgt := 35) F.1.1 F.1.2.1 dX1_evaluate_58 (by decide) ?_
          exact ih (i + 1) u2 _ _ ls (by omega) (by omega) (fun j hj => (hc1 j (Or.inl hj)).trans (hw j hj)) hR (evM_s h0 hE hc3 hc4 (by rw [if_neg (by omega), hc1 12 (Or.inr rfl)])) I hl
        · refine lv_aload_n (pc := 50) F.1.1 F.1.2.1 dX1_evaluate_50 rfl (lv_at hl 1 rfl) ?_
          refine xi_ic (pc := 51) F.1 dX1_evaluate_51 ?_
          refine pM_12 (pc := 52) F I (by omega) dX1_evaluate_52 (fun u5 H locs hu5 I => ?_)
          have hR : Rng u5.1 := by rw [hu5]; exact Rng_up hR (by omega)
          refine xi_iinc (pc := 55) (lv' := [(1, .int (iI (i + 1))), (0, .ref a.1)]) F.1 dX1_evaluate_55 hl (k := 0) rfl (by decide) rfl (fun ls hl => ?_)
          refine lv_goto (pc := 58) (tgt := 35) F.1.1 F.1.2.1 dX1_evaluate_58 (by decide) ?_
          exact ih (i + 1) u5 _ _ ls (by omega) (by omega) (fun j hj => by rw [hu5]; exact (up_o _ _ _ (by omega)).trans ((hc1 j (Or.inl hj)).trans (hw j hj))) hR (evM_s h0 hE (by rw [hu5]; exact hc3) hc4 (by rw [if_pos (by omega), hu5]; rfl)) I hl
  have l1 : ∀ (n : Nat) (i : Int) (w : xSt) (H : Heap) (locs : List Loc) (ls : Array Slot), 0 ≤ i → i + n = 49 → (∀ j, j ≤ 6 → w.1 j = u.1 j) → Rng w.1 → w.1 12 0 = 1 → (∀ n, 0 ≤ n → n < i → w.1 10 n = 1 ∧ w.1 11 n = 0) → IM D a A s H locs w → lv_has ls 2 [(1, .int (iI i)), (0, .ref a.1)] → W p l e ({ frames := 4, cells := 0, slots := 0, locals := 98 } : Room) s m (Value.ref a.1 :: []).toArray below meth c H locs 0 0 Q (F0 m 7 ls []) := by
    intro n
    induction n with
    | zero =>
      intro i w H locs ls h0 hn hw hR h12 hZ I hl
      refine lv_iload_n (pc := 7) F.1.1 F.1.2.1 dX1_evaluate_7 rfl (lv_at hl 0 rfl) ?_
      refine xi_bp (pc := 8) F.1 dX1_evaluate_8 (by decide) ?_
      refine xi_cge (pc := 10) (tgt := 33) F.1 (by omega) dX1_evaluate_10 (by decide) (fun c1 => ?_) (fun c1 => ?_)
      · refine xi_ic (pc := 33) F.1 dX1_evaluate_33 ?_
        refine lv_istore_n (pc := 34) (lv' := [(1, .int (iI 0)), (0, .ref a.1)]) F.1.1 F.1.2.1 dX1_evaluate_34 rfl hl (by decide) rfl (fun ls hl => ?_)
        exact l2 343 0 w _ _ ls (by omega) (by omega) hw hR ⟨fun n n0 n1 => ⟨Or.inl ⟨(hZ n n0 (by omega)).1, fun nb hb => by omega⟩, Or.inr ⟨(hZ n n0 (by omega)).2, fun ⟨nb, hb, _⟩ => by omega⟩⟩, Or.inl ⟨h12, fun nb hb => by omega⟩⟩ I hl
      · exfalso; omega
    | succ n ih =>
      intro i w H locs ls h0 hn hw hR h12 hZ I hl
      refine lv_iload_n (pc := 7) F.1.1 F.1.2.1 dX1_evaluate_7 rfl (lv_at hl 0 rfl) ?_
      refine xi_bp (pc := 8) F.1 dX1_evaluate_8 (by decide) ?_
      refine xi_cge (pc := 10) (tgt := 33) F.1 (by omega) dX1_evaluate_10 (by decide) (fun c1 => ?_) (fun c1 => ?_)
      · exfalso; omega
      · refine lv_aload_n (pc := 13) F.1.1 F.1.2.1 dX1_evaluate_13 rfl (lv_at hl 1 rfl) ?_
        refine gM_10 (pc := 14) F I dX1_evaluate_14 ?_
        refine lv_iload_n (pc := 17) F.1.1 F.1.2.1 dX1_evaluate_17 rfl (lv_at hl 0 rfl) ?_
        refine xi_ic (pc := 18) F.1 dX1_evaluate_18 ?_
        refine stM_10 (pc := 19) F I (by omega) (by omega) dX1_evaluate_19 (fun u2 H locs hu2 I => ?_)
        have hR : Rng u2.1 := by rw [hu2]; exact Rng_up hR (by omega)
        refine lv_aload_n (pc := 20) F.1.1 F.1.2.1 dX1_evaluate_20 rfl (lv_at hl 1 rfl) ?_
        refine gM_11 (pc := 21) F I dX1_evaluate_21 ?_
        refine lv_iload_n (pc := 24) F.1.1 F.1.2.1 dX1_evaluate_24 rfl (lv_at hl 0 rfl) ?_
        refine xi_ic (pc := 25) F.1 dX1_evaluate_25 ?_
        refine stM_11 (pc := 26) F I (by omega) (by omega) dX1_evaluate_26 (fun u3 H locs hu3 I => ?_)
        have hR : Rng u3.1 := by rw [hu3]; exact Rng_up hR (by omega)
        refine xi_iinc (pc := 27) (lv' := [(1, .int (iI (i + 1))), (0, .ref a.1)]) F.1 dX1_evaluate_27 hl (k := 0) rfl (by decide) rfl (fun ls hl => ?_)
        refine lv_goto (pc := 30) (tgt := 7) F.1.1 F.1.2.1 dX1_evaluate_30 (by decide) ?_
        refine ih (i + 1) u3 _ _ ls (by omega) (by omega) (fun j hj => by rw [hu3, hu2]; exact (up_o _ _ _ (by omega)).trans ((up_o _ _ _ (by omega)).trans (hw j hj))) hR (by rw [hu3, hu2]; exact h12) (fun n n0 n1 => ?_) I hl
        rw [hu3, hu2]
        show up w.1 10 i 1 10 n = 1 ∧ up w.1 11 i 0 11 n = 0
        rw [up_at, up_at]
        by_cases hni : n = i
        · rw [if_pos hni, if_pos hni]; exact ⟨rfl, rfl⟩
        · rw [if_neg hni, if_neg hni]; exact hZ n n0 (by omega)
  refine lv_aload_n (pc := 0) F.1.1 F.1.2.1 dX1_evaluate_0 rfl (lv_at hl 0 rfl) ?_
  refine xi_ic (pc := 1) F.1 dX1_evaluate_1 ?_
  refine pM_12 (pc := 2) F I (by omega) dX1_evaluate_2 (fun u1 H locs hu1 I => ?_)
  have hR : Rng u1.1 := by rw [hu1]; exact Rng_up hR (by omega)
  refine xi_ic (pc := 5) F.1 dX1_evaluate_5 ?_
  refine lv_istore_n (pc := 6) (lv' := [(1, .int (iI 0)), (0, .ref a.1)]) F.1.1 F.1.2.1 dX1_evaluate_6 rfl hl (by decide) rfl (fun ls hl => ?_)
  exact l1 49 0 u1 _ _ ls (by omega) (by omega) (fun j hj => by rw [hu1]; exact up_o _ _ _ (by omega)) hR (by rw [hu1]; rfl) (fun n n0 n1 => by omega) I hl
set_option maxHeartbeats 4000000 in
/-- certain -/
theorem cM_certain (l : Launch) (D : va_G) (a : xAd) (u : xSt) (x y : Int) (g : xG) (hV : Val g) (hG : RelM g u.1) (hx : i32 x) (hy : i32 y) (hR : Rng u.1) : MMi l D a yX1_certain cX1_certain 3 (some .boolean) ({ frames := 5, cells := 0, slots := 0, locals := 119 } : Room) [.int (iI x), .int (iI y)] u (fun r u2 => Rng u2.1 ∧ (∀ k, k ≤ 6 → u2.1 k = u.1 k) ∧ i01 r (((0 ≤ x ∧ x ≤ 6) ∧ 0 ≤ y ∧ y ≤ 6) ∧ CertS g x y)) := by
  refine enMz (by decide +kernel) rfl (Nat.le_of_ble_eq_true rfl) ?_
  intro p e s m below meth c A Q ls F I hret hl
  have hl : lv_has ls 3 [(0, .ref a.1), (1, .int (iI x)), (2, .int (iI y))] := hl
  refine lv_aload_n (pc := 0) F.1.1 F.1.2.1 dX1_certain_0 rfl (lv_at hl 0 rfl) ?_
  refine lv_iload_n (pc := 1) F.1.1 F.1.2.1 dX1_certain_1 rfl (lv_at hl 1 rfl) ?_
  refine lv_iload_n (pc := 2) F.1.1 F.1.2.1 dX1_certain_2 rfl (lv_at hl 2 rfl) ?_
  refine caMi (pc := 3) (As := [.int (iI x), .int (iI y)]) (rest := []) F I (cM_isCouple l D a u x y (by omega) (by omega)) (lw_V q272 q274 qs15 q25 q275) hdM_isCouple ⟨rfl, rfl⟩ ⟨Nat.le_of_ble_eq_true rfl, Nat.le_of_ble_eq_true rfl⟩ hl.1 rfl (Nat.le_of_ble_eq_true rfl) ⟨Nat.zero_le _, Nat.zero_le _⟩ dX1_certain_3 (fun r2 u1 H locs hp2 I => ?_)
  rw [hp2.1] at I
  have hr2 := hp2.2
  refine xi_zne (pc := 6) (tgt := 11) F.1 (by omega) dX1_certain_6 (by decide) (fun c3 => ?_) (fun c3 => ?_)
  · refine lv_aload_n (pc := 11) F.1.1 F.1.2.1 dX1_certain_11 rfl (lv_at hl 0 rfl) ?_
    refine caMv (pc := 12) (As := []) (rest := []) F I (cM_evaluate l D a u g hV hG hR) (lw_V q276 q278 qs16 q25 q279) hdM_evaluate ⟨rfl, rfl⟩ ⟨Nat.le_of_ble_eq_true rfl, Nat.le_of_ble_eq_true rfl⟩ hl.1 rfl (Nat.le_of_ble_eq_true rfl) ⟨Nat.zero_le _, Nat.zero_le _⟩ dX1_certain_12 (fun u4 H locs hp4 I => ?_)
    obtain ⟨hk, hR, hE⟩ := hp4
    refine lv_aload_n (pc := 15) F.1.1 F.1.2.1 dX1_certain_15 rfl (lv_at hl 0 rfl) ?_
    refine gM_10 (pc := 16) F I dX1_certain_16 ?_
    refine xi_bp (pc := 19) F.1 dX1_certain_19 (by decide) ?_
    refine lv_iload_n (pc := 21) F.1.1 F.1.2.1 dX1_certain_21 rfl (lv_at hl 1 rfl) ?_
    refine xi_imul (pc := 22) F.1 dX1_certain_22 ?_
    refine lv_iload_n (pc := 23) F.1.1 F.1.2.1 dX1_certain_23 rfl (lv_at hl 2 rfl) ?_
    refine xi_iadd (pc := 24) F.1 dX1_certain_24 ?_
    refine ldM_10 (pc := 25) F I (by omega) dX1_certain_25 (fun v5 hv5 => ?_)
    have rv5 : -1 ≤ v5 ∧ v5 ≤ 127 := by rw [hv5]; exact hR 10 _
    exact hret v5 u4 _ _ (by rw [hv5]; exact (i01_r (hE.1 (7 * x + y) (by omega) (by omega)).1)) (⟨hR, hk, (by
        have d1 : (7 * x + y) / 7 = x := by omega
        have d2 : (7 * x + y) % 7 = y := by omega
        have d3 : (0 ≤ x ∧ x ≤ 6) ∧ 0 ≤ y ∧ y ≤ 6 := by omega
        have z := (hE.1 (7 * x + y) (by omega) (by omega)).1
        rw [d1, d2, ← hv5] at z
        exact i01_iff ⟨fun q => ⟨d3, (cert_num hV).mp q⟩, fun q => (cert_num hV).mpr q.2⟩ z)⟩) I _ _ dX1_certain_26
  · refine xi_ic (pc := 9) F.1 dX1_certain_9 ?_
    exact hret 0 u _ _ (by omega) (⟨hR, fun _ _ => rfl, Or.inr ⟨rfl, fun z => by omega⟩⟩) I _ _ dX1_certain_10
set_option maxHeartbeats 4000000 in
/-- possible -/
theorem cM_possible (l : Launch) (D : va_G) (a : xAd) (u : xSt) (x y : Int) (g : xG) (hV : Val g) (hG : RelM g u.1) (hx : i32 x) (hy : i32 y) (hR : Rng u.1) : MMi l D a yX1_possible cX1_possible 3 (some .boolean) ({ frames := 5, cells := 0, slots := 0, locals := 119 } : Room) [.int (iI x), .int (iI y)] u (fun r u2 => Rng u2.1 ∧ (∀ k, k ≤ 6 → u2.1 k = u.1 k) ∧ i01 r (((0 ≤ x ∧ x ≤ 6) ∧ 0 ≤ y ∧ y ≤ 6) ∧ PossS g x y)) := by
  refine enMz (by decide +kernel) rfl (Nat.le_of_ble_eq_true rfl) ?_
  intro p e s m below meth c A Q ls F I hret hl
  have hl : lv_has ls 3 [(0, .ref a.1), (1, .int (iI x)), (2, .int (iI y))] := hl
  refine lv_aload_n (pc := 0) F.1.1 F.1.2.1 dX1_possible_0 rfl (lv_at hl 0 rfl) ?_
  refine lv_iload_n (pc := 1) F.1.1 F.1.2.1 dX1_possible_1 rfl (lv_at hl 1 rfl) ?_
  refine lv_iload_n (pc := 2) F.1.1 F.1.2.1 dX1_possible_2 rfl (lv_at hl 2 rfl) ?_
  refine caMi (pc := 3) (As := [.int (iI x), .int (iI y)]) (rest := []) F I (cM_isCouple l D a u x y (by omega) (by omega)) (lw_V q272 q274 qs15 q25 q275) hdM_isCouple ⟨rfl, rfl⟩ ⟨Nat.le_of_ble_eq_true rfl, Nat.le_of_ble_eq_true rfl⟩ hl.1 rfl (Nat.le_of_ble_eq_true rfl) ⟨Nat.zero_le _, Nat.zero_le _⟩ dX1_possible_3 (fun r2 u1 H locs hp2 I => ?_)
  rw [hp2.1] at I
  have hr2 := hp2.2
  refine xi_zne (pc := 6) (tgt := 11) F.1 (by omega) dX1_possible_6 (by decide) (fun c3 => ?_) (fun c3 => ?_)
  · refine lv_aload_n (pc := 11) F.1.1 F.1.2.1 dX1_possible_11 rfl (lv_at hl 0 rfl) ?_
    refine caMv (pc := 12) (As := []) (rest := []) F I (cM_evaluate l D a u g hV hG hR) (lw_V q276 q278 qs16 q25 q279) hdM_evaluate ⟨rfl, rfl⟩ ⟨Nat.le_of_ble_eq_true rfl, Nat.le_of_ble_eq_true rfl⟩ hl.1 rfl (Nat.le_of_ble_eq_true rfl) ⟨Nat.zero_le _, Nat.zero_le _⟩ dX1_possible_12 (fun u4 H locs hp4 I => ?_)
    obtain ⟨hk, hR, hE⟩ := hp4
    refine lv_aload_n (pc := 15) F.1.1 F.1.2.1 dX1_possible_15 rfl (lv_at hl 0 rfl) ?_
    refine gM_11 (pc := 16) F I dX1_possible_16 ?_
    refine xi_bp (pc := 19) F.1 dX1_possible_19 (by decide) ?_
    refine lv_iload_n (pc := 21) F.1.1 F.1.2.1 dX1_possible_21 rfl (lv_at hl 1 rfl) ?_
    refine xi_imul (pc := 22) F.1 dX1_possible_22 ?_
    refine lv_iload_n (pc := 23) F.1.1 F.1.2.1 dX1_possible_23 rfl (lv_at hl 2 rfl) ?_
    refine xi_iadd (pc := 24) F.1 dX1_possible_24 ?_
    refine ldM_11 (pc := 25) F I (by omega) dX1_possible_25 (fun v5 hv5 => ?_)
    have rv5 : -1 ≤ v5 ∧ v5 ≤ 127 := by rw [hv5]; exact hR 11 _
    exact hret v5 u4 _ _ (by rw [hv5]; exact (i01_r (hE.1 (7 * x + y) (by omega) (by omega)).2)) (⟨hR, hk, (by
        have d1 : (7 * x + y) / 7 = x := by omega
        have d2 : (7 * x + y) % 7 = y := by omega
        have d3 : (0 ≤ x ∧ x ≤ 6) ∧ 0 ≤ y ∧ y ≤ 6 := by omega
        have z := (hE.1 (7 * x + y) (by omega) (by omega)).2
        rw [d1, d2, ← hv5] at z
        exact i01_iff ⟨fun q => ⟨d3, (poss_num hV).mp q⟩, fun q => (poss_num hV).mpr q.2⟩ z)⟩) I _ _ dX1_possible_26
  · refine xi_ic (pc := 9) F.1 dX1_possible_9 ?_
    exact hret 0 u _ _ (by omega) (⟨hR, fun _ _ => rfl, Or.inr ⟨rfl, fun z => by omega⟩⟩) I _ _ dX1_possible_10
set_option maxHeartbeats 4000000 in
/-- alwaysSome -/
theorem cM_alwaysSome (l : Launch) (D : va_G) (a : xAd) (u : xSt) (g : xG) (hV : Val g) (hG : RelM g u.1) (hR : Rng u.1) : MMi l D a yX1_alwaysSome cX1_alwaysSome 1 (some .boolean) ({ frames := 5, cells := 0, slots := 0, locals := 119 } : Room) [] u (fun r u2 => Rng u2.1 ∧ (∀ k, k ≤ 6 → u2.1 k = u.1 k) ∧ i01 r (SomeS g)) := by
  refine enMz (by decide +kernel) rfl (Nat.le_of_ble_eq_true rfl) ?_
  intro p e s m below meth c A Q ls F I hret hl
  have hl : lv_has ls 1 [(0, .ref a.1)] := hl
  refine lv_aload_n (pc := 0) F.1.1 F.1.2.1 dX1_alwaysSome_0 rfl (lv_at hl 0 rfl) ?_
  refine caMv (pc := 1) (As := []) (rest := []) F I (cM_evaluate l D a u g hV hG hR) (lw_V q276 q278 qs16 q25 q279) hdM_evaluate ⟨rfl, rfl⟩ ⟨Nat.le_of_ble_eq_true rfl, Nat.le_of_ble_eq_true rfl⟩ hl.1 rfl (Nat.le_of_ble_eq_true rfl) ⟨Nat.zero_le _, Nat.zero_le _⟩ dX1_alwaysSome_1 (fun u1 H locs hp1 I => ?_)
  obtain ⟨hk, hR, hE⟩ := hp1
  refine lv_aload_n (pc := 4) F.1.1 F.1.2.1 dX1_alwaysSome_4 rfl (lv_at hl 0 rfl) ?_
  refine gM_12 (pc := 5) F I dX1_alwaysSome_5 (fun v2 hv2 => ?_)
  have rv2 : -1 ≤ v2 ∧ v2 ≤ 127 := by rw [hv2]; exact hR 12 0
  exact hret v2 u1 _ _ (by have z := hE.2; omega) (⟨hR, hk, by rw [hv2]; exact i01_iff (some_num hV) hE.2⟩) I _ _ dX1_alwaysSome_8
set_option maxHeartbeats 4000000 in
/-- certainCount -/
theorem cM_certainCount (l : Launch) (D : va_G) (a : xAd) (u : xSt) (g : xG) (hV : Val g) (hG : RelM g u.1) (hR : Rng u.1) : MMi l D a yX1_certainCount cX1_certainCount 3 (some .int) ({ frames := 5, cells := 0, slots := 0, locals := 119 } : Room) [] u (fun r u2 => Rng u2.1 ∧ (∀ k, k ≤ 6 → u2.1 k = u.1 k) ∧ ∃ f : Nat → Bool, (∀ n : Nat, n < 49 → (f n = true ↔ CertS g ((n : Int) / 7) ((n : Int) % 7))) ∧ r = cntB f 49) := by
  refine enMi (by decide +kernel) rfl (Nat.le_of_ble_eq_true rfl) ?_
  intro p e s m below meth c A Q ls F I hret hl
  have hl : lv_has ls 3 [(0, .ref a.1)] := hl
  have loop : ∀ (w : xSt), (∀ k, k ≤ 6 → w.1 k = u.1 k) → Rng w.1 → evM g 343 w.1 → ∀ (n j : Nat) (i q : Int) (H : Heap) (locs : List Loc) (ls : Array Slot), i = j → j + n = 49 → q = cntB (fun n => decide (w.1 10 (n : Int) = 1)) j → IM D a A s H locs w → lv_has ls 3 [(2, .int (iI i)), (1, .int (iI q)), (0, .ref a.1)] → W p l e ({ frames := 5, cells := 0, slots := 0, locals := 119 } : Room) s m (Value.ref a.1 :: []).toArray below meth c H locs 0 0 Q (F0 m 8 ls []) := by
    intro w hk hR hE n
    induction n with
    | zero =>
      intro j i q H locs ls hij hj hq I hl
      have hqr := cntB_r (fun n => decide (w.1 10 (n : Int) = 1)) j
      refine lv_iload_n (pc := 8) F.1.1 F.1.2.1 dX1_certainCount_8 rfl (lv_at hl 0 rfl) ?_
      refine xi_bp (pc := 9) F.1 dX1_certainCount_9 (by decide) ?_
      refine xi_cge (pc := 11) (tgt := 32) F.1 (by omega) dX1_certainCount_11 (by decide) (fun c1 => ?_) (fun c1 => ?_)
      · refine lv_iload_n (pc := 32) F.1.1 F.1.2.1 dX1_certainCount_32 rfl (lv_at hl 1 rfl) ?_
        exact hret q w _ _ (⟨hR, hk, fun n => decide (w.1 10 (n : Int) = 1), fun n hn => by
          have z := (hE.1 (n : Int) (by omega) (by omega)).1
          rw [decide_eq_true_eq, ← cert_num hV]
          rcases z with z | z
          · exact ⟨fun _ => z.2, fun _ => z.1⟩
          · exact ⟨fun q => by omega, fun q => absurd q z.2⟩, by rw [hq, show j = 49 by omega]⟩) I _ _ dX1_certainCount_33
      · exfalso; omega
    | succ n ih =>
      intro j i q H locs ls hij hj hq I hl
      have hc : cntB (fun n => decide (w.1 10 (n : Int) = 1)) (j + 1) = cntB (fun n => decide (w.1 10 (n : Int) = 1)) j + (if decide (w.1 10 (j : Int) = 1) = true then 1 else 0) := rfl
      rw [← hq, ← hij] at hc
      have hqr := cntB_r (fun n => decide (w.1 10 (n : Int) = 1)) j
      have z01 := i01_r (hE.1 i (by omega) (by omega)).1
      refine lv_iload_n (pc := 8) F.1.1 F.1.2.1 dX1_certainCount_8 rfl (lv_at hl 0 rfl) ?_
      refine xi_bp (pc := 9) F.1 dX1_certainCount_9 (by decide) ?_
      refine xi_cge (pc := 11) (tgt := 32) F.1 (by omega) dX1_certainCount_11 (by decide) (fun c1 => ?_) (fun c1 => ?_)
      · exfalso; omega
      · refine lv_aload_n (pc := 14) F.1.1 F.1.2.1 dX1_certainCount_14 rfl (lv_at hl 2 rfl) ?_
        refine gM_10 (pc := 15) F I dX1_certainCount_15 ?_
        refine lv_iload_n (pc := 18) F.1.1 F.1.2.1 dX1_certainCount_18 rfl (lv_at hl 0 rfl) ?_
        refine ldM_10 (pc := 19) F I (by omega) dX1_certainCount_19 (fun v2 hv2 => ?_)
        have rv2 : -1 ≤ v2 ∧ v2 ≤ 127 := by rw [hv2]; exact hR 10 _
        refine xi_zeq (pc := 20) (tgt := 26) F.1 (by omega) dX1_certainCount_20 (by decide) (fun c3 => ?_) (fun c3 => ?_)
        · refine xi_iinc (pc := 26) (lv' := [(2, .int (iI (i + 1))), (1, .int (iI q)), (0, .ref a.1)]) F.1 dX1_certainCount_26 hl (k := 0) rfl (by decide) rfl (fun ls hl => ?_)
          refine lv_goto (pc := 29) (tgt := 8) F.1.1 F.1.2.1 dX1_certainCount_29 (by decide) ?_
          exact ih (j + 1) (i + 1) (q) _ _ ls (by omega) (by omega) (by rw [hc, if_neg (by rw [decide_eq_true_eq]; omega)]; omega) I (lv_sub hl [0, 1, 2] rfl)
        · refine xi_iinc (pc := 23) (lv' := [(1, .int (iI (q + 1))), (2, .int (iI i)), (0, .ref a.1)]) F.1 dX1_certainCount_23 hl (k := 1) rfl (by decide) rfl (fun ls hl => ?_)
          refine xi_iinc (pc := 26) (lv' := [(2, .int (iI (i + 1))), (1, .int (iI (q + 1))), (0, .ref a.1)]) F.1 dX1_certainCount_26 hl (k := 1) rfl (by decide) rfl (fun ls hl => ?_)
          refine lv_goto (pc := 29) (tgt := 8) F.1.1 F.1.2.1 dX1_certainCount_29 (by decide) ?_
          exact ih (j + 1) (i + 1) ((q + 1)) _ _ ls (by omega) (by omega) (by rw [hc, if_pos (by rw [decide_eq_true_eq]; omega)]) I (lv_sub hl [0, 1, 2] rfl)
  refine lv_aload_n (pc := 0) F.1.1 F.1.2.1 dX1_certainCount_0 rfl (lv_at hl 0 rfl) ?_
  refine caMv (pc := 1) (As := []) (rest := []) F I (cM_evaluate l D a u g hV hG hR) (lw_V q276 q278 qs16 q25 q279) hdM_evaluate ⟨rfl, rfl⟩ ⟨Nat.le_of_ble_eq_true rfl, Nat.le_of_ble_eq_true rfl⟩ hl.1 rfl (Nat.le_of_ble_eq_true rfl) ⟨Nat.zero_le _, Nat.zero_le _⟩ dX1_certainCount_1 (fun u1 H locs hp1 I => ?_)
  obtain ⟨hk, hR, hE⟩ := hp1
  refine xi_ic (pc := 4) F.1 dX1_certainCount_4 ?_
  refine lv_istore_n (pc := 5) (lv' := [(1, .int (iI 0)), (0, .ref a.1)]) F.1.1 F.1.2.1 dX1_certainCount_5 rfl hl (by decide) rfl (fun ls hl => ?_)
  refine xi_ic (pc := 6) F.1 dX1_certainCount_6 ?_
  refine lv_istore_n (pc := 7) (lv' := [(2, .int (iI 0)), (1, .int (iI 0)), (0, .ref a.1)]) F.1.1 F.1.2.1 dX1_certainCount_7 rfl hl (by decide) rfl (fun ls hl => ?_)
  exact loop u1 hk hR hE 49 0 0 0 _ _ ls rfl rfl rfl I hl
end
section
set_option maxRecDepth 100000
/-- the numbers of a new object -/
def u00 : xSt := (fun _ _ => 0, 0)
/-- the fields of an object just made -/
abbrev fX0 : List Value := [.null, .null, .null, .int (iI 0), .null, .null, .null, .null, .null, .null, .null, .null, .null, .int (iI 0), .int (iI 0), .int (iI 0), .int (iI 0), .int (iI 0), .long 0, .int (iI 0)]
set_option maxHeartbeats 4000000 in
/-- a new object: its arrays are made; all numbers are 0 -/
theorem cX_init (l : Launch) (D : va_G) (h0 sz : Nat) : Met l yX0_init (ws_ yX0_init cX0_init 1 none) ({ frames := 1, cells := 12, slots := 85, locals := 12 } : Room) (va_Pc [.ref h0] (fun U => U.heap.size = sz ∧ va_P D vwCl [(h0, .inr (0, fX0))] U.heap ∧ va_K D vwCl [] U ∧ va_D (fun _ => True) [(h0, .inr (0, fX0))])) (va_Qv (fun a : xAd => a.1 = h0) (fun a t => BX D a (va_A [(h0, .inr (0, fX0))] sz) u00 t) (va_A [(h0, .inr (0, fX0))] sz)) 12 85 (va_A [(h0, .inr (0, fX0))] sz) := by
  refine Met.ofW (cc := cX0_init) (maxL := 1) (ret := none) (by decide +kernel) rfl ?_
  intro p e s m args below meth c s₁ B hml hv
  obtain ⟨rfl, hsz, hP, hK, hD0⟩ := hv
  have hx := B.exec
  have hb := B.bytes
  have hr := B.returns
  have hts := atoms_spec (ws := ws_ yX0_init cX0_init 1 none) B.pre
  have hts : ∀ w ∈ lw_all, w.before _ s = true := fun w h => hts w (List.mem_cons_of_mem _ h)
  have hown : s.vm.findClass RX0 = some m.cls := findClass_of_methodNamed B.named
  have hlocks := B.notSynchronized
  have hin : meth.name = "<init>" := (name_of_methodNamed B.named B.method).1
  subst hsz
  have hD := hD0.self (sz := s.heap.size)
  generalize hAe : va_A [(h0, .inr (0, fX0))] s.heap.size = A at hD ⊢
  have hA : ∀ q : Nat, s.heap.size ≤ q → A q := fun q h => by rw [← hAe]; exact Or.inr h
  have hS : va_S A s.heap s.heap [] := va_S.rf
  have hl := lv_entry ([.ref h0]) (n := 1) (Nat.le_of_ble_eq_true rfl)
  rw [lg_entry_eq]
  generalize (lg_sl ([.ref h0]) ++ List.replicate (1 - (lg_sl ([.ref h0])).length) Slot.unset).toArray = ls at hl ⊢
  have hl : lv_has ls 1 [(0, .ref h0)] := hl
  refine lv_aload_n hx hb dX0_init_0 rfl (lv_at hl 0 rfl) ?_
  refine W.objInit hx hb hown (hts _ q31) (hts _ q32) (hts _ q33) rfl (by rw [hml]; exact hl.1) rfl dX0_init_1 (Nat.le_of_ble_eq_true rfl) (Nat.le_of_ble_eq_true rfl) ?_
  refine W.eq (g2 := F0 m 4 ls []) rfl ?_
  refine lv_aload_n (pc := 4) hx hb dX0_init_4 rfl (lv_at hl 0 rfl) ?_
  refine lv_iconst (v := iI 2) (pc := 5) hx hb dX0_init_5 rfl ?_
  refine va_newa (atype := .byte) (n := iI 2) (pc := 6) (ty := .byte) (N' := 2) (a0 := (2, .inl (fun _ : Nat => iI 0))) hx hb (hts _ q95) rfl hK hP hD hS hA (fun _ => rfl) (by decide) rfl (by decide) (Nat.le_of_ble_eq_true rfl) (Nat.le_of_ble_eq_true rfl) dX0_init_6 (fun q0_ d0_ H hK hP hD hS => ?_)
  have hK : va_K D vwCl [(d0_, .byte)] s := hK
  have hP : va_P D vwCl [(h0, .inr (0, [.null, .null, .null, .int (iI 0), .null, .null, .null, .null, .null, .null, .null, .null, .null, .int (iI 0), .int (iI 0), .int (iI 0), .int (iI 0), .int (iI 0), .long 0, .int (iI 0)])), (q0_, .inl (d0_, 2, .inl (fun _ : Nat => iI 0)))] H := hP
  have hD : va_D A [(h0, .inr (0, [.null, .null, .null, .int (iI 0), .null, .null, .null, .null, .null, .null, .null, .null, .null, .int (iI 0), .int (iI 0), .int (iI 0), .int (iI 0), .int (iI 0), .long 0, .int (iI 0)])), (q0_, .inl (d0_, 2, .inl (fun _ : Nat => iI 0)))] := hD
  refine W.widen (k := 1) (n := 2) (Nat.le_of_ble_eq_true rfl) (Nat.le_of_ble_eq_true rfl) ?_
  refine va_putF (pc := 8) (D := D) (ci := 0) (v := .ref q0_) (ty := .array .byte) (C := RX0) (T := TX0) (N := 20) hx hb hts in_X0 tyX0 tyX0_ok nmX0 hown hK hP hD hS 0 rfl rfl 0 (by decide) (hts _ q34) (fun _ h9 => h9) rfl hin rfl (by decide +kernel) rfl rfl (Nat.le_of_ble_eq_true rfl) dX0_init_8 (fun H locs hP hD hS => ?_)
  have hP : va_P D vwCl [(h0, .inr (0, [.ref q0_, .null, .null, .int (iI 0), .null, .null, .null, .null, .null, .null, .null, .null, .null, .int (iI 0), .int (iI 0), .int (iI 0), .int (iI 0), .int (iI 0), .long 0, .int (iI 0)])), (q0_, .inl (d0_, 2, .inl (fun _ : Nat => iI 0)))] H := hP
  have hD : va_D A [(h0, .inr (0, [.ref q0_, .null, .null, .int (iI 0), .null, .null, .null, .null, .null, .null, .null, .null, .null, .int (iI 0), .int (iI 0), .int (iI 0), .int (iI 0), .int (iI 0), .long 0, .int (iI 0)])), (q0_, .inl (d0_, 2, .inl (fun _ : Nat => iI 0)))] := hD
  refine lv_aload_n (pc := 11) hx hb dX0_init_11 rfl (lv_at hl 0 rfl) ?_
  refine lv_bipush (v := iI 10) (pc := 12) hx hb dX0_init_12 (iI_i8 (by decide)) ?_
  refine va_newa (atype := .byte) (n := iI 10) (pc := 14) (ty := .byte) (N' := 10) (a0 := (10, .inl (fun _ : Nat => iI 0))) hx hb (hts _ q95) rfl hK hP hD hS hA (fun _ => rfl) (by decide) rfl (by decide) (Nat.le_of_ble_eq_true rfl) (Nat.le_of_ble_eq_true rfl) dX0_init_14 (fun q1_ d1_ H hK hP hD hS => ?_)
  have hK : va_K D vwCl [(d0_, .byte), (d1_, .byte)] s := hK
  have hP : va_P D vwCl [(h0, .inr (0, [.ref q0_, .null, .null, .int (iI 0), .null, .null, .null, .null, .null, .null, .null, .null, .null, .int (iI 0), .int (iI 0), .int (iI 0), .int (iI 0), .int (iI 0), .long 0, .int (iI 0)])), (q0_, .inl (d0_, 2, .inl (fun _ : Nat => iI 0))), (q1_, .inl (d1_, 10, .inl (fun _ : Nat => iI 0)))] H := hP
  have hD : va_D A [(h0, .inr (0, [.ref q0_, .null, .null, .int (iI 0), .null, .null, .null, .null, .null, .null, .null, .null, .null, .int (iI 0), .int (iI 0), .int (iI 0), .int (iI 0), .int (iI 0), .long 0, .int (iI 0)])), (q0_, .inl (d0_, 2, .inl (fun _ : Nat => iI 0))), (q1_, .inl (d1_, 10, .inl (fun _ : Nat => iI 0)))] := hD
  refine W.widen (k := 2) (n := 12) (Nat.le_of_ble_eq_true rfl) (Nat.le_of_ble_eq_true rfl) ?_
  refine va_putF (pc := 16) (D := D) (ci := 0) (v := .ref q1_) (ty := .array .byte) (C := RX0) (T := TX0) (N := 20) hx hb hts in_X0 tyX0 tyX0_ok nmX0 hown hK hP hD hS 0 rfl rfl 1 (by decide) (hts _ q35) (fun _ h9 => h9) rfl hin rfl (by decide +kernel) rfl rfl (Nat.le_of_ble_eq_true rfl) dX0_init_16 (fun H locs hP hD hS => ?_)
  have hP : va_P D vwCl [(h0, .inr (0, [.ref q0_, .ref q1_, .null, .int (iI 0), .null, .null, .null, .null, .null, .null, .null, .null, .null, .int (iI 0), .int (iI 0), .int (iI 0), .int (iI 0), .int (iI 0), .long 0, .int (iI 0)])), (q0_, .inl (d0_, 2, .inl (fun _ : Nat => iI 0))), (q1_, .inl (d1_, 10, .inl (fun _ : Nat => iI 0)))] H := hP
  have hD : va_D A [(h0, .inr (0, [.ref q0_, .ref q1_, .null, .int (iI 0), .null, .null, .null, .null, .null, .null, .null, .null, .null, .int (iI 0), .int (iI 0), .int (iI 0), .int (iI 0), .int (iI 0), .long 0, .int (iI 0)])), (q0_, .inl (d0_, 2, .inl (fun _ : Nat => iI 0))), (q1_, .inl (d1_, 10, .inl (fun _ : Nat => iI 0)))] := hD
  refine lv_aload_n (pc := 19) hx hb dX0_init_19 rfl (lv_at hl 0 rfl) ?_
  refine lv_bipush (v := iI 10) (pc := 20) hx hb dX0_init_20 (iI_i8 (by decide)) ?_
  refine va_newa (atype := .byte) (n := iI 10) (pc := 22) (ty := .byte) (N' := 10) (a0 := (10, .inl (fun _ : Nat => iI 0))) hx hb (hts _ q95) rfl hK hP hD hS hA (fun _ => rfl) (by decide) rfl (by decide) (Nat.le_of_ble_eq_true rfl) (Nat.le_of_ble_eq_true rfl) dX0_init_22 (fun q2_ d2_ H hK hP hD hS => ?_)
  have hK : va_K D vwCl [(d0_, .byte), (d1_, .byte), (d2_, .byte)] s := hK
  have hP : va_P D vwCl [(h0, .inr (0, [.ref q0_, .ref q1_, .null, .int (iI 0), .null, .null, .null, .null, .null, .null, .null, .null, .null, .int (iI 0), .int (iI 0), .int (iI 0), .int (iI 0), .int (iI 0), .long 0, .int (iI 0)])), (q0_, .inl (d0_, 2, .inl (fun _ : Nat => iI 0))), (q1_, .inl (d1_, 10, .inl (fun _ : Nat => iI 0))), (q2_, .inl (d2_, 10, .inl (fun _ : Nat => iI 0)))] H := hP
  have hD : va_D A [(h0, .inr (0, [.ref q0_, .ref q1_, .null, .int (iI 0), .null, .null, .null, .null, .null, .null, .null, .null, .null, .int (iI 0), .int (iI 0), .int (iI 0), .int (iI 0), .int (iI 0), .long 0, .int (iI 0)])), (q0_, .inl (d0_, 2, .inl (fun _ : Nat => iI 0))), (q1_, .inl (d1_, 10, .inl (fun _ : Nat => iI 0))), (q2_, .inl (d2_, 10, .inl (fun _ : Nat => iI 0)))] := hD
  refine W.widen (k := 3) (n := 22) (Nat.le_of_ble_eq_true rfl) (Nat.le_of_ble_eq_true rfl) ?_
  refine va_putF (pc := 24) (D := D) (ci := 0) (v := .ref q2_) (ty := .array .byte) (C := RX0) (T := TX0) (N := 20) hx hb hts in_X0 tyX0 tyX0_ok nmX0 hown hK hP hD hS 0 rfl rfl 2 (by decide) (hts _ q36) (fun _ h9 => h9) rfl hin rfl (by decide +kernel) rfl rfl (Nat.le_of_ble_eq_true rfl) dX0_init_24 (fun H locs hP hD hS => ?_)
  have hP : va_P D vwCl [(h0, .inr (0, [.ref q0_, .ref q1_, .ref q2_, .int (iI 0), .null, .null, .null, .null, .null, .null, .null, .null, .null, .int (iI 0), .int (iI 0), .int (iI 0), .int (iI 0), .int (iI 0), .long 0, .int (iI 0)])), (q0_, .inl (d0_, 2, .inl (fun _ : Nat => iI 0))), (q1_, .inl (d1_, 10, .inl (fun _ : Nat => iI 0))), (q2_, .inl (d2_, 10, .inl (fun _ : Nat => iI 0)))] H := hP
  have hD : va_D A [(h0, .inr (0, [.ref q0_, .ref q1_, .ref q2_, .int (iI 0), .null, .null, .null, .null, .null, .null, .null, .null, .null, .int (iI 0), .int (iI 0), .int (iI 0), .int (iI 0), .int (iI 0), .long 0, .int (iI 0)])), (q0_, .inl (d0_, 2, .inl (fun _ : Nat => iI 0))), (q1_, .inl (d1_, 10, .inl (fun _ : Nat => iI 0))), (q2_, .inl (d2_, 10, .inl (fun _ : Nat => iI 0)))] := hD
  refine lv_aload_n (pc := 27) hx hb dX0_init_27 rfl (lv_at hl 0 rfl) ?_
  refine lv_iconst (v := iI 2) (pc := 28) hx hb dX0_init_28 rfl ?_
  refine va_newa (atype := .byte) (n := iI 2) (pc := 29) (ty := .byte) (N' := 2) (a0 := (2, .inl (fun _ : Nat => iI 0))) hx hb (hts _ q95) rfl hK hP hD hS hA (fun _ => rfl) (by decide) rfl (by decide) (Nat.le_of_ble_eq_true rfl) (Nat.le_of_ble_eq_true rfl) dX0_init_29 (fun q4_ d4_ H hK hP hD hS => ?_)
  have hK : va_K D vwCl [(d0_, .byte), (d1_, .byte), (d2_, .byte), (d4_, .byte)] s := hK
  have hP : va_P D vwCl [(h0, .inr (0, [.ref q0_, .ref q1_, .ref q2_, .int (iI 0), .null, .null, .null, .null, .null, .null, .null, .null, .null, .int (iI 0), .int (iI 0), .int (iI 0), .int (iI 0), .int (iI 0), .long 0, .int (iI 0)])), (q0_, .inl (d0_, 2, .inl (fun _ : Nat => iI 0))), (q1_, .inl (d1_, 10, .inl (fun _ : Nat => iI 0))), (q2_, .inl (d2_, 10, .inl (fun _ : Nat => iI 0))), (q4_, .inl (d4_, 2, .inl (fun _ : Nat => iI 0)))] H := hP
  have hD : va_D A [(h0, .inr (0, [.ref q0_, .ref q1_, .ref q2_, .int (iI 0), .null, .null, .null, .null, .null, .null, .null, .null, .null, .int (iI 0), .int (iI 0), .int (iI 0), .int (iI 0), .int (iI 0), .long 0, .int (iI 0)])), (q0_, .inl (d0_, 2, .inl (fun _ : Nat => iI 0))), (q1_, .inl (d1_, 10, .inl (fun _ : Nat => iI 0))), (q2_, .inl (d2_, 10, .inl (fun _ : Nat => iI 0))), (q4_, .inl (d4_, 2, .inl (fun _ : Nat => iI 0)))] := hD
  refine W.widen (k := 4) (n := 24) (Nat.le_of_ble_eq_true rfl) (Nat.le_of_ble_eq_true rfl) ?_
  refine va_putF (pc := 31) (D := D) (ci := 0) (v := .ref q4_) (ty := .array .byte) (C := RX0) (T := TX0) (N := 20) hx hb hts in_X0 tyX0 tyX0_ok nmX0 hown hK hP hD hS 0 rfl rfl 4 (by decide) (hts _ q38) (fun _ h9 => h9) rfl hin rfl (by decide +kernel) rfl rfl (Nat.le_of_ble_eq_true rfl) dX0_init_31 (fun H locs hP hD hS => ?_)
  have hP : va_P D vwCl [(h0, .inr (0, [.ref q0_, .ref q1_, .ref q2_, .int (iI 0), .ref q4_, .null, .null, .null, .null, .null, .null, .null, .null, .int (iI 0), .int (iI 0), .int (iI 0), .int (iI 0), .int (iI 0), .long 0, .int (iI 0)])), (q0_, .inl (d0_, 2, .inl (fun _ : Nat => iI 0))), (q1_, .inl (d1_, 10, .inl (fun _ : Nat => iI 0))), (q2_, .inl (d2_, 10, .inl (fun _ : Nat => iI 0))), (q4_, .inl (d4_, 2, .inl (fun _ : Nat => iI 0)))] H := hP
  have hD : va_D A [(h0, .inr (0, [.ref q0_, .ref q1_, .ref q2_, .int (iI 0), .ref q4_, .null, .null, .null, .null, .null, .null, .null, .null, .int (iI 0), .int (iI 0), .int (iI 0), .int (iI 0), .int (iI 0), .long 0, .int (iI 0)])), (q0_, .inl (d0_, 2, .inl (fun _ : Nat => iI 0))), (q1_, .inl (d1_, 10, .inl (fun _ : Nat => iI 0))), (q2_, .inl (d2_, 10, .inl (fun _ : Nat => iI 0))), (q4_, .inl (d4_, 2, .inl (fun _ : Nat => iI 0)))] := hD
  refine lv_aload_n (pc := 34) hx hb dX0_init_34 rfl (lv_at hl 0 rfl) ?_
  refine lv_iconst (v := iI 2) (pc := 35) hx hb dX0_init_35 rfl ?_
  refine va_newa (atype := .byte) (n := iI 2) (pc := 36) (ty := .byte) (N' := 2) (a0 := (2, .inl (fun _ : Nat => iI 0))) hx hb (hts _ q95) rfl hK hP hD hS hA (fun _ => rfl) (by decide) rfl (by decide) (Nat.le_of_ble_eq_true rfl) (Nat.le_of_ble_eq_true rfl) dX0_init_36 (fun q5_ d5_ H hK hP hD hS => ?_)
  have hK : va_K D vwCl [(d0_, .byte), (d1_, .byte), (d2_, .byte), (d4_, .byte), (d5_, .byte)] s := hK
  have hP : va_P D vwCl [(h0, .inr (0, [.ref q0_, .ref q1_, .ref q2_, .int (iI 0), .ref q4_, .null, .null, .null, .null, .null, .null, .null, .null, .int (iI 0), .int (iI 0), .int (iI 0), .int (iI 0), .int (iI 0), .long 0, .int (iI 0)])), (q0_, .inl (d0_, 2, .inl (fun _ : Nat => iI 0))), (q1_, .inl (d1_, 10, .inl (fun _ : Nat => iI 0))), (q2_, .inl (d2_, 10, .inl (fun _ : Nat => iI 0))), (q4_, .inl (d4_, 2, .inl (fun _ : Nat => iI 0))), (q5_, .inl (d5_, 2, .inl (fun _ : Nat => iI 0)))] H := hP
  have hD : va_D A [(h0, .inr (0, [.ref q0_, .ref q1_, .ref q2_, .int (iI 0), .ref q4_, .null, .null, .null, .null, .null, .null, .null, .null, .int (iI 0), .int (iI 0), .int (iI 0), .int (iI 0), .int (iI 0), .long 0, .int (iI 0)])), (q0_, .inl (d0_, 2, .inl (fun _ : Nat => iI 0))), (q1_, .inl (d1_, 10, .inl (fun _ : Nat => iI 0))), (q2_, .inl (d2_, 10, .inl (fun _ : Nat => iI 0))), (q4_, .inl (d4_, 2, .inl (fun _ : Nat => iI 0))), (q5_, .inl (d5_, 2, .inl (fun _ : Nat => iI 0)))] := hD
  refine W.widen (k := 5) (n := 26) (Nat.le_of_ble_eq_true rfl) (Nat.le_of_ble_eq_true rfl) ?_
  refine va_putF (pc := 38) (D := D) (ci := 0) (v := .ref q5_) (ty := .array .byte) (C := RX0) (T := TX0) (N := 20) hx hb hts in_X0 tyX0 tyX0_ok nmX0 hown hK hP hD hS 0 rfl rfl 5 (by decide) (hts _ q39) (fun _ h9 => h9) rfl hin rfl (by decide +kernel) rfl rfl (Nat.le_of_ble_eq_true rfl) dX0_init_38 (fun H locs hP hD hS => ?_)
  have hP : va_P D vwCl [(h0, .inr (0, [.ref q0_, .ref q1_, .ref q2_, .int (iI 0), .ref q4_, .ref q5_, .null, .null, .null, .null, .null, .null, .null, .int (iI 0), .int (iI 0), .int (iI 0), .int (iI 0), .int (iI 0), .long 0, .int (iI 0)])), (q0_, .inl (d0_, 2, .inl (fun _ : Nat => iI 0))), (q1_, .inl (d1_, 10, .inl (fun _ : Nat => iI 0))), (q2_, .inl (d2_, 10, .inl (fun _ : Nat => iI 0))), (q4_, .inl (d4_, 2, .inl (fun _ : Nat => iI 0))), (q5_, .inl (d5_, 2, .inl (fun _ : Nat => iI 0)))] H := hP
  have hD : va_D A [(h0, .inr (0, [.ref q0_, .ref q1_, .ref q2_, .int (iI 0), .ref q4_, .ref q5_, .null, .null, .null, .null, .null, .null, .null, .int (iI 0), .int (iI 0), .int (iI 0), .int (iI 0), .int (iI 0), .long 0, .int (iI 0)])), (q0_, .inl (d0_, 2, .inl (fun _ : Nat => iI 0))), (q1_, .inl (d1_, 10, .inl (fun _ : Nat => iI 0))), (q2_, .inl (d2_, 10, .inl (fun _ : Nat => iI 0))), (q4_, .inl (d4_, 2, .inl (fun _ : Nat => iI 0))), (q5_, .inl (d5_, 2, .inl (fun _ : Nat => iI 0)))] := hD
  refine lv_aload_n (pc := 41) hx hb dX0_init_41 rfl (lv_at hl 0 rfl) ?_
  refine lv_iconst (v := iI 2) (pc := 42) hx hb dX0_init_42 rfl ?_
  refine va_newa (atype := .byte) (n := iI 2) (pc := 43) (ty := .byte) (N' := 2) (a0 := (2, .inl (fun _ : Nat => iI 0))) hx hb (hts _ q95) rfl hK hP hD hS hA (fun _ => rfl) (by decide) rfl (by decide) (Nat.le_of_ble_eq_true rfl) (Nat.le_of_ble_eq_true rfl) dX0_init_43 (fun q6_ d6_ H hK hP hD hS => ?_)
  have hK : va_K D vwCl [(d0_, .byte), (d1_, .byte), (d2_, .byte), (d4_, .byte), (d5_, .byte), (d6_, .byte)] s := hK
  have hP : va_P D vwCl [(h0, .inr (0, [.ref q0_, .ref q1_, .ref q2_, .int (iI 0), .ref q4_, .ref q5_, .null, .null, .null, .null, .null, .null, .null, .int (iI 0), .int (iI 0), .int (iI 0), .int (iI 0), .int (iI 0), .long 0, .int (iI 0)])), (q0_, .inl (d0_, 2, .inl (fun _ : Nat => iI 0))), (q1_, .inl (d1_, 10, .inl (fun _ : Nat => iI 0))), (q2_, .inl (d2_, 10, .inl (fun _ : Nat => iI 0))), (q4_, .inl (d4_, 2, .inl (fun _ : Nat => iI 0))), (q5_, .inl (d5_, 2, .inl (fun _ : Nat => iI 0))), (q6_, .inl (d6_, 2, .inl (fun _ : Nat => iI 0)))] H := hP
  have hD : va_D A [(h0, .inr (0, [.ref q0_, .ref q1_, .ref q2_, .int (iI 0), .ref q4_, .ref q5_, .null, .null, .null, .null, .null, .null, .null, .int (iI 0), .int (iI 0), .int (iI 0), .int (iI 0), .int (iI 0), .long 0, .int (iI 0)])), (q0_, .inl (d0_, 2, .inl (fun _ : Nat => iI 0))), (q1_, .inl (d1_, 10, .inl (fun _ : Nat => iI 0))), (q2_, .inl (d2_, 10, .inl (fun _ : Nat => iI 0))), (q4_, .inl (d4_, 2, .inl (fun _ : Nat => iI 0))), (q5_, .inl (d5_, 2, .inl (fun _ : Nat => iI 0))), (q6_, .inl (d6_, 2, .inl (fun _ : Nat => iI 0)))] := hD
  refine W.widen (k := 6) (n := 28) (Nat.le_of_ble_eq_true rfl) (Nat.le_of_ble_eq_true rfl) ?_
  refine va_putF (pc := 45) (D := D) (ci := 0) (v := .ref q6_) (ty := .array .byte) (C := RX0) (T := TX0) (N := 20) hx hb hts in_X0 tyX0 tyX0_ok nmX0 hown hK hP hD hS 0 rfl rfl 6 (by decide) (hts _ q40) (fun _ h9 => h9) rfl hin rfl (by decide +kernel) rfl rfl (Nat.le_of_ble_eq_true rfl) dX0_init_45 (fun H locs hP hD hS => ?_)
  have hP : va_P D vwCl [(h0, .inr (0, [.ref q0_, .ref q1_, .ref q2_, .int (iI 0), .ref q4_, .ref q5_, .ref q6_, .null, .null, .null, .null, .null, .null, .int (iI 0), .int (iI 0), .int (iI 0), .int (iI 0), .int (iI 0), .long 0, .int (iI 0)])), (q0_, .inl (d0_, 2, .inl (fun _ : Nat => iI 0))), (q1_, .inl (d1_, 10, .inl (fun _ : Nat => iI 0))), (q2_, .inl (d2_, 10, .inl (fun _ : Nat => iI 0))), (q4_, .inl (d4_, 2, .inl (fun _ : Nat => iI 0))), (q5_, .inl (d5_, 2, .inl (fun _ : Nat => iI 0))), (q6_, .inl (d6_, 2, .inl (fun _ : Nat => iI 0)))] H := hP
  have hD : va_D A [(h0, .inr (0, [.ref q0_, .ref q1_, .ref q2_, .int (iI 0), .ref q4_, .ref q5_, .ref q6_, .null, .null, .null, .null, .null, .null, .int (iI 0), .int (iI 0), .int (iI 0), .int (iI 0), .int (iI 0), .long 0, .int (iI 0)])), (q0_, .inl (d0_, 2, .inl (fun _ : Nat => iI 0))), (q1_, .inl (d1_, 10, .inl (fun _ : Nat => iI 0))), (q2_, .inl (d2_, 10, .inl (fun _ : Nat => iI 0))), (q4_, .inl (d4_, 2, .inl (fun _ : Nat => iI 0))), (q5_, .inl (d5_, 2, .inl (fun _ : Nat => iI 0))), (q6_, .inl (d6_, 2, .inl (fun _ : Nat => iI 0)))] := hD
  refine lv_aload_n (pc := 48) hx hb dX0_init_48 rfl (lv_at hl 0 rfl) ?_
  refine lv_bipush (v := iI 6) (pc := 49) hx hb dX0_init_49 (iI_i8 (by decide)) ?_
  refine va_newa (atype := .byte) (n := iI 6) (pc := 51) (ty := .byte) (N' := 6) (a0 := (6, .inl (fun _ : Nat => iI 0))) hx hb (hts _ q95) rfl hK hP hD hS hA (fun _ => rfl) (by decide) rfl (by decide) (Nat.le_of_ble_eq_true rfl) (Nat.le_of_ble_eq_true rfl) dX0_init_51 (fun q7_ d7_ H hK hP hD hS => ?_)
  have hK : va_K D vwCl [(d0_, .byte), (d1_, .byte), (d2_, .byte), (d4_, .byte), (d5_, .byte), (d6_, .byte), (d7_, .byte)] s := hK
  have hP : va_P D vwCl [(h0, .inr (0, [.ref q0_, .ref q1_, .ref q2_, .int (iI 0), .ref q4_, .ref q5_, .ref q6_, .null, .null, .null, .null, .null, .null, .int (iI 0), .int (iI 0), .int (iI 0), .int (iI 0), .int (iI 0), .long 0, .int (iI 0)])), (q0_, .inl (d0_, 2, .inl (fun _ : Nat => iI 0))), (q1_, .inl (d1_, 10, .inl (fun _ : Nat => iI 0))), (q2_, .inl (d2_, 10, .inl (fun _ : Nat => iI 0))), (q4_, .inl (d4_, 2, .inl (fun _ : Nat => iI 0))), (q5_, .inl (d5_, 2, .inl (fun _ : Nat => iI 0))), (q6_, .inl (d6_, 2, .inl (fun _ : Nat => iI 0))), (q7_, .inl (d7_, 6, .inl (fun _ : Nat => iI 0)))] H := hP
  have hD : va_D A [(h0, .inr (0, [.ref q0_, .ref q1_, .ref q2_, .int (iI 0), .ref q4_, .ref q5_, .ref q6_, .null, .null, .null, .null, .null, .null, .int (iI 0), .int (iI 0), .int (iI 0), .int (iI 0), .int (iI 0), .long 0, .int (iI 0)])), (q0_, .inl (d0_, 2, .inl (fun _ : Nat => iI 0))), (q1_, .inl (d1_, 10, .inl (fun _ : Nat => iI 0))), (q2_, .inl (d2_, 10, .inl (fun _ : Nat => iI 0))), (q4_, .inl (d4_, 2, .inl (fun _ : Nat => iI 0))), (q5_, .inl (d5_, 2, .inl (fun _ : Nat => iI 0))), (q6_, .inl (d6_, 2, .inl (fun _ : Nat => iI 0))), (q7_, .inl (d7_, 6, .inl (fun _ : Nat => iI 0)))] := hD
  refine W.widen (k := 7) (n := 34) (Nat.le_of_ble_eq_true rfl) (Nat.le_of_ble_eq_true rfl) ?_
  refine va_putF (pc := 53) (D := D) (ci := 0) (v := .ref q7_) (ty := .array .byte) (C := RX0) (T := TX0) (N := 20) hx hb hts in_X0 tyX0 tyX0_ok nmX0 hown hK hP hD hS 0 rfl rfl 7 (by decide) (hts _ q41) (fun _ h9 => h9) rfl hin rfl (by decide +kernel) rfl rfl (Nat.le_of_ble_eq_true rfl) dX0_init_53 (fun H locs hP hD hS => ?_)
  have hP : va_P D vwCl [(h0, .inr (0, [.ref q0_, .ref q1_, .ref q2_, .int (iI 0), .ref q4_, .ref q5_, .ref q6_, .ref q7_, .null, .null, .null, .null, .null, .int (iI 0), .int (iI 0), .int (iI 0), .int (iI 0), .int (iI 0), .long 0, .int (iI 0)])), (q0_, .inl (d0_, 2, .inl (fun _ : Nat => iI 0))), (q1_, .inl (d1_, 10, .inl (fun _ : Nat => iI 0))), (q2_, .inl (d2_, 10, .inl (fun _ : Nat => iI 0))), (q4_, .inl (d4_, 2, .inl (fun _ : Nat => iI 0))), (q5_, .inl (d5_, 2, .inl (fun _ : Nat => iI 0))), (q6_, .inl (d6_, 2, .inl (fun _ : Nat => iI 0))), (q7_, .inl (d7_, 6, .inl (fun _ : Nat => iI 0)))] H := hP
  have hD : va_D A [(h0, .inr (0, [.ref q0_, .ref q1_, .ref q2_, .int (iI 0), .ref q4_, .ref q5_, .ref q6_, .ref q7_, .null, .null, .null, .null, .null, .int (iI 0), .int (iI 0), .int (iI 0), .int (iI 0), .int (iI 0), .long 0, .int (iI 0)])), (q0_, .inl (d0_, 2, .inl (fun _ : Nat => iI 0))), (q1_, .inl (d1_, 10, .inl (fun _ : Nat => iI 0))), (q2_, .inl (d2_, 10, .inl (fun _ : Nat => iI 0))), (q4_, .inl (d4_, 2, .inl (fun _ : Nat => iI 0))), (q5_, .inl (d5_, 2, .inl (fun _ : Nat => iI 0))), (q6_, .inl (d6_, 2, .inl (fun _ : Nat => iI 0))), (q7_, .inl (d7_, 6, .inl (fun _ : Nat => iI 0)))] := hD
  refine lv_aload_n (pc := 56) hx hb dX0_init_56 rfl (lv_at hl 0 rfl) ?_
  refine lv_bipush (v := iI 6) (pc := 57) hx hb dX0_init_57 (iI_i8 (by decide)) ?_
  refine va_newa (atype := .byte) (n := iI 6) (pc := 59) (ty := .byte) (N' := 6) (a0 := (6, .inl (fun _ : Nat => iI 0))) hx hb (hts _ q95) rfl hK hP hD hS hA (fun _ => rfl) (by decide) rfl (by decide) (Nat.le_of_ble_eq_true rfl) (Nat.le_of_ble_eq_true rfl) dX0_init_59 (fun q8_ d8_ H hK hP hD hS => ?_)
  have hK : va_K D vwCl [(d0_, .byte), (d1_, .byte), (d2_, .byte), (d4_, .byte), (d5_, .byte), (d6_, .byte), (d7_, .byte), (d8_, .byte)] s := hK
  have hP : va_P D vwCl [(h0, .inr (0, [.ref q0_, .ref q1_, .ref q2_, .int (iI 0), .ref q4_, .ref q5_, .ref q6_, .ref q7_, .null, .null, .null, .null, .null, .int (iI 0), .int (iI 0), .int (iI 0), .int (iI 0), .int (iI 0), .long 0, .int (iI 0)])), (q0_, .inl (d0_, 2, .inl (fun _ : Nat => iI 0))), (q1_, .inl (d1_, 10, .inl (fun _ : Nat => iI 0))), (q2_, .inl (d2_, 10, .inl (fun _ : Nat => iI 0))), (q4_, .inl (d4_, 2, .inl (fun _ : Nat => iI 0))), (q5_, .inl (d5_, 2, .inl (fun _ : Nat => iI 0))), (q6_, .inl (d6_, 2, .inl (fun _ : Nat => iI 0))), (q7_, .inl (d7_, 6, .inl (fun _ : Nat => iI 0))), (q8_, .inl (d8_, 6, .inl (fun _ : Nat => iI 0)))] H := hP
  have hD : va_D A [(h0, .inr (0, [.ref q0_, .ref q1_, .ref q2_, .int (iI 0), .ref q4_, .ref q5_, .ref q6_, .ref q7_, .null, .null, .null, .null, .null, .int (iI 0), .int (iI 0), .int (iI 0), .int (iI 0), .int (iI 0), .long 0, .int (iI 0)])), (q0_, .inl (d0_, 2, .inl (fun _ : Nat => iI 0))), (q1_, .inl (d1_, 10, .inl (fun _ : Nat => iI 0))), (q2_, .inl (d2_, 10, .inl (fun _ : Nat => iI 0))), (q4_, .inl (d4_, 2, .inl (fun _ : Nat => iI 0))), (q5_, .inl (d5_, 2, .inl (fun _ : Nat => iI 0))), (q6_, .inl (d6_, 2, .inl (fun _ : Nat => iI 0))), (q7_, .inl (d7_, 6, .inl (fun _ : Nat => iI 0))), (q8_, .inl (d8_, 6, .inl (fun _ : Nat => iI 0)))] := hD
  refine W.widen (k := 8) (n := 40) (Nat.le_of_ble_eq_true rfl) (Nat.le_of_ble_eq_true rfl) ?_
  refine va_putF (pc := 61) (D := D) (ci := 0) (v := .ref q8_) (ty := .array .byte) (C := RX0) (T := TX0) (N := 20) hx hb hts in_X0 tyX0 tyX0_ok nmX0 hown hK hP hD hS 0 rfl rfl 8 (by decide) (hts _ q42) (fun _ h9 => h9) rfl hin rfl (by decide +kernel) rfl rfl (Nat.le_of_ble_eq_true rfl) dX0_init_61 (fun H locs hP hD hS => ?_)
  have hP : va_P D vwCl [(h0, .inr (0, [.ref q0_, .ref q1_, .ref q2_, .int (iI 0), .ref q4_, .ref q5_, .ref q6_, .ref q7_, .ref q8_, .null, .null, .null, .null, .int (iI 0), .int (iI 0), .int (iI 0), .int (iI 0), .int (iI 0), .long 0, .int (iI 0)])), (q0_, .inl (d0_, 2, .inl (fun _ : Nat => iI 0))), (q1_, .inl (d1_, 10, .inl (fun _ : Nat => iI 0))), (q2_, .inl (d2_, 10, .inl (fun _ : Nat => iI 0))), (q4_, .inl (d4_, 2, .inl (fun _ : Nat => iI 0))), (q5_, .inl (d5_, 2, .inl (fun _ : Nat => iI 0))), (q6_, .inl (d6_, 2, .inl (fun _ : Nat => iI 0))), (q7_, .inl (d7_, 6, .inl (fun _ : Nat => iI 0))), (q8_, .inl (d8_, 6, .inl (fun _ : Nat => iI 0)))] H := hP
  have hD : va_D A [(h0, .inr (0, [.ref q0_, .ref q1_, .ref q2_, .int (iI 0), .ref q4_, .ref q5_, .ref q6_, .ref q7_, .ref q8_, .null, .null, .null, .null, .int (iI 0), .int (iI 0), .int (iI 0), .int (iI 0), .int (iI 0), .long 0, .int (iI 0)])), (q0_, .inl (d0_, 2, .inl (fun _ : Nat => iI 0))), (q1_, .inl (d1_, 10, .inl (fun _ : Nat => iI 0))), (q2_, .inl (d2_, 10, .inl (fun _ : Nat => iI 0))), (q4_, .inl (d4_, 2, .inl (fun _ : Nat => iI 0))), (q5_, .inl (d5_, 2, .inl (fun _ : Nat => iI 0))), (q6_, .inl (d6_, 2, .inl (fun _ : Nat => iI 0))), (q7_, .inl (d7_, 6, .inl (fun _ : Nat => iI 0))), (q8_, .inl (d8_, 6, .inl (fun _ : Nat => iI 0)))] := hD
  refine lv_aload_n (pc := 64) hx hb dX0_init_64 rfl (lv_at hl 0 rfl) ?_
  refine lv_bipush (v := iI 6) (pc := 65) hx hb dX0_init_65 (iI_i8 (by decide)) ?_
  refine va_newa (atype := .byte) (n := iI 6) (pc := 67) (ty := .byte) (N' := 6) (a0 := (6, .inl (fun _ : Nat => iI 0))) hx hb (hts _ q95) rfl hK hP hD hS hA (fun _ => rfl) (by decide) rfl (by decide) (Nat.le_of_ble_eq_true rfl) (Nat.le_of_ble_eq_true rfl) dX0_init_67 (fun q9_ d9_ H hK hP hD hS => ?_)
  have hK : va_K D vwCl [(d0_, .byte), (d1_, .byte), (d2_, .byte), (d4_, .byte), (d5_, .byte), (d6_, .byte), (d7_, .byte), (d8_, .byte), (d9_, .byte)] s := hK
  have hP : va_P D vwCl [(h0, .inr (0, [.ref q0_, .ref q1_, .ref q2_, .int (iI 0), .ref q4_, .ref q5_, .ref q6_, .ref q7_, .ref q8_, .null, .null, .null, .null, .int (iI 0), .int (iI 0), .int (iI 0), .int (iI 0), .int (iI 0), .long 0, .int (iI 0)])), (q0_, .inl (d0_, 2, .inl (fun _ : Nat => iI 0))), (q1_, .inl (d1_, 10, .inl (fun _ : Nat => iI 0))), (q2_, .inl (d2_, 10, .inl (fun _ : Nat => iI 0))), (q4_, .inl (d4_, 2, .inl (fun _ : Nat => iI 0))), (q5_, .inl (d5_, 2, .inl (fun _ : Nat => iI 0))), (q6_, .inl (d6_, 2, .inl (fun _ : Nat => iI 0))), (q7_, .inl (d7_, 6, .inl (fun _ : Nat => iI 0))), (q8_, .inl (d8_, 6, .inl (fun _ : Nat => iI 0))), (q9_, .inl (d9_, 6, .inl (fun _ : Nat => iI 0)))] H := hP
  have hD : va_D A [(h0, .inr (0, [.ref q0_, .ref q1_, .ref q2_, .int (iI 0), .ref q4_, .ref q5_, .ref q6_, .ref q7_, .ref q8_, .null, .null, .null, .null, .int (iI 0), .int (iI 0), .int (iI 0), .int (iI 0), .int (iI 0), .long 0, .int (iI 0)])), (q0_, .inl (d0_, 2, .inl (fun _ : Nat => iI 0))), (q1_, .inl (d1_, 10, .inl (fun _ : Nat => iI 0))), (q2_, .inl (d2_, 10, .inl (fun _ : Nat => iI 0))), (q4_, .inl (d4_, 2, .inl (fun _ : Nat => iI 0))), (q5_, .inl (d5_, 2, .inl (fun _ : Nat => iI 0))), (q6_, .inl (d6_, 2, .inl (fun _ : Nat => iI 0))), (q7_, .inl (d7_, 6, .inl (fun _ : Nat => iI 0))), (q8_, .inl (d8_, 6, .inl (fun _ : Nat => iI 0))), (q9_, .inl (d9_, 6, .inl (fun _ : Nat => iI 0)))] := hD
  refine W.widen (k := 9) (n := 46) (Nat.le_of_ble_eq_true rfl) (Nat.le_of_ble_eq_true rfl) ?_
  refine va_putF (pc := 69) (D := D) (ci := 0) (v := .ref q9_) (ty := .array .byte) (C := RX0) (T := TX0) (N := 20) hx hb hts in_X0 tyX0 tyX0_ok nmX0 hown hK hP hD hS 0 rfl rfl 9 (by decide) (hts _ q43) (fun _ h9 => h9) rfl hin rfl (by decide +kernel) rfl rfl (Nat.le_of_ble_eq_true rfl) dX0_init_69 (fun H locs hP hD hS => ?_)
  have hP : va_P D vwCl [(h0, .inr (0, [.ref q0_, .ref q1_, .ref q2_, .int (iI 0), .ref q4_, .ref q5_, .ref q6_, .ref q7_, .ref q8_, .ref q9_, .null, .null, .null, .int (iI 0), .int (iI 0), .int (iI 0), .int (iI 0), .int (iI 0), .long 0, .int (iI 0)])), (q0_, .inl (d0_, 2, .inl (fun _ : Nat => iI 0))), (q1_, .inl (d1_, 10, .inl (fun _ : Nat => iI 0))), (q2_, .inl (d2_, 10, .inl (fun _ : Nat => iI 0))), (q4_, .inl (d4_, 2, .inl (fun _ : Nat => iI 0))), (q5_, .inl (d5_, 2, .inl (fun _ : Nat => iI 0))), (q6_, .inl (d6_, 2, .inl (fun _ : Nat => iI 0))), (q7_, .inl (d7_, 6, .inl (fun _ : Nat => iI 0))), (q8_, .inl (d8_, 6, .inl (fun _ : Nat => iI 0))), (q9_, .inl (d9_, 6, .inl (fun _ : Nat => iI 0)))] H := hP
  have hD : va_D A [(h0, .inr (0, [.ref q0_, .ref q1_, .ref q2_, .int (iI 0), .ref q4_, .ref q5_, .ref q6_, .ref q7_, .ref q8_, .ref q9_, .null, .null, .null, .int (iI 0), .int (iI 0), .int (iI 0), .int (iI 0), .int (iI 0), .long 0, .int (iI 0)])), (q0_, .inl (d0_, 2, .inl (fun _ : Nat => iI 0))), (q1_, .inl (d1_, 10, .inl (fun _ : Nat => iI 0))), (q2_, .inl (d2_, 10, .inl (fun _ : Nat => iI 0))), (q4_, .inl (d4_, 2, .inl (fun _ : Nat => iI 0))), (q5_, .inl (d5_, 2, .inl (fun _ : Nat => iI 0))), (q6_, .inl (d6_, 2, .inl (fun _ : Nat => iI 0))), (q7_, .inl (d7_, 6, .inl (fun _ : Nat => iI 0))), (q8_, .inl (d8_, 6, .inl (fun _ : Nat => iI 0))), (q9_, .inl (d9_, 6, .inl (fun _ : Nat => iI 0)))] := hD
  refine lv_aload_n (pc := 72) hx hb dX0_init_72 rfl (lv_at hl 0 rfl) ?_
  refine lv_bipush (v := iI 7) (pc := 73) hx hb dX0_init_73 (iI_i8 (by decide)) ?_
  refine va_newa (atype := .byte) (n := iI 7) (pc := 75) (ty := .byte) (N' := 7) (a0 := (7, .inl (fun _ : Nat => iI 0))) hx hb (hts _ q95) rfl hK hP hD hS hA (fun _ => rfl) (by decide) rfl (by decide) (Nat.le_of_ble_eq_true rfl) (Nat.le_of_ble_eq_true rfl) dX0_init_75 (fun q10_ d10_ H hK hP hD hS => ?_)
  have hK : va_K D vwCl [(d0_, .byte), (d1_, .byte), (d2_, .byte), (d4_, .byte), (d5_, .byte), (d6_, .byte), (d7_, .byte), (d8_, .byte), (d9_, .byte), (d10_, .byte)] s := hK
  have hP : va_P D vwCl [(h0, .inr (0, [.ref q0_, .ref q1_, .ref q2_, .int (iI 0), .ref q4_, .ref q5_, .ref q6_, .ref q7_, .ref q8_, .ref q9_, .null, .null, .null, .int (iI 0), .int (iI 0), .int (iI 0), .int (iI 0), .int (iI 0), .long 0, .int (iI 0)])), (q0_, .inl (d0_, 2, .inl (fun _ : Nat => iI 0))), (q1_, .inl (d1_, 10, .inl (fun _ : Nat => iI 0))), (q2_, .inl (d2_, 10, .inl (fun _ : Nat => iI 0))), (q4_, .inl (d4_, 2, .inl (fun _ : Nat => iI 0))), (q5_, .inl (d5_, 2, .inl (fun _ : Nat => iI 0))), (q6_, .inl (d6_, 2, .inl (fun _ : Nat => iI 0))), (q7_, .inl (d7_, 6, .inl (fun _ : Nat => iI 0))), (q8_, .inl (d8_, 6, .inl (fun _ : Nat => iI 0))), (q9_, .inl (d9_, 6, .inl (fun _ : Nat => iI 0))), (q10_, .inl (d10_, 7, .inl (fun _ : Nat => iI 0)))] H := hP
  have hD : va_D A [(h0, .inr (0, [.ref q0_, .ref q1_, .ref q2_, .int (iI 0), .ref q4_, .ref q5_, .ref q6_, .ref q7_, .ref q8_, .ref q9_, .null, .null, .null, .int (iI 0), .int (iI 0), .int (iI 0), .int (iI 0), .int (iI 0), .long 0, .int (iI 0)])), (q0_, .inl (d0_, 2, .inl (fun _ : Nat => iI 0))), (q1_, .inl (d1_, 10, .inl (fun _ : Nat => iI 0))), (q2_, .inl (d2_, 10, .inl (fun _ : Nat => iI 0))), (q4_, .inl (d4_, 2, .inl (fun _ : Nat => iI 0))), (q5_, .inl (d5_, 2, .inl (fun _ : Nat => iI 0))), (q6_, .inl (d6_, 2, .inl (fun _ : Nat => iI 0))), (q7_, .inl (d7_, 6, .inl (fun _ : Nat => iI 0))), (q8_, .inl (d8_, 6, .inl (fun _ : Nat => iI 0))), (q9_, .inl (d9_, 6, .inl (fun _ : Nat => iI 0))), (q10_, .inl (d10_, 7, .inl (fun _ : Nat => iI 0)))] := hD
  refine W.widen (k := 10) (n := 53) (Nat.le_of_ble_eq_true rfl) (Nat.le_of_ble_eq_true rfl) ?_
  refine va_putF (pc := 77) (D := D) (ci := 0) (v := .ref q10_) (ty := .array .byte) (C := RX0) (T := TX0) (N := 20) hx hb hts in_X0 tyX0 tyX0_ok nmX0 hown hK hP hD hS 0 rfl rfl 10 (by decide) (hts _ q44) (fun _ h9 => h9) rfl hin rfl (by decide +kernel) rfl rfl (Nat.le_of_ble_eq_true rfl) dX0_init_77 (fun H locs hP hD hS => ?_)
  have hP : va_P D vwCl [(h0, .inr (0, [.ref q0_, .ref q1_, .ref q2_, .int (iI 0), .ref q4_, .ref q5_, .ref q6_, .ref q7_, .ref q8_, .ref q9_, .ref q10_, .null, .null, .int (iI 0), .int (iI 0), .int (iI 0), .int (iI 0), .int (iI 0), .long 0, .int (iI 0)])), (q0_, .inl (d0_, 2, .inl (fun _ : Nat => iI 0))), (q1_, .inl (d1_, 10, .inl (fun _ : Nat => iI 0))), (q2_, .inl (d2_, 10, .inl (fun _ : Nat => iI 0))), (q4_, .inl (d4_, 2, .inl (fun _ : Nat => iI 0))), (q5_, .inl (d5_, 2, .inl (fun _ : Nat => iI 0))), (q6_, .inl (d6_, 2, .inl (fun _ : Nat => iI 0))), (q7_, .inl (d7_, 6, .inl (fun _ : Nat => iI 0))), (q8_, .inl (d8_, 6, .inl (fun _ : Nat => iI 0))), (q9_, .inl (d9_, 6, .inl (fun _ : Nat => iI 0))), (q10_, .inl (d10_, 7, .inl (fun _ : Nat => iI 0)))] H := hP
  have hD : va_D A [(h0, .inr (0, [.ref q0_, .ref q1_, .ref q2_, .int (iI 0), .ref q4_, .ref q5_, .ref q6_, .ref q7_, .ref q8_, .ref q9_, .ref q10_, .null, .null, .int (iI 0), .int (iI 0), .int (iI 0), .int (iI 0), .int (iI 0), .long 0, .int (iI 0)])), (q0_, .inl (d0_, 2, .inl (fun _ : Nat => iI 0))), (q1_, .inl (d1_, 10, .inl (fun _ : Nat => iI 0))), (q2_, .inl (d2_, 10, .inl (fun _ : Nat => iI 0))), (q4_, .inl (d4_, 2, .inl (fun _ : Nat => iI 0))), (q5_, .inl (d5_, 2, .inl (fun _ : Nat => iI 0))), (q6_, .inl (d6_, 2, .inl (fun _ : Nat => iI 0))), (q7_, .inl (d7_, 6, .inl (fun _ : Nat => iI 0))), (q8_, .inl (d8_, 6, .inl (fun _ : Nat => iI 0))), (q9_, .inl (d9_, 6, .inl (fun _ : Nat => iI 0))), (q10_, .inl (d10_, 7, .inl (fun _ : Nat => iI 0)))] := hD
  refine lv_aload_n (pc := 80) hx hb dX0_init_80 rfl (lv_at hl 0 rfl) ?_
  refine lv_iconst (v := iI 4) (pc := 81) hx hb dX0_init_81 rfl ?_
  refine va_newa (atype := .byte) (n := iI 4) (pc := 82) (ty := .byte) (N' := 4) (a0 := (4, .inl (fun _ : Nat => iI 0))) hx hb (hts _ q95) rfl hK hP hD hS hA (fun _ => rfl) (by decide) rfl (by decide) (Nat.le_of_ble_eq_true rfl) (Nat.le_of_ble_eq_true rfl) dX0_init_82 (fun q11_ d11_ H hK hP hD hS => ?_)
  have hK : va_K D vwCl [(d0_, .byte), (d1_, .byte), (d2_, .byte), (d4_, .byte), (d5_, .byte), (d6_, .byte), (d7_, .byte), (d8_, .byte), (d9_, .byte), (d10_, .byte), (d11_, .byte)] s := hK
  have hP : va_P D vwCl [(h0, .inr (0, [.ref q0_, .ref q1_, .ref q2_, .int (iI 0), .ref q4_, .ref q5_, .ref q6_, .ref q7_, .ref q8_, .ref q9_, .ref q10_, .null, .null, .int (iI 0), .int (iI 0), .int (iI 0), .int (iI 0), .int (iI 0), .long 0, .int (iI 0)])), (q0_, .inl (d0_, 2, .inl (fun _ : Nat => iI 0))), (q1_, .inl (d1_, 10, .inl (fun _ : Nat => iI 0))), (q2_, .inl (d2_, 10, .inl (fun _ : Nat => iI 0))), (q4_, .inl (d4_, 2, .inl (fun _ : Nat => iI 0))), (q5_, .inl (d5_, 2, .inl (fun _ : Nat => iI 0))), (q6_, .inl (d6_, 2, .inl (fun _ : Nat => iI 0))), (q7_, .inl (d7_, 6, .inl (fun _ : Nat => iI 0))), (q8_, .inl (d8_, 6, .inl (fun _ : Nat => iI 0))), (q9_, .inl (d9_, 6, .inl (fun _ : Nat => iI 0))), (q10_, .inl (d10_, 7, .inl (fun _ : Nat => iI 0))), (q11_, .inl (d11_, 4, .inl (fun _ : Nat => iI 0)))] H := hP
  have hD : va_D A [(h0, .inr (0, [.ref q0_, .ref q1_, .ref q2_, .int (iI 0), .ref q4_, .ref q5_, .ref q6_, .ref q7_, .ref q8_, .ref q9_, .ref q10_, .null, .null, .int (iI 0), .int (iI 0), .int (iI 0), .int (iI 0), .int (iI 0), .long 0, .int (iI 0)])), (q0_, .inl (d0_, 2, .inl (fun _ : Nat => iI 0))), (q1_, .inl (d1_, 10, .inl (fun _ : Nat => iI 0))), (q2_, .inl (d2_, 10, .inl (fun _ : Nat => iI 0))), (q4_, .inl (d4_, 2, .inl (fun _ : Nat => iI 0))), (q5_, .inl (d5_, 2, .inl (fun _ : Nat => iI 0))), (q6_, .inl (d6_, 2, .inl (fun _ : Nat => iI 0))), (q7_, .inl (d7_, 6, .inl (fun _ : Nat => iI 0))), (q8_, .inl (d8_, 6, .inl (fun _ : Nat => iI 0))), (q9_, .inl (d9_, 6, .inl (fun _ : Nat => iI 0))), (q10_, .inl (d10_, 7, .inl (fun _ : Nat => iI 0))), (q11_, .inl (d11_, 4, .inl (fun _ : Nat => iI 0)))] := hD
  refine W.widen (k := 11) (n := 57) (Nat.le_of_ble_eq_true rfl) (Nat.le_of_ble_eq_true rfl) ?_
  refine va_putF (pc := 84) (D := D) (ci := 0) (v := .ref q11_) (ty := .array .byte) (C := RX0) (T := TX0) (N := 20) hx hb hts in_X0 tyX0 tyX0_ok nmX0 hown hK hP hD hS 0 rfl rfl 11 (by decide) (hts _ q45) (fun _ h9 => h9) rfl hin rfl (by decide +kernel) rfl rfl (Nat.le_of_ble_eq_true rfl) dX0_init_84 (fun H locs hP hD hS => ?_)
  have hP : va_P D vwCl [(h0, .inr (0, [.ref q0_, .ref q1_, .ref q2_, .int (iI 0), .ref q4_, .ref q5_, .ref q6_, .ref q7_, .ref q8_, .ref q9_, .ref q10_, .ref q11_, .null, .int (iI 0), .int (iI 0), .int (iI 0), .int (iI 0), .int (iI 0), .long 0, .int (iI 0)])), (q0_, .inl (d0_, 2, .inl (fun _ : Nat => iI 0))), (q1_, .inl (d1_, 10, .inl (fun _ : Nat => iI 0))), (q2_, .inl (d2_, 10, .inl (fun _ : Nat => iI 0))), (q4_, .inl (d4_, 2, .inl (fun _ : Nat => iI 0))), (q5_, .inl (d5_, 2, .inl (fun _ : Nat => iI 0))), (q6_, .inl (d6_, 2, .inl (fun _ : Nat => iI 0))), (q7_, .inl (d7_, 6, .inl (fun _ : Nat => iI 0))), (q8_, .inl (d8_, 6, .inl (fun _ : Nat => iI 0))), (q9_, .inl (d9_, 6, .inl (fun _ : Nat => iI 0))), (q10_, .inl (d10_, 7, .inl (fun _ : Nat => iI 0))), (q11_, .inl (d11_, 4, .inl (fun _ : Nat => iI 0)))] H := hP
  have hD : va_D A [(h0, .inr (0, [.ref q0_, .ref q1_, .ref q2_, .int (iI 0), .ref q4_, .ref q5_, .ref q6_, .ref q7_, .ref q8_, .ref q9_, .ref q10_, .ref q11_, .null, .int (iI 0), .int (iI 0), .int (iI 0), .int (iI 0), .int (iI 0), .long 0, .int (iI 0)])), (q0_, .inl (d0_, 2, .inl (fun _ : Nat => iI 0))), (q1_, .inl (d1_, 10, .inl (fun _ : Nat => iI 0))), (q2_, .inl (d2_, 10, .inl (fun _ : Nat => iI 0))), (q4_, .inl (d4_, 2, .inl (fun _ : Nat => iI 0))), (q5_, .inl (d5_, 2, .inl (fun _ : Nat => iI 0))), (q6_, .inl (d6_, 2, .inl (fun _ : Nat => iI 0))), (q7_, .inl (d7_, 6, .inl (fun _ : Nat => iI 0))), (q8_, .inl (d8_, 6, .inl (fun _ : Nat => iI 0))), (q9_, .inl (d9_, 6, .inl (fun _ : Nat => iI 0))), (q10_, .inl (d10_, 7, .inl (fun _ : Nat => iI 0))), (q11_, .inl (d11_, 4, .inl (fun _ : Nat => iI 0)))] := hD
  refine lv_aload_n (pc := 87) hx hb dX0_init_87 rfl (lv_at hl 0 rfl) ?_
  refine lv_bipush (v := iI 28) (pc := 88) hx hb dX0_init_88 (iI_i8 (by decide)) ?_
  refine va_newa (atype := .byte) (n := iI 28) (pc := 90) (ty := .byte) (N' := 28) (a0 := (28, .inl (fun _ : Nat => iI 0))) hx hb (hts _ q95) rfl hK hP hD hS hA (fun _ => rfl) (by decide) rfl (by decide) (Nat.le_of_ble_eq_true rfl) (Nat.le_of_ble_eq_true rfl) dX0_init_90 (fun q12_ d12_ H hK hP hD hS => ?_)
  have hK : va_K D vwCl [(d0_, .byte), (d1_, .byte), (d2_, .byte), (d4_, .byte), (d5_, .byte), (d6_, .byte), (d7_, .byte), (d8_, .byte), (d9_, .byte), (d10_, .byte), (d11_, .byte), (d12_, .byte)] s := hK
  have hP : va_P D vwCl [(h0, .inr (0, [.ref q0_, .ref q1_, .ref q2_, .int (iI 0), .ref q4_, .ref q5_, .ref q6_, .ref q7_, .ref q8_, .ref q9_, .ref q10_, .ref q11_, .null, .int (iI 0), .int (iI 0), .int (iI 0), .int (iI 0), .int (iI 0), .long 0, .int (iI 0)])), (q0_, .inl (d0_, 2, .inl (fun _ : Nat => iI 0))), (q1_, .inl (d1_, 10, .inl (fun _ : Nat => iI 0))), (q2_, .inl (d2_, 10, .inl (fun _ : Nat => iI 0))), (q4_, .inl (d4_, 2, .inl (fun _ : Nat => iI 0))), (q5_, .inl (d5_, 2, .inl (fun _ : Nat => iI 0))), (q6_, .inl (d6_, 2, .inl (fun _ : Nat => iI 0))), (q7_, .inl (d7_, 6, .inl (fun _ : Nat => iI 0))), (q8_, .inl (d8_, 6, .inl (fun _ : Nat => iI 0))), (q9_, .inl (d9_, 6, .inl (fun _ : Nat => iI 0))), (q10_, .inl (d10_, 7, .inl (fun _ : Nat => iI 0))), (q11_, .inl (d11_, 4, .inl (fun _ : Nat => iI 0))), (q12_, .inl (d12_, 28, .inl (fun _ : Nat => iI 0)))] H := hP
  have hD : va_D A [(h0, .inr (0, [.ref q0_, .ref q1_, .ref q2_, .int (iI 0), .ref q4_, .ref q5_, .ref q6_, .ref q7_, .ref q8_, .ref q9_, .ref q10_, .ref q11_, .null, .int (iI 0), .int (iI 0), .int (iI 0), .int (iI 0), .int (iI 0), .long 0, .int (iI 0)])), (q0_, .inl (d0_, 2, .inl (fun _ : Nat => iI 0))), (q1_, .inl (d1_, 10, .inl (fun _ : Nat => iI 0))), (q2_, .inl (d2_, 10, .inl (fun _ : Nat => iI 0))), (q4_, .inl (d4_, 2, .inl (fun _ : Nat => iI 0))), (q5_, .inl (d5_, 2, .inl (fun _ : Nat => iI 0))), (q6_, .inl (d6_, 2, .inl (fun _ : Nat => iI 0))), (q7_, .inl (d7_, 6, .inl (fun _ : Nat => iI 0))), (q8_, .inl (d8_, 6, .inl (fun _ : Nat => iI 0))), (q9_, .inl (d9_, 6, .inl (fun _ : Nat => iI 0))), (q10_, .inl (d10_, 7, .inl (fun _ : Nat => iI 0))), (q11_, .inl (d11_, 4, .inl (fun _ : Nat => iI 0))), (q12_, .inl (d12_, 28, .inl (fun _ : Nat => iI 0)))] := hD
  refine W.widen (k := 12) (n := 85) (Nat.le_of_ble_eq_true rfl) (Nat.le_of_ble_eq_true rfl) ?_
  refine va_putF (pc := 92) (D := D) (ci := 0) (v := .ref q12_) (ty := .array .byte) (C := RX0) (T := TX0) (N := 20) hx hb hts in_X0 tyX0 tyX0_ok nmX0 hown hK hP hD hS 0 rfl rfl 12 (by decide) (hts _ q46) (fun _ h9 => h9) rfl hin rfl (by decide +kernel) rfl rfl (Nat.le_of_ble_eq_true rfl) dX0_init_92 (fun H locs hP hD hS => ?_)
  have hP : va_P D vwCl [(h0, .inr (0, [.ref q0_, .ref q1_, .ref q2_, .int (iI 0), .ref q4_, .ref q5_, .ref q6_, .ref q7_, .ref q8_, .ref q9_, .ref q10_, .ref q11_, .ref q12_, .int (iI 0), .int (iI 0), .int (iI 0), .int (iI 0), .int (iI 0), .long 0, .int (iI 0)])), (q0_, .inl (d0_, 2, .inl (fun _ : Nat => iI 0))), (q1_, .inl (d1_, 10, .inl (fun _ : Nat => iI 0))), (q2_, .inl (d2_, 10, .inl (fun _ : Nat => iI 0))), (q4_, .inl (d4_, 2, .inl (fun _ : Nat => iI 0))), (q5_, .inl (d5_, 2, .inl (fun _ : Nat => iI 0))), (q6_, .inl (d6_, 2, .inl (fun _ : Nat => iI 0))), (q7_, .inl (d7_, 6, .inl (fun _ : Nat => iI 0))), (q8_, .inl (d8_, 6, .inl (fun _ : Nat => iI 0))), (q9_, .inl (d9_, 6, .inl (fun _ : Nat => iI 0))), (q10_, .inl (d10_, 7, .inl (fun _ : Nat => iI 0))), (q11_, .inl (d11_, 4, .inl (fun _ : Nat => iI 0))), (q12_, .inl (d12_, 28, .inl (fun _ : Nat => iI 0)))] H := hP
  have hD : va_D A [(h0, .inr (0, [.ref q0_, .ref q1_, .ref q2_, .int (iI 0), .ref q4_, .ref q5_, .ref q6_, .ref q7_, .ref q8_, .ref q9_, .ref q10_, .ref q11_, .ref q12_, .int (iI 0), .int (iI 0), .int (iI 0), .int (iI 0), .int (iI 0), .long 0, .int (iI 0)])), (q0_, .inl (d0_, 2, .inl (fun _ : Nat => iI 0))), (q1_, .inl (d1_, 10, .inl (fun _ : Nat => iI 0))), (q2_, .inl (d2_, 10, .inl (fun _ : Nat => iI 0))), (q4_, .inl (d4_, 2, .inl (fun _ : Nat => iI 0))), (q5_, .inl (d5_, 2, .inl (fun _ : Nat => iI 0))), (q6_, .inl (d6_, 2, .inl (fun _ : Nat => iI 0))), (q7_, .inl (d7_, 6, .inl (fun _ : Nat => iI 0))), (q8_, .inl (d8_, 6, .inl (fun _ : Nat => iI 0))), (q9_, .inl (d9_, 6, .inl (fun _ : Nat => iI 0))), (q10_, .inl (d10_, 7, .inl (fun _ : Nat => iI 0))), (q11_, .inl (d11_, 4, .inl (fun _ : Nat => iI 0))), (q12_, .inl (d12_, 28, .inl (fun _ : Nat => iI 0)))] := hD
  obtain ⟨a, ha⟩ : ∃ a : xAd, a = (h0, fun k => List.getD [q0_, q1_, q2_, 0, q4_, q5_, q6_, q7_, q8_, q9_, q10_, q11_, q12_] k 0, fun k => List.getD [d0_, d1_, d2_, d0_, d4_, d5_, d6_, d7_, d8_, d9_, d10_, d11_, d12_] k d0_) := ⟨_, rfl⟩
  have hP9 : va_P D vwCl (wX a u00) H := by rw [ha]; exact hP
  have hD9 : va_D A (wX a u00) := by rw [ha]; exact hD
  have hK9 : va_K D vwCl (tX a) s := by rw [ha]; exact hK
  exact W.vret hx hb hr (fun t ht hW => ⟨⟨a, rfl, by rw [ha], by rw [ht]; exact hP9, va_K.moved hW.alike hK9, hD9⟩, hS.F ht⟩) hS.2.2 dX0_init_95
/-- the fields of an object just made -/
abbrev fM0 : List Value := [.null, .null, .int (iI 0), .null, .null, .null, .null, .null, .null, .null, .null, .null, .int (iI 0)]
set_option maxHeartbeats 4000000 in
/-- a new object: its arrays are made; all numbers are 0 -/
theorem cM_init (l : Launch) (D : va_G) (h0 sz : Nat) : Met l yX1_init (ws_ yX1_init cX1_init 1 none) ({ frames := 1, cells := 11, slots := 200, locals := 12 } : Room) (va_Pc [.ref h0] (fun U => U.heap.size = sz ∧ va_P D vwCl [(h0, .inr (1, fM0))] U.heap ∧ va_K D vwCl [] U ∧ va_D (fun _ => True) [(h0, .inr (1, fM0))])) (va_Qv (fun a : xAd => a.1 = h0) (fun a t => BM D a (va_A [(h0, .inr (1, fM0))] sz) u00 t) (va_A [(h0, .inr (1, fM0))] sz)) 11 200 (va_A [(h0, .inr (1, fM0))] sz) := by
  refine Met.ofW (cc := cX1_init) (maxL := 1) (ret := none) (by decide +kernel) rfl ?_
  intro p e s m args below meth c s₁ B hml hv
  obtain ⟨rfl, hsz, hP, hK, hD0⟩ := hv
  have hx := B.exec
  have hb := B.bytes
  have hr := B.returns
  have hts := atoms_spec (ws := ws_ yX1_init cX1_init 1 none) B.pre
  have hts : ∀ w ∈ lw_all, w.before _ s = true := fun w h => hts w (List.mem_cons_of_mem _ h)
  have hown : s.vm.findClass RX1 = some m.cls := findClass_of_methodNamed B.named
  have hlocks := B.notSynchronized
  have hin : meth.name = "<init>" := (name_of_methodNamed B.named B.method).1
  subst hsz
  have hD := hD0.self (sz := s.heap.size)
  generalize hAe : va_A [(h0, .inr (1, fM0))] s.heap.size = A at hD ⊢
  have hA : ∀ q : Nat, s.heap.size ≤ q → A q := fun q h => by rw [← hAe]; exact Or.inr h
  have hS : va_S A s.heap s.heap [] := va_S.rf
  have hl := lv_entry ([.ref h0]) (n := 1) (Nat.le_of_ble_eq_true rfl)
  rw [lg_entry_eq]
  generalize (lg_sl ([.ref h0]) ++ List.replicate (1 - (lg_sl ([.ref h0])).length) Slot.unset).toArray = ls at hl ⊢
  have hl : lv_has ls 1 [(0, .ref h0)] := hl
  refine lv_aload_n hx hb dX1_init_0 rfl (lv_at hl 0 rfl) ?_
  refine W.objInit hx hb hown (hts _ q189) (hts _ q32) (hts _ q33) rfl (by rw [hml]; exact hl.1) rfl dX1_init_1 (Nat.le_of_ble_eq_true rfl) (Nat.le_of_ble_eq_true rfl) ?_
  refine W.eq (g2 := F0 m 4 ls []) rfl ?_
  refine lv_aload_n (pc := 4) hx hb dX1_init_4 rfl (lv_at hl 0 rfl) ?_
  refine lv_iconst (v := iI 2) (pc := 5) hx hb dX1_init_5 rfl ?_
  refine va_newa (atype := .int) (n := iI 2) (pc := 6) (ty := .int) (N' := 2) (a0 := (2, .inl (fun _ : Nat => iI 0))) hx hb (hts _ q230) rfl hK hP hD hS hA (fun _ => rfl) (by decide) rfl (by decide) (Nat.le_of_ble_eq_true rfl) (Nat.le_of_ble_eq_true rfl) dX1_init_6 (fun q0_ d0_ H hK hP hD hS => ?_)
  have hK : va_K D vwCl [(d0_, .int)] s := hK
  have hP : va_P D vwCl [(h0, .inr (1, [.null, .null, .int (iI 0), .null, .null, .null, .null, .null, .null, .null, .null, .null, .int (iI 0)])), (q0_, .inl (d0_, 2, .inl (fun _ : Nat => iI 0)))] H := hP
  have hD : va_D A [(h0, .inr (1, [.null, .null, .int (iI 0), .null, .null, .null, .null, .null, .null, .null, .null, .null, .int (iI 0)])), (q0_, .inl (d0_, 2, .inl (fun _ : Nat => iI 0)))] := hD
  refine W.widen (k := 1) (n := 2) (Nat.le_of_ble_eq_true rfl) (Nat.le_of_ble_eq_true rfl) ?_
  refine va_put (pc := 8) (D := D) (ci := 1) (v := .ref q0_) (ty := .array .int) (C := RX1) (T := TX1) (N := 13) hx hb hts in_X1 tyX1 tyX1_ok nmX1 hown hK hP hD hS 0 rfl rfl 0 (by decide) (hts _ q190) (fun _ h9 => h9) rfl (by decide +kernel) rfl rfl (Nat.le_of_ble_eq_true rfl) dX1_init_8 (fun H locs hP hD hS => ?_)
  have hP : va_P D vwCl [(h0, .inr (1, [.ref q0_, .null, .int (iI 0), .null, .null, .null, .null, .null, .null, .null, .null, .null, .int (iI 0)])), (q0_, .inl (d0_, 2, .inl (fun _ : Nat => iI 0)))] H := hP
  have hD : va_D A [(h0, .inr (1, [.ref q0_, .null, .int (iI 0), .null, .null, .null, .null, .null, .null, .null, .null, .null, .int (iI 0)])), (q0_, .inl (d0_, 2, .inl (fun _ : Nat => iI 0)))] := hD
  refine lv_aload_n (pc := 11) hx hb dX1_init_11 rfl (lv_at hl 0 rfl) ?_
  refine lv_bipush (v := iI 20) (pc := 12) hx hb dX1_init_12 (iI_i8 (by decide)) ?_
  refine va_newa (atype := .int) (n := iI 20) (pc := 14) (ty := .int) (N' := 20) (a0 := (20, .inl (fun _ : Nat => iI 0))) hx hb (hts _ q230) rfl hK hP hD hS hA (fun _ => rfl) (by decide) rfl (by decide) (Nat.le_of_ble_eq_true rfl) (Nat.le_of_ble_eq_true rfl) dX1_init_14 (fun q1_ d1_ H hK hP hD hS => ?_)
  have hK : va_K D vwCl [(d0_, .int), (d1_, .int)] s := hK
  have hP : va_P D vwCl [(h0, .inr (1, [.ref q0_, .null, .int (iI 0), .null, .null, .null, .null, .null, .null, .null, .null, .null, .int (iI 0)])), (q0_, .inl (d0_, 2, .inl (fun _ : Nat => iI 0))), (q1_, .inl (d1_, 20, .inl (fun _ : Nat => iI 0)))] H := hP
  have hD : va_D A [(h0, .inr (1, [.ref q0_, .null, .int (iI 0), .null, .null, .null, .null, .null, .null, .null, .null, .null, .int (iI 0)])), (q0_, .inl (d0_, 2, .inl (fun _ : Nat => iI 0))), (q1_, .inl (d1_, 20, .inl (fun _ : Nat => iI 0)))] := hD
  refine W.widen (k := 2) (n := 22) (Nat.le_of_ble_eq_true rfl) (Nat.le_of_ble_eq_true rfl) ?_
  refine va_put (pc := 16) (D := D) (ci := 1) (v := .ref q1_) (ty := .array .int) (C := RX1) (T := TX1) (N := 13) hx hb hts in_X1 tyX1 tyX1_ok nmX1 hown hK hP hD hS 0 rfl rfl 1 (by decide) (hts _ q191) (fun _ h9 => h9) rfl (by decide +kernel) rfl rfl (Nat.le_of_ble_eq_true rfl) dX1_init_16 (fun H locs hP hD hS => ?_)
  have hP : va_P D vwCl [(h0, .inr (1, [.ref q0_, .ref q1_, .int (iI 0), .null, .null, .null, .null, .null, .null, .null, .null, .null, .int (iI 0)])), (q0_, .inl (d0_, 2, .inl (fun _ : Nat => iI 0))), (q1_, .inl (d1_, 20, .inl (fun _ : Nat => iI 0)))] H := hP
  have hD : va_D A [(h0, .inr (1, [.ref q0_, .ref q1_, .int (iI 0), .null, .null, .null, .null, .null, .null, .null, .null, .null, .int (iI 0)])), (q0_, .inl (d0_, 2, .inl (fun _ : Nat => iI 0))), (q1_, .inl (d1_, 20, .inl (fun _ : Nat => iI 0)))] := hD
  refine lv_aload_n (pc := 19) hx hb dX1_init_19 rfl (lv_at hl 0 rfl) ?_
  refine lv_iconst (v := iI 0) (pc := 20) hx hb dX1_init_20 rfl ?_
  refine va_put (pc := 21) (D := D) (ci := 1) (v := .int (iI 0)) (ty := .int) (C := RX1) (T := TX1) (N := 13) hx hb hts in_X1 tyX1 tyX1_ok nmX1 hown hK hP hD hS 0 rfl rfl 2 (by decide) (hts _ q192) (fun _ h9 => h9) rfl (by decide +kernel) (vp_nar_int _) rfl (Nat.le_of_ble_eq_true rfl) dX1_init_21 (fun H locs hP hD hS => ?_)
  have hP : va_P D vwCl [(h0, .inr (1, [.ref q0_, .ref q1_, .int (iI 0), .null, .null, .null, .null, .null, .null, .null, .null, .null, .int (iI 0)])), (q0_, .inl (d0_, 2, .inl (fun _ : Nat => iI 0))), (q1_, .inl (d1_, 20, .inl (fun _ : Nat => iI 0)))] H := hP
  have hD : va_D A [(h0, .inr (1, [.ref q0_, .ref q1_, .int (iI 0), .null, .null, .null, .null, .null, .null, .null, .null, .null, .int (iI 0)])), (q0_, .inl (d0_, 2, .inl (fun _ : Nat => iI 0))), (q1_, .inl (d1_, 20, .inl (fun _ : Nat => iI 0)))] := hD
  refine lv_aload_n (pc := 24) hx hb dX1_init_24 rfl (lv_at hl 0 rfl) ?_
  refine lv_iconst (v := iI 4) (pc := 25) hx hb dX1_init_25 rfl ?_
  refine va_newa (atype := .int) (n := iI 4) (pc := 26) (ty := .int) (N' := 4) (a0 := (4, .inl (fun _ : Nat => iI 0))) hx hb (hts _ q230) rfl hK hP hD hS hA (fun _ => rfl) (by decide) rfl (by decide) (Nat.le_of_ble_eq_true rfl) (Nat.le_of_ble_eq_true rfl) dX1_init_26 (fun q3_ d3_ H hK hP hD hS => ?_)
  have hK : va_K D vwCl [(d0_, .int), (d1_, .int), (d3_, .int)] s := hK
  have hP : va_P D vwCl [(h0, .inr (1, [.ref q0_, .ref q1_, .int (iI 0), .null, .null, .null, .null, .null, .null, .null, .null, .null, .int (iI 0)])), (q0_, .inl (d0_, 2, .inl (fun _ : Nat => iI 0))), (q1_, .inl (d1_, 20, .inl (fun _ : Nat => iI 0))), (q3_, .inl (d3_, 4, .inl (fun _ : Nat => iI 0)))] H := hP
  have hD : va_D A [(h0, .inr (1, [.ref q0_, .ref q1_, .int (iI 0), .null, .null, .null, .null, .null, .null, .null, .null, .null, .int (iI 0)])), (q0_, .inl (d0_, 2, .inl (fun _ : Nat => iI 0))), (q1_, .inl (d1_, 20, .inl (fun _ : Nat => iI 0))), (q3_, .inl (d3_, 4, .inl (fun _ : Nat => iI 0)))] := hD
  refine W.widen (k := 3) (n := 26) (Nat.le_of_ble_eq_true rfl) (Nat.le_of_ble_eq_true rfl) ?_
  refine va_put (pc := 28) (D := D) (ci := 1) (v := .ref q3_) (ty := .array .int) (C := RX1) (T := TX1) (N := 13) hx hb hts in_X1 tyX1 tyX1_ok nmX1 hown hK hP hD hS 0 rfl rfl 3 (by decide) (hts _ q193) (fun _ h9 => h9) rfl (by decide +kernel) rfl rfl (Nat.le_of_ble_eq_true rfl) dX1_init_28 (fun H locs hP hD hS => ?_)
  have hP : va_P D vwCl [(h0, .inr (1, [.ref q0_, .ref q1_, .int (iI 0), .ref q3_, .null, .null, .null, .null, .null, .null, .null, .null, .int (iI 0)])), (q0_, .inl (d0_, 2, .inl (fun _ : Nat => iI 0))), (q1_, .inl (d1_, 20, .inl (fun _ : Nat => iI 0))), (q3_, .inl (d3_, 4, .inl (fun _ : Nat => iI 0)))] H := hP
  have hD : va_D A [(h0, .inr (1, [.ref q0_, .ref q1_, .int (iI 0), .ref q3_, .null, .null, .null, .null, .null, .null, .null, .null, .int (iI 0)])), (q0_, .inl (d0_, 2, .inl (fun _ : Nat => iI 0))), (q1_, .inl (d1_, 20, .inl (fun _ : Nat => iI 0))), (q3_, .inl (d3_, 4, .inl (fun _ : Nat => iI 0)))] := hD
  refine lv_aload_n (pc := 31) hx hb dX1_init_31 rfl (lv_at hl 0 rfl) ?_
  refine lv_iconst (v := iI 2) (pc := 32) hx hb dX1_init_32 rfl ?_
  refine va_newa (atype := .int) (n := iI 2) (pc := 33) (ty := .int) (N' := 2) (a0 := (2, .inl (fun _ : Nat => iI 0))) hx hb (hts _ q230) rfl hK hP hD hS hA (fun _ => rfl) (by decide) rfl (by decide) (Nat.le_of_ble_eq_true rfl) (Nat.le_of_ble_eq_true rfl) dX1_init_33 (fun q4_ d4_ H hK hP hD hS => ?_)
  have hK : va_K D vwCl [(d0_, .int), (d1_, .int), (d3_, .int), (d4_, .int)] s := hK
  have hP : va_P D vwCl [(h0, .inr (1, [.ref q0_, .ref q1_, .int (iI 0), .ref q3_, .null, .null, .null, .null, .null, .null, .null, .null, .int (iI 0)])), (q0_, .inl (d0_, 2, .inl (fun _ : Nat => iI 0))), (q1_, .inl (d1_, 20, .inl (fun _ : Nat => iI 0))), (q3_, .inl (d3_, 4, .inl (fun _ : Nat => iI 0))), (q4_, .inl (d4_, 2, .inl (fun _ : Nat => iI 0)))] H := hP
  have hD : va_D A [(h0, .inr (1, [.ref q0_, .ref q1_, .int (iI 0), .ref q3_, .null, .null, .null, .null, .null, .null, .null, .null, .int (iI 0)])), (q0_, .inl (d0_, 2, .inl (fun _ : Nat => iI 0))), (q1_, .inl (d1_, 20, .inl (fun _ : Nat => iI 0))), (q3_, .inl (d3_, 4, .inl (fun _ : Nat => iI 0))), (q4_, .inl (d4_, 2, .inl (fun _ : Nat => iI 0)))] := hD
  refine W.widen (k := 4) (n := 28) (Nat.le_of_ble_eq_true rfl) (Nat.le_of_ble_eq_true rfl) ?_
  refine va_put (pc := 35) (D := D) (ci := 1) (v := .ref q4_) (ty := .array .int) (C := RX1) (T := TX1) (N := 13) hx hb hts in_X1 tyX1 tyX1_ok nmX1 hown hK hP hD hS 0 rfl rfl 4 (by decide) (hts _ q194) (fun _ h9 => h9) rfl (by decide +kernel) rfl rfl (Nat.le_of_ble_eq_true rfl) dX1_init_35 (fun H locs hP hD hS => ?_)
  have hP : va_P D vwCl [(h0, .inr (1, [.ref q0_, .ref q1_, .int (iI 0), .ref q3_, .ref q4_, .null, .null, .null, .null, .null, .null, .null, .int (iI 0)])), (q0_, .inl (d0_, 2, .inl (fun _ : Nat => iI 0))), (q1_, .inl (d1_, 20, .inl (fun _ : Nat => iI 0))), (q3_, .inl (d3_, 4, .inl (fun _ : Nat => iI 0))), (q4_, .inl (d4_, 2, .inl (fun _ : Nat => iI 0)))] H := hP
  have hD : va_D A [(h0, .inr (1, [.ref q0_, .ref q1_, .int (iI 0), .ref q3_, .ref q4_, .null, .null, .null, .null, .null, .null, .null, .int (iI 0)])), (q0_, .inl (d0_, 2, .inl (fun _ : Nat => iI 0))), (q1_, .inl (d1_, 20, .inl (fun _ : Nat => iI 0))), (q3_, .inl (d3_, 4, .inl (fun _ : Nat => iI 0))), (q4_, .inl (d4_, 2, .inl (fun _ : Nat => iI 0)))] := hD
  refine lv_aload_n (pc := 38) hx hb dX1_init_38 rfl (lv_at hl 0 rfl) ?_
  refine lv_bipush (v := iI 6) (pc := 39) hx hb dX1_init_39 (iI_i8 (by decide)) ?_
  refine va_newa (atype := .int) (n := iI 6) (pc := 41) (ty := .int) (N' := 6) (a0 := (6, .inl (fun _ : Nat => iI 0))) hx hb (hts _ q230) rfl hK hP hD hS hA (fun _ => rfl) (by decide) rfl (by decide) (Nat.le_of_ble_eq_true rfl) (Nat.le_of_ble_eq_true rfl) dX1_init_41 (fun q5_ d5_ H hK hP hD hS => ?_)
  have hK : va_K D vwCl [(d0_, .int), (d1_, .int), (d3_, .int), (d4_, .int), (d5_, .int)] s := hK
  have hP : va_P D vwCl [(h0, .inr (1, [.ref q0_, .ref q1_, .int (iI 0), .ref q3_, .ref q4_, .null, .null, .null, .null, .null, .null, .null, .int (iI 0)])), (q0_, .inl (d0_, 2, .inl (fun _ : Nat => iI 0))), (q1_, .inl (d1_, 20, .inl (fun _ : Nat => iI 0))), (q3_, .inl (d3_, 4, .inl (fun _ : Nat => iI 0))), (q4_, .inl (d4_, 2, .inl (fun _ : Nat => iI 0))), (q5_, .inl (d5_, 6, .inl (fun _ : Nat => iI 0)))] H := hP
  have hD : va_D A [(h0, .inr (1, [.ref q0_, .ref q1_, .int (iI 0), .ref q3_, .ref q4_, .null, .null, .null, .null, .null, .null, .null, .int (iI 0)])), (q0_, .inl (d0_, 2, .inl (fun _ : Nat => iI 0))), (q1_, .inl (d1_, 20, .inl (fun _ : Nat => iI 0))), (q3_, .inl (d3_, 4, .inl (fun _ : Nat => iI 0))), (q4_, .inl (d4_, 2, .inl (fun _ : Nat => iI 0))), (q5_, .inl (d5_, 6, .inl (fun _ : Nat => iI 0)))] := hD
  refine W.widen (k := 5) (n := 34) (Nat.le_of_ble_eq_true rfl) (Nat.le_of_ble_eq_true rfl) ?_
  refine va_put (pc := 43) (D := D) (ci := 1) (v := .ref q5_) (ty := .array .int) (C := RX1) (T := TX1) (N := 13) hx hb hts in_X1 tyX1 tyX1_ok nmX1 hown hK hP hD hS 0 rfl rfl 5 (by decide) (hts _ q195) (fun _ h9 => h9) rfl (by decide +kernel) rfl rfl (Nat.le_of_ble_eq_true rfl) dX1_init_43 (fun H locs hP hD hS => ?_)
  have hP : va_P D vwCl [(h0, .inr (1, [.ref q0_, .ref q1_, .int (iI 0), .ref q3_, .ref q4_, .ref q5_, .null, .null, .null, .null, .null, .null, .int (iI 0)])), (q0_, .inl (d0_, 2, .inl (fun _ : Nat => iI 0))), (q1_, .inl (d1_, 20, .inl (fun _ : Nat => iI 0))), (q3_, .inl (d3_, 4, .inl (fun _ : Nat => iI 0))), (q4_, .inl (d4_, 2, .inl (fun _ : Nat => iI 0))), (q5_, .inl (d5_, 6, .inl (fun _ : Nat => iI 0)))] H := hP
  have hD : va_D A [(h0, .inr (1, [.ref q0_, .ref q1_, .int (iI 0), .ref q3_, .ref q4_, .ref q5_, .null, .null, .null, .null, .null, .null, .int (iI 0)])), (q0_, .inl (d0_, 2, .inl (fun _ : Nat => iI 0))), (q1_, .inl (d1_, 20, .inl (fun _ : Nat => iI 0))), (q3_, .inl (d3_, 4, .inl (fun _ : Nat => iI 0))), (q4_, .inl (d4_, 2, .inl (fun _ : Nat => iI 0))), (q5_, .inl (d5_, 6, .inl (fun _ : Nat => iI 0)))] := hD
  refine lv_aload_n (pc := 46) hx hb dX1_init_46 rfl (lv_at hl 0 rfl) ?_
  refine lv_bipush (v := iI 12) (pc := 47) hx hb dX1_init_47 (iI_i8 (by decide)) ?_
  refine va_newa (atype := .int) (n := iI 12) (pc := 49) (ty := .int) (N' := 12) (a0 := (12, .inl (fun _ : Nat => iI 0))) hx hb (hts _ q230) rfl hK hP hD hS hA (fun _ => rfl) (by decide) rfl (by decide) (Nat.le_of_ble_eq_true rfl) (Nat.le_of_ble_eq_true rfl) dX1_init_49 (fun q6_ d6_ H hK hP hD hS => ?_)
  have hK : va_K D vwCl [(d0_, .int), (d1_, .int), (d3_, .int), (d4_, .int), (d5_, .int), (d6_, .int)] s := hK
  have hP : va_P D vwCl [(h0, .inr (1, [.ref q0_, .ref q1_, .int (iI 0), .ref q3_, .ref q4_, .ref q5_, .null, .null, .null, .null, .null, .null, .int (iI 0)])), (q0_, .inl (d0_, 2, .inl (fun _ : Nat => iI 0))), (q1_, .inl (d1_, 20, .inl (fun _ : Nat => iI 0))), (q3_, .inl (d3_, 4, .inl (fun _ : Nat => iI 0))), (q4_, .inl (d4_, 2, .inl (fun _ : Nat => iI 0))), (q5_, .inl (d5_, 6, .inl (fun _ : Nat => iI 0))), (q6_, .inl (d6_, 12, .inl (fun _ : Nat => iI 0)))] H := hP
  have hD : va_D A [(h0, .inr (1, [.ref q0_, .ref q1_, .int (iI 0), .ref q3_, .ref q4_, .ref q5_, .null, .null, .null, .null, .null, .null, .int (iI 0)])), (q0_, .inl (d0_, 2, .inl (fun _ : Nat => iI 0))), (q1_, .inl (d1_, 20, .inl (fun _ : Nat => iI 0))), (q3_, .inl (d3_, 4, .inl (fun _ : Nat => iI 0))), (q4_, .inl (d4_, 2, .inl (fun _ : Nat => iI 0))), (q5_, .inl (d5_, 6, .inl (fun _ : Nat => iI 0))), (q6_, .inl (d6_, 12, .inl (fun _ : Nat => iI 0)))] := hD
  refine W.widen (k := 6) (n := 46) (Nat.le_of_ble_eq_true rfl) (Nat.le_of_ble_eq_true rfl) ?_
  refine va_put (pc := 51) (D := D) (ci := 1) (v := .ref q6_) (ty := .array .int) (C := RX1) (T := TX1) (N := 13) hx hb hts in_X1 tyX1 tyX1_ok nmX1 hown hK hP hD hS 0 rfl rfl 6 (by decide) (hts _ q196) (fun _ h9 => h9) rfl (by decide +kernel) rfl rfl (Nat.le_of_ble_eq_true rfl) dX1_init_51 (fun H locs hP hD hS => ?_)
  have hP : va_P D vwCl [(h0, .inr (1, [.ref q0_, .ref q1_, .int (iI 0), .ref q3_, .ref q4_, .ref q5_, .ref q6_, .null, .null, .null, .null, .null, .int (iI 0)])), (q0_, .inl (d0_, 2, .inl (fun _ : Nat => iI 0))), (q1_, .inl (d1_, 20, .inl (fun _ : Nat => iI 0))), (q3_, .inl (d3_, 4, .inl (fun _ : Nat => iI 0))), (q4_, .inl (d4_, 2, .inl (fun _ : Nat => iI 0))), (q5_, .inl (d5_, 6, .inl (fun _ : Nat => iI 0))), (q6_, .inl (d6_, 12, .inl (fun _ : Nat => iI 0)))] H := hP
  have hD : va_D A [(h0, .inr (1, [.ref q0_, .ref q1_, .int (iI 0), .ref q3_, .ref q4_, .ref q5_, .ref q6_, .null, .null, .null, .null, .null, .int (iI 0)])), (q0_, .inl (d0_, 2, .inl (fun _ : Nat => iI 0))), (q1_, .inl (d1_, 20, .inl (fun _ : Nat => iI 0))), (q3_, .inl (d3_, 4, .inl (fun _ : Nat => iI 0))), (q4_, .inl (d4_, 2, .inl (fun _ : Nat => iI 0))), (q5_, .inl (d5_, 6, .inl (fun _ : Nat => iI 0))), (q6_, .inl (d6_, 12, .inl (fun _ : Nat => iI 0)))] := hD
  refine lv_aload_n (pc := 54) hx hb dX1_init_54 rfl (lv_at hl 0 rfl) ?_
  refine lv_iconst (v := iI 3) (pc := 55) hx hb dX1_init_55 rfl ?_
  refine va_newa (atype := .int) (n := iI 3) (pc := 56) (ty := .int) (N' := 3) (a0 := (3, .inl (fun _ : Nat => iI 0))) hx hb (hts _ q230) rfl hK hP hD hS hA (fun _ => rfl) (by decide) rfl (by decide) (Nat.le_of_ble_eq_true rfl) (Nat.le_of_ble_eq_true rfl) dX1_init_56 (fun q7_ d7_ H hK hP hD hS => ?_)
  have hK : va_K D vwCl [(d0_, .int), (d1_, .int), (d3_, .int), (d4_, .int), (d5_, .int), (d6_, .int), (d7_, .int)] s := hK
  have hP : va_P D vwCl [(h0, .inr (1, [.ref q0_, .ref q1_, .int (iI 0), .ref q3_, .ref q4_, .ref q5_, .ref q6_, .null, .null, .null, .null, .null, .int (iI 0)])), (q0_, .inl (d0_, 2, .inl (fun _ : Nat => iI 0))), (q1_, .inl (d1_, 20, .inl (fun _ : Nat => iI 0))), (q3_, .inl (d3_, 4, .inl (fun _ : Nat => iI 0))), (q4_, .inl (d4_, 2, .inl (fun _ : Nat => iI 0))), (q5_, .inl (d5_, 6, .inl (fun _ : Nat => iI 0))), (q6_, .inl (d6_, 12, .inl (fun _ : Nat => iI 0))), (q7_, .inl (d7_, 3, .inl (fun _ : Nat => iI 0)))] H := hP
  have hD : va_D A [(h0, .inr (1, [.ref q0_, .ref q1_, .int (iI 0), .ref q3_, .ref q4_, .ref q5_, .ref q6_, .null, .null, .null, .null, .null, .int (iI 0)])), (q0_, .inl (d0_, 2, .inl (fun _ : Nat => iI 0))), (q1_, .inl (d1_, 20, .inl (fun _ : Nat => iI 0))), (q3_, .inl (d3_, 4, .inl (fun _ : Nat => iI 0))), (q4_, .inl (d4_, 2, .inl (fun _ : Nat => iI 0))), (q5_, .inl (d5_, 6, .inl (fun _ : Nat => iI 0))), (q6_, .inl (d6_, 12, .inl (fun _ : Nat => iI 0))), (q7_, .inl (d7_, 3, .inl (fun _ : Nat => iI 0)))] := hD
  refine W.widen (k := 7) (n := 49) (Nat.le_of_ble_eq_true rfl) (Nat.le_of_ble_eq_true rfl) ?_
  refine va_put (pc := 58) (D := D) (ci := 1) (v := .ref q7_) (ty := .array .int) (C := RX1) (T := TX1) (N := 13) hx hb hts in_X1 tyX1 tyX1_ok nmX1 hown hK hP hD hS 0 rfl rfl 7 (by decide) (hts _ q197) (fun _ h9 => h9) rfl (by decide +kernel) rfl rfl (Nat.le_of_ble_eq_true rfl) dX1_init_58 (fun H locs hP hD hS => ?_)
  have hP : va_P D vwCl [(h0, .inr (1, [.ref q0_, .ref q1_, .int (iI 0), .ref q3_, .ref q4_, .ref q5_, .ref q6_, .ref q7_, .null, .null, .null, .null, .int (iI 0)])), (q0_, .inl (d0_, 2, .inl (fun _ : Nat => iI 0))), (q1_, .inl (d1_, 20, .inl (fun _ : Nat => iI 0))), (q3_, .inl (d3_, 4, .inl (fun _ : Nat => iI 0))), (q4_, .inl (d4_, 2, .inl (fun _ : Nat => iI 0))), (q5_, .inl (d5_, 6, .inl (fun _ : Nat => iI 0))), (q6_, .inl (d6_, 12, .inl (fun _ : Nat => iI 0))), (q7_, .inl (d7_, 3, .inl (fun _ : Nat => iI 0)))] H := hP
  have hD : va_D A [(h0, .inr (1, [.ref q0_, .ref q1_, .int (iI 0), .ref q3_, .ref q4_, .ref q5_, .ref q6_, .ref q7_, .null, .null, .null, .null, .int (iI 0)])), (q0_, .inl (d0_, 2, .inl (fun _ : Nat => iI 0))), (q1_, .inl (d1_, 20, .inl (fun _ : Nat => iI 0))), (q3_, .inl (d3_, 4, .inl (fun _ : Nat => iI 0))), (q4_, .inl (d4_, 2, .inl (fun _ : Nat => iI 0))), (q5_, .inl (d5_, 6, .inl (fun _ : Nat => iI 0))), (q6_, .inl (d6_, 12, .inl (fun _ : Nat => iI 0))), (q7_, .inl (d7_, 3, .inl (fun _ : Nat => iI 0)))] := hD
  refine lv_aload_n (pc := 61) hx hb dX1_init_61 rfl (lv_at hl 0 rfl) ?_
  refine lv_iconst (v := iI 4) (pc := 62) hx hb dX1_init_62 rfl ?_
  refine va_newa (atype := .int) (n := iI 4) (pc := 63) (ty := .int) (N' := 4) (a0 := (4, .inl (fun _ : Nat => iI 0))) hx hb (hts _ q230) rfl hK hP hD hS hA (fun _ => rfl) (by decide) rfl (by decide) (Nat.le_of_ble_eq_true rfl) (Nat.le_of_ble_eq_true rfl) dX1_init_63 (fun q8_ d8_ H hK hP hD hS => ?_)
  have hK : va_K D vwCl [(d0_, .int), (d1_, .int), (d3_, .int), (d4_, .int), (d5_, .int), (d6_, .int), (d7_, .int), (d8_, .int)] s := hK
  have hP : va_P D vwCl [(h0, .inr (1, [.ref q0_, .ref q1_, .int (iI 0), .ref q3_, .ref q4_, .ref q5_, .ref q6_, .ref q7_, .null, .null, .null, .null, .int (iI 0)])), (q0_, .inl (d0_, 2, .inl (fun _ : Nat => iI 0))), (q1_, .inl (d1_, 20, .inl (fun _ : Nat => iI 0))), (q3_, .inl (d3_, 4, .inl (fun _ : Nat => iI 0))), (q4_, .inl (d4_, 2, .inl (fun _ : Nat => iI 0))), (q5_, .inl (d5_, 6, .inl (fun _ : Nat => iI 0))), (q6_, .inl (d6_, 12, .inl (fun _ : Nat => iI 0))), (q7_, .inl (d7_, 3, .inl (fun _ : Nat => iI 0))), (q8_, .inl (d8_, 4, .inl (fun _ : Nat => iI 0)))] H := hP
  have hD : va_D A [(h0, .inr (1, [.ref q0_, .ref q1_, .int (iI 0), .ref q3_, .ref q4_, .ref q5_, .ref q6_, .ref q7_, .null, .null, .null, .null, .int (iI 0)])), (q0_, .inl (d0_, 2, .inl (fun _ : Nat => iI 0))), (q1_, .inl (d1_, 20, .inl (fun _ : Nat => iI 0))), (q3_, .inl (d3_, 4, .inl (fun _ : Nat => iI 0))), (q4_, .inl (d4_, 2, .inl (fun _ : Nat => iI 0))), (q5_, .inl (d5_, 6, .inl (fun _ : Nat => iI 0))), (q6_, .inl (d6_, 12, .inl (fun _ : Nat => iI 0))), (q7_, .inl (d7_, 3, .inl (fun _ : Nat => iI 0))), (q8_, .inl (d8_, 4, .inl (fun _ : Nat => iI 0)))] := hD
  refine W.widen (k := 8) (n := 53) (Nat.le_of_ble_eq_true rfl) (Nat.le_of_ble_eq_true rfl) ?_
  refine va_put (pc := 65) (D := D) (ci := 1) (v := .ref q8_) (ty := .array .int) (C := RX1) (T := TX1) (N := 13) hx hb hts in_X1 tyX1 tyX1_ok nmX1 hown hK hP hD hS 0 rfl rfl 8 (by decide) (hts _ q198) (fun _ h9 => h9) rfl (by decide +kernel) rfl rfl (Nat.le_of_ble_eq_true rfl) dX1_init_65 (fun H locs hP hD hS => ?_)
  have hP : va_P D vwCl [(h0, .inr (1, [.ref q0_, .ref q1_, .int (iI 0), .ref q3_, .ref q4_, .ref q5_, .ref q6_, .ref q7_, .ref q8_, .null, .null, .null, .int (iI 0)])), (q0_, .inl (d0_, 2, .inl (fun _ : Nat => iI 0))), (q1_, .inl (d1_, 20, .inl (fun _ : Nat => iI 0))), (q3_, .inl (d3_, 4, .inl (fun _ : Nat => iI 0))), (q4_, .inl (d4_, 2, .inl (fun _ : Nat => iI 0))), (q5_, .inl (d5_, 6, .inl (fun _ : Nat => iI 0))), (q6_, .inl (d6_, 12, .inl (fun _ : Nat => iI 0))), (q7_, .inl (d7_, 3, .inl (fun _ : Nat => iI 0))), (q8_, .inl (d8_, 4, .inl (fun _ : Nat => iI 0)))] H := hP
  have hD : va_D A [(h0, .inr (1, [.ref q0_, .ref q1_, .int (iI 0), .ref q3_, .ref q4_, .ref q5_, .ref q6_, .ref q7_, .ref q8_, .null, .null, .null, .int (iI 0)])), (q0_, .inl (d0_, 2, .inl (fun _ : Nat => iI 0))), (q1_, .inl (d1_, 20, .inl (fun _ : Nat => iI 0))), (q3_, .inl (d3_, 4, .inl (fun _ : Nat => iI 0))), (q4_, .inl (d4_, 2, .inl (fun _ : Nat => iI 0))), (q5_, .inl (d5_, 6, .inl (fun _ : Nat => iI 0))), (q6_, .inl (d6_, 12, .inl (fun _ : Nat => iI 0))), (q7_, .inl (d7_, 3, .inl (fun _ : Nat => iI 0))), (q8_, .inl (d8_, 4, .inl (fun _ : Nat => iI 0)))] := hD
  refine lv_aload_n (pc := 68) hx hb dX1_init_68 rfl (lv_at hl 0 rfl) ?_
  refine lv_bipush (v := iI 49) (pc := 69) hx hb dX1_init_69 (iI_i8 (by decide)) ?_
  refine va_newa (atype := .boolean) (n := iI 49) (pc := 71) (ty := .boolean) (N' := 49) (a0 := (49, .inl (fun _ : Nat => iI 0))) hx hb (hts _ q231) rfl hK hP hD hS hA (fun _ => rfl) (by decide) rfl (by decide) (Nat.le_of_ble_eq_true rfl) (Nat.le_of_ble_eq_true rfl) dX1_init_71 (fun q9_ d9_ H hK hP hD hS => ?_)
  have hK : va_K D vwCl [(d0_, .int), (d1_, .int), (d3_, .int), (d4_, .int), (d5_, .int), (d6_, .int), (d7_, .int), (d8_, .int), (d9_, .boolean)] s := hK
  have hP : va_P D vwCl [(h0, .inr (1, [.ref q0_, .ref q1_, .int (iI 0), .ref q3_, .ref q4_, .ref q5_, .ref q6_, .ref q7_, .ref q8_, .null, .null, .null, .int (iI 0)])), (q0_, .inl (d0_, 2, .inl (fun _ : Nat => iI 0))), (q1_, .inl (d1_, 20, .inl (fun _ : Nat => iI 0))), (q3_, .inl (d3_, 4, .inl (fun _ : Nat => iI 0))), (q4_, .inl (d4_, 2, .inl (fun _ : Nat => iI 0))), (q5_, .inl (d5_, 6, .inl (fun _ : Nat => iI 0))), (q6_, .inl (d6_, 12, .inl (fun _ : Nat => iI 0))), (q7_, .inl (d7_, 3, .inl (fun _ : Nat => iI 0))), (q8_, .inl (d8_, 4, .inl (fun _ : Nat => iI 0))), (q9_, .inl (d9_, 49, .inl (fun _ : Nat => iI 0)))] H := hP
  have hD : va_D A [(h0, .inr (1, [.ref q0_, .ref q1_, .int (iI 0), .ref q3_, .ref q4_, .ref q5_, .ref q6_, .ref q7_, .ref q8_, .null, .null, .null, .int (iI 0)])), (q0_, .inl (d0_, 2, .inl (fun _ : Nat => iI 0))), (q1_, .inl (d1_, 20, .inl (fun _ : Nat => iI 0))), (q3_, .inl (d3_, 4, .inl (fun _ : Nat => iI 0))), (q4_, .inl (d4_, 2, .inl (fun _ : Nat => iI 0))), (q5_, .inl (d5_, 6, .inl (fun _ : Nat => iI 0))), (q6_, .inl (d6_, 12, .inl (fun _ : Nat => iI 0))), (q7_, .inl (d7_, 3, .inl (fun _ : Nat => iI 0))), (q8_, .inl (d8_, 4, .inl (fun _ : Nat => iI 0))), (q9_, .inl (d9_, 49, .inl (fun _ : Nat => iI 0)))] := hD
  refine W.widen (k := 9) (n := 102) (Nat.le_of_ble_eq_true rfl) (Nat.le_of_ble_eq_true rfl) ?_
  refine va_put (pc := 73) (D := D) (ci := 1) (v := .ref q9_) (ty := .array .boolean) (C := RX1) (T := TX1) (N := 13) hx hb hts in_X1 tyX1 tyX1_ok nmX1 hown hK hP hD hS 0 rfl rfl 9 (by decide) (hts _ q199) (fun _ h9 => h9) rfl (by decide +kernel) rfl rfl (Nat.le_of_ble_eq_true rfl) dX1_init_73 (fun H locs hP hD hS => ?_)
  have hP : va_P D vwCl [(h0, .inr (1, [.ref q0_, .ref q1_, .int (iI 0), .ref q3_, .ref q4_, .ref q5_, .ref q6_, .ref q7_, .ref q8_, .ref q9_, .null, .null, .int (iI 0)])), (q0_, .inl (d0_, 2, .inl (fun _ : Nat => iI 0))), (q1_, .inl (d1_, 20, .inl (fun _ : Nat => iI 0))), (q3_, .inl (d3_, 4, .inl (fun _ : Nat => iI 0))), (q4_, .inl (d4_, 2, .inl (fun _ : Nat => iI 0))), (q5_, .inl (d5_, 6, .inl (fun _ : Nat => iI 0))), (q6_, .inl (d6_, 12, .inl (fun _ : Nat => iI 0))), (q7_, .inl (d7_, 3, .inl (fun _ : Nat => iI 0))), (q8_, .inl (d8_, 4, .inl (fun _ : Nat => iI 0))), (q9_, .inl (d9_, 49, .inl (fun _ : Nat => iI 0)))] H := hP
  have hD : va_D A [(h0, .inr (1, [.ref q0_, .ref q1_, .int (iI 0), .ref q3_, .ref q4_, .ref q5_, .ref q6_, .ref q7_, .ref q8_, .ref q9_, .null, .null, .int (iI 0)])), (q0_, .inl (d0_, 2, .inl (fun _ : Nat => iI 0))), (q1_, .inl (d1_, 20, .inl (fun _ : Nat => iI 0))), (q3_, .inl (d3_, 4, .inl (fun _ : Nat => iI 0))), (q4_, .inl (d4_, 2, .inl (fun _ : Nat => iI 0))), (q5_, .inl (d5_, 6, .inl (fun _ : Nat => iI 0))), (q6_, .inl (d6_, 12, .inl (fun _ : Nat => iI 0))), (q7_, .inl (d7_, 3, .inl (fun _ : Nat => iI 0))), (q8_, .inl (d8_, 4, .inl (fun _ : Nat => iI 0))), (q9_, .inl (d9_, 49, .inl (fun _ : Nat => iI 0)))] := hD
  refine lv_aload_n (pc := 76) hx hb dX1_init_76 rfl (lv_at hl 0 rfl) ?_
  refine lv_bipush (v := iI 49) (pc := 77) hx hb dX1_init_77 (iI_i8 (by decide)) ?_
  refine va_newa (atype := .boolean) (n := iI 49) (pc := 79) (ty := .boolean) (N' := 49) (a0 := (49, .inl (fun _ : Nat => iI 0))) hx hb (hts _ q231) rfl hK hP hD hS hA (fun _ => rfl) (by decide) rfl (by decide) (Nat.le_of_ble_eq_true rfl) (Nat.le_of_ble_eq_true rfl) dX1_init_79 (fun q10_ d10_ H hK hP hD hS => ?_)
  have hK : va_K D vwCl [(d0_, .int), (d1_, .int), (d3_, .int), (d4_, .int), (d5_, .int), (d6_, .int), (d7_, .int), (d8_, .int), (d9_, .boolean), (d10_, .boolean)] s := hK
  have hP : va_P D vwCl [(h0, .inr (1, [.ref q0_, .ref q1_, .int (iI 0), .ref q3_, .ref q4_, .ref q5_, .ref q6_, .ref q7_, .ref q8_, .ref q9_, .null, .null, .int (iI 0)])), (q0_, .inl (d0_, 2, .inl (fun _ : Nat => iI 0))), (q1_, .inl (d1_, 20, .inl (fun _ : Nat => iI 0))), (q3_, .inl (d3_, 4, .inl (fun _ : Nat => iI 0))), (q4_, .inl (d4_, 2, .inl (fun _ : Nat => iI 0))), (q5_, .inl (d5_, 6, .inl (fun _ : Nat => iI 0))), (q6_, .inl (d6_, 12, .inl (fun _ : Nat => iI 0))), (q7_, .inl (d7_, 3, .inl (fun _ : Nat => iI 0))), (q8_, .inl (d8_, 4, .inl (fun _ : Nat => iI 0))), (q9_, .inl (d9_, 49, .inl (fun _ : Nat => iI 0))), (q10_, .inl (d10_, 49, .inl (fun _ : Nat => iI 0)))] H := hP
  have hD : va_D A [(h0, .inr (1, [.ref q0_, .ref q1_, .int (iI 0), .ref q3_, .ref q4_, .ref q5_, .ref q6_, .ref q7_, .ref q8_, .ref q9_, .null, .null, .int (iI 0)])), (q0_, .inl (d0_, 2, .inl (fun _ : Nat => iI 0))), (q1_, .inl (d1_, 20, .inl (fun _ : Nat => iI 0))), (q3_, .inl (d3_, 4, .inl (fun _ : Nat => iI 0))), (q4_, .inl (d4_, 2, .inl (fun _ : Nat => iI 0))), (q5_, .inl (d5_, 6, .inl (fun _ : Nat => iI 0))), (q6_, .inl (d6_, 12, .inl (fun _ : Nat => iI 0))), (q7_, .inl (d7_, 3, .inl (fun _ : Nat => iI 0))), (q8_, .inl (d8_, 4, .inl (fun _ : Nat => iI 0))), (q9_, .inl (d9_, 49, .inl (fun _ : Nat => iI 0))), (q10_, .inl (d10_, 49, .inl (fun _ : Nat => iI 0)))] := hD
  refine W.widen (k := 10) (n := 151) (Nat.le_of_ble_eq_true rfl) (Nat.le_of_ble_eq_true rfl) ?_
  refine va_put (pc := 81) (D := D) (ci := 1) (v := .ref q10_) (ty := .array .boolean) (C := RX1) (T := TX1) (N := 13) hx hb hts in_X1 tyX1 tyX1_ok nmX1 hown hK hP hD hS 0 rfl rfl 10 (by decide) (hts _ q200) (fun _ h9 => h9) rfl (by decide +kernel) rfl rfl (Nat.le_of_ble_eq_true rfl) dX1_init_81 (fun H locs hP hD hS => ?_)
  have hP : va_P D vwCl [(h0, .inr (1, [.ref q0_, .ref q1_, .int (iI 0), .ref q3_, .ref q4_, .ref q5_, .ref q6_, .ref q7_, .ref q8_, .ref q9_, .ref q10_, .null, .int (iI 0)])), (q0_, .inl (d0_, 2, .inl (fun _ : Nat => iI 0))), (q1_, .inl (d1_, 20, .inl (fun _ : Nat => iI 0))), (q3_, .inl (d3_, 4, .inl (fun _ : Nat => iI 0))), (q4_, .inl (d4_, 2, .inl (fun _ : Nat => iI 0))), (q5_, .inl (d5_, 6, .inl (fun _ : Nat => iI 0))), (q6_, .inl (d6_, 12, .inl (fun _ : Nat => iI 0))), (q7_, .inl (d7_, 3, .inl (fun _ : Nat => iI 0))), (q8_, .inl (d8_, 4, .inl (fun _ : Nat => iI 0))), (q9_, .inl (d9_, 49, .inl (fun _ : Nat => iI 0))), (q10_, .inl (d10_, 49, .inl (fun _ : Nat => iI 0)))] H := hP
  have hD : va_D A [(h0, .inr (1, [.ref q0_, .ref q1_, .int (iI 0), .ref q3_, .ref q4_, .ref q5_, .ref q6_, .ref q7_, .ref q8_, .ref q9_, .ref q10_, .null, .int (iI 0)])), (q0_, .inl (d0_, 2, .inl (fun _ : Nat => iI 0))), (q1_, .inl (d1_, 20, .inl (fun _ : Nat => iI 0))), (q3_, .inl (d3_, 4, .inl (fun _ : Nat => iI 0))), (q4_, .inl (d4_, 2, .inl (fun _ : Nat => iI 0))), (q5_, .inl (d5_, 6, .inl (fun _ : Nat => iI 0))), (q6_, .inl (d6_, 12, .inl (fun _ : Nat => iI 0))), (q7_, .inl (d7_, 3, .inl (fun _ : Nat => iI 0))), (q8_, .inl (d8_, 4, .inl (fun _ : Nat => iI 0))), (q9_, .inl (d9_, 49, .inl (fun _ : Nat => iI 0))), (q10_, .inl (d10_, 49, .inl (fun _ : Nat => iI 0)))] := hD
  refine lv_aload_n (pc := 84) hx hb dX1_init_84 rfl (lv_at hl 0 rfl) ?_
  refine lv_bipush (v := iI 49) (pc := 85) hx hb dX1_init_85 (iI_i8 (by decide)) ?_
  refine va_newa (atype := .boolean) (n := iI 49) (pc := 87) (ty := .boolean) (N' := 49) (a0 := (49, .inl (fun _ : Nat => iI 0))) hx hb (hts _ q231) rfl hK hP hD hS hA (fun _ => rfl) (by decide) rfl (by decide) (Nat.le_of_ble_eq_true rfl) (Nat.le_of_ble_eq_true rfl) dX1_init_87 (fun q11_ d11_ H hK hP hD hS => ?_)
  have hK : va_K D vwCl [(d0_, .int), (d1_, .int), (d3_, .int), (d4_, .int), (d5_, .int), (d6_, .int), (d7_, .int), (d8_, .int), (d9_, .boolean), (d10_, .boolean), (d11_, .boolean)] s := hK
  have hP : va_P D vwCl [(h0, .inr (1, [.ref q0_, .ref q1_, .int (iI 0), .ref q3_, .ref q4_, .ref q5_, .ref q6_, .ref q7_, .ref q8_, .ref q9_, .ref q10_, .null, .int (iI 0)])), (q0_, .inl (d0_, 2, .inl (fun _ : Nat => iI 0))), (q1_, .inl (d1_, 20, .inl (fun _ : Nat => iI 0))), (q3_, .inl (d3_, 4, .inl (fun _ : Nat => iI 0))), (q4_, .inl (d4_, 2, .inl (fun _ : Nat => iI 0))), (q5_, .inl (d5_, 6, .inl (fun _ : Nat => iI 0))), (q6_, .inl (d6_, 12, .inl (fun _ : Nat => iI 0))), (q7_, .inl (d7_, 3, .inl (fun _ : Nat => iI 0))), (q8_, .inl (d8_, 4, .inl (fun _ : Nat => iI 0))), (q9_, .inl (d9_, 49, .inl (fun _ : Nat => iI 0))), (q10_, .inl (d10_, 49, .inl (fun _ : Nat => iI 0))), (q11_, .inl (d11_, 49, .inl (fun _ : Nat => iI 0)))] H := hP
  have hD : va_D A [(h0, .inr (1, [.ref q0_, .ref q1_, .int (iI 0), .ref q3_, .ref q4_, .ref q5_, .ref q6_, .ref q7_, .ref q8_, .ref q9_, .ref q10_, .null, .int (iI 0)])), (q0_, .inl (d0_, 2, .inl (fun _ : Nat => iI 0))), (q1_, .inl (d1_, 20, .inl (fun _ : Nat => iI 0))), (q3_, .inl (d3_, 4, .inl (fun _ : Nat => iI 0))), (q4_, .inl (d4_, 2, .inl (fun _ : Nat => iI 0))), (q5_, .inl (d5_, 6, .inl (fun _ : Nat => iI 0))), (q6_, .inl (d6_, 12, .inl (fun _ : Nat => iI 0))), (q7_, .inl (d7_, 3, .inl (fun _ : Nat => iI 0))), (q8_, .inl (d8_, 4, .inl (fun _ : Nat => iI 0))), (q9_, .inl (d9_, 49, .inl (fun _ : Nat => iI 0))), (q10_, .inl (d10_, 49, .inl (fun _ : Nat => iI 0))), (q11_, .inl (d11_, 49, .inl (fun _ : Nat => iI 0)))] := hD
  refine W.widen (k := 11) (n := 200) (Nat.le_of_ble_eq_true rfl) (Nat.le_of_ble_eq_true rfl) ?_
  refine va_put (pc := 89) (D := D) (ci := 1) (v := .ref q11_) (ty := .array .boolean) (C := RX1) (T := TX1) (N := 13) hx hb hts in_X1 tyX1 tyX1_ok nmX1 hown hK hP hD hS 0 rfl rfl 11 (by decide) (hts _ q201) (fun _ h9 => h9) rfl (by decide +kernel) rfl rfl (Nat.le_of_ble_eq_true rfl) dX1_init_89 (fun H locs hP hD hS => ?_)
  have hP : va_P D vwCl [(h0, .inr (1, [.ref q0_, .ref q1_, .int (iI 0), .ref q3_, .ref q4_, .ref q5_, .ref q6_, .ref q7_, .ref q8_, .ref q9_, .ref q10_, .ref q11_, .int (iI 0)])), (q0_, .inl (d0_, 2, .inl (fun _ : Nat => iI 0))), (q1_, .inl (d1_, 20, .inl (fun _ : Nat => iI 0))), (q3_, .inl (d3_, 4, .inl (fun _ : Nat => iI 0))), (q4_, .inl (d4_, 2, .inl (fun _ : Nat => iI 0))), (q5_, .inl (d5_, 6, .inl (fun _ : Nat => iI 0))), (q6_, .inl (d6_, 12, .inl (fun _ : Nat => iI 0))), (q7_, .inl (d7_, 3, .inl (fun _ : Nat => iI 0))), (q8_, .inl (d8_, 4, .inl (fun _ : Nat => iI 0))), (q9_, .inl (d9_, 49, .inl (fun _ : Nat => iI 0))), (q10_, .inl (d10_, 49, .inl (fun _ : Nat => iI 0))), (q11_, .inl (d11_, 49, .inl (fun _ : Nat => iI 0)))] H := hP
  have hD : va_D A [(h0, .inr (1, [.ref q0_, .ref q1_, .int (iI 0), .ref q3_, .ref q4_, .ref q5_, .ref q6_, .ref q7_, .ref q8_, .ref q9_, .ref q10_, .ref q11_, .int (iI 0)])), (q0_, .inl (d0_, 2, .inl (fun _ : Nat => iI 0))), (q1_, .inl (d1_, 20, .inl (fun _ : Nat => iI 0))), (q3_, .inl (d3_, 4, .inl (fun _ : Nat => iI 0))), (q4_, .inl (d4_, 2, .inl (fun _ : Nat => iI 0))), (q5_, .inl (d5_, 6, .inl (fun _ : Nat => iI 0))), (q6_, .inl (d6_, 12, .inl (fun _ : Nat => iI 0))), (q7_, .inl (d7_, 3, .inl (fun _ : Nat => iI 0))), (q8_, .inl (d8_, 4, .inl (fun _ : Nat => iI 0))), (q9_, .inl (d9_, 49, .inl (fun _ : Nat => iI 0))), (q10_, .inl (d10_, 49, .inl (fun _ : Nat => iI 0))), (q11_, .inl (d11_, 49, .inl (fun _ : Nat => iI 0)))] := hD
  obtain ⟨a, ha⟩ : ∃ a : xAd, a = (h0, fun k => List.getD [q0_, q1_, 0, q3_, q4_, q5_, q6_, q7_, q8_, q9_, q10_, q11_] k 0, fun k => List.getD [d0_, d1_, d0_, d3_, d4_, d5_, d6_, d7_, d8_, d9_, d10_, d11_] k d0_) := ⟨_, rfl⟩
  have hP9 : va_P D vwCl (wM a u00) H := by rw [ha]; exact hP
  have hD9 : va_D A (wM a u00) := by rw [ha]; exact hD
  have hK9 : va_K D vwCl (tM a) s := by rw [ha]; exact hK
  exact W.vret hx hb hr (fun t ht hW => ⟨⟨a, rfl, by rw [ha], by rw [ht]; exact hP9, va_K.moved hW.alike hK9, hD9⟩, hS.F ht⟩) hS.2.2 dX1_init_92
end
section
set_option maxRecDepth 100000
/-! the class and the reference hold the same tables and rules, from call to call -/
theorem RelM_eqg {g g2 gm : xG} (h : ∀ k, k ≤ 9 → g2 k = g k) (hR : RelM g gm) : RelM g2 gm := by
  unfold RelM
  rw [h 0 (by decide), h 1 (by decide), h 2 (by decide), h 3 (by decide), h 4 (by decide), h 5 (by decide), h 6 (by decide), h 7 (by decide), h 8 (by decide), h 9 (by decide)]
  exact hR
def InvL (u v : xSt) : Prop := XI u ∧ Rng v.1 ∧ RelM u.1 v.1
theorem XI_new {g : xG} {c : Int64} (h1 : Rng g) (h2 : Val g) (h3 : cod (g 14 0) ∧ cod (g 15 0)) (h4 : g 17 0 = 0) : XI (g, c) := ⟨h1, h2, h3, fun q => absurd h4 q⟩
/-! a new row -/
theorem adG_0 (g : xG) (t x y j : Int) : adG g t x y 0 j = if j = t then g 0 t + 1 else g 0 j := by simp [adG, up]
theorem adG_1 (g : xG) (t x y j : Int) : adG g t x y 1 j = if j = 5 * t + g 0 t then x else g 1 j := by simp [adG, up]
theorem adG_2 (g : xG) (t x y j : Int) : adG g t x y 2 j = if j = 5 * t + g 0 t then y else g 2 j := by simp [adG, up]
theorem adG_17 (g : xG) (t x y : Int) : adG g t x y 17 0 = 0 := by simp [adG, up]
theorem adG_o (g : xG) (t x y : Int) {k : Nat} (h : k ≠ 0 ∧ k ≠ 1 ∧ k ≠ 2 ∧ k ≠ 17) : adG g t x y k = g k := by
  funext j
  simp [adG, up, h]
theorem adM_0 (g : xG) (t x y j : Int) : adM g t x y 0 j = if j = t then g 0 t + 1 else g 0 j := by simp [adM, up]
theorem adM_1 (g : xG) (t x y j : Int) : adM g t x y 1 j = if j = 10 * t + 2 * g 0 t + 1 then y else if j = 10 * t + 2 * g 0 t then x else g 1 j := by simp [adM, up]
theorem adM_o (g : xG) (t x y : Int) {k : Nat} (h : k ≠ 0 ∧ k ≠ 1) : adM g t x y k = g k := by
  funext j
  simp [adM, up, h]
theorem adG_Val {g : xG} {t x y : Int} (hV : Val g) (ht : 0 ≤ t ∧ t ≤ 1) (hx : isV x) (hy : isV y) (hn : g 0 t < 5) : Val (adG g t x y) := by
  refine ⟨fun t2 h0 h1 => ?_, ?_, ?_⟩
  · have h2 := hV.1 t2 h0 h1
    have h3 := hV.1 t ht.1 ht.2
    rw [adG_0]
    by_cases e : t2 = t
    · rw [if_pos e]
      rw [e] at h2 ⊢
      refine ⟨by omega, by omega, fun i i0 i1 => ?_⟩
      rw [adG_1, adG_2]
      by_cases ei : i = g 0 t
      · rw [if_pos (by omega), if_pos (by omega)]
        exact ⟨hx, hy⟩
      · rw [if_neg (by omega), if_neg (by omega)]
        exact h2.2.2 i i0 (by omega)
    · rw [if_neg e]
      refine ⟨h2.1, h2.2.1, fun i i0 i1 => ?_⟩
      rw [adG_1, adG_2, if_neg (by omega), if_neg (by omega)]
      exact h2.2.2 i i0 i1
  · rw [adG_o g t x y (k := 3) (by decide)]
    exact hV.2.1
  · rw [adG_o g t x y (k := 3) (by decide), adG_o g t x y (k := 4) (by decide), adG_o g t x y (k := 5) (by decide), adG_o g t x y (k := 6) (by decide), adG_o g t x y (k := 7) (by decide), adG_o g t x y (k := 8) (by decide), adG_o g t x y (k := 9) (by decide)]
    exact hV.2.2
theorem ad_Rel {g gm : xG} {t x y : Int} (hV : Val g) (hR : RelM g gm) (ht : 0 ≤ t ∧ t ≤ 1) (hn : g 0 t < 5) : RelM (adG g t x y) (adM gm t x y) := by
  have e0 := (hR.1 t ht.1 ht.2).1
  have h3 := hV.1 t ht.1 ht.2
  refine ⟨fun t2 h0 h1 => ?_, ?_, ?_⟩
  · have h2 := hR.1 t2 h0 h1
    have hv := hV.1 t2 h0 h1
    rw [adG_0, adM_0]
    by_cases e : t2 = t
    · rw [if_pos e, if_pos e]
      rw [e] at h2 ⊢
      refine ⟨by omega, fun i i0 i1 => ?_⟩
      rw [adG_1, adG_2, adM_1, adM_1]
      by_cases ei : i = g 0 t
      · constructor <;> (repeat' split) <;> omega
      · have h4 := h2.2 i i0 (by omega)
        constructor <;> (repeat' split) <;> omega
    · rw [if_neg e, if_neg e]
      refine ⟨h2.1, fun i i0 i1 => ?_⟩
      have h4 := h2.2 i i0 i1
      rw [adG_1, adG_2, adM_1, adM_1]
      constructor <;> (repeat' split) <;> omega
  · rw [adG_o g t x y (k := 3) (by decide), adM_o gm t x y (k := 2) (by decide)]
    exact hR.2.1
  · rw [adG_o g t x y (k := 3) (by decide), adG_o g t x y (k := 4) (by decide), adG_o g t x y (k := 5) (by decide), adG_o g t x y (k := 6) (by decide), adG_o g t x y (k := 7) (by decide), adG_o g t x y (k := 8) (by decide), adG_o g t x y (k := 9) (by decide), adM_o gm t x y (k := 3) (by decide), adM_o gm t x y (k := 4) (by decide), adM_o gm t x y (k := 5) (by decide), adM_o gm t x y (k := 6) (by decide)]
    exact hR.2.2
theorem ad_Inv {u v : xSt} {t x y : Int} (hI : InvL u v) (ht : 0 ≤ t ∧ t ≤ 1) (hx : isV x) (hy : isV y) (hn : u.1 0 t < 5) : InvL (adG u.1 t x y, u.2) (adM v.1 t x y, v.2) := by
  obtain ⟨⟨hR, hV, hc, -⟩, hRm, hG⟩ := hI
  have h3 := hV.1 t ht.1 ht.2
  have e0 := (hG.1 t ht.1 ht.2).1
  refine ⟨XI_new ?_ (adG_Val hV ht hx hy hn) ?_ (adG_17 _ _ _ _), ?_, ad_Rel hV hG ht hn⟩
  · unfold adG
    exact Rng_up (Rng_up (Rng_up (Rng_up hR (by omega)) (by omega)) (by omega)) (by omega)
  · rw [adG_o u.1 t x y (k := 14) (by decide), adG_o u.1 t x y (k := 15) (by decide)]
    exact hc
  · show Rng (adM v.1 t x y)
    unfold adM
    exact Rng_up (Rng_up (Rng_up hRm (by omega)) (by omega)) (by omega)
theorem jn_addRow {u v u2 v2 : xSt} {t x y r r2 : Int} (hI : InvL u v) (h1 : (¬ ((0 ≤ t ∧ t ≤ 1) ∧ isV x ∧ isV y) ∧ r = -1 ∧ u2 = u) ∨ (((0 ≤ t ∧ t ≤ 1) ∧ isV x ∧ isV y) ∧ 5 ≤ u.1 0 t ∧ r = -2 ∧ u2 = u) ∨ (((0 ≤ t ∧ t ≤ 1) ∧ isV x ∧ isV y) ∧ u.1 0 t < 5 ∧ r = u.1 0 t + 1 ∧ u2 = (adG u.1 t x y, u.2)))
    (h2 : (¬ ((0 ≤ t ∧ t ≤ 1) ∧ isV x ∧ isV y) ∧ r2 = -1 ∧ v2 = v) ∨ (((0 ≤ t ∧ t ≤ 1) ∧ isV x ∧ isV y) ∧ v.1 0 t = 5 ∧ r2 = -2 ∧ v2 = v) ∨ (((0 ≤ t ∧ t ≤ 1) ∧ isV x ∧ isV y) ∧ v.1 0 t ≠ 5 ∧ r2 = v.1 0 t + 1 ∧ v2 = (adM v.1 t x y, v.2))) : r = r2 ∧ InvL u2 v2 := by
  by_cases hg : (0 ≤ t ∧ t ≤ 1) ∧ isV x ∧ isV y
  · have e0 := (hI.2.2.1 t hg.1.1 hg.1.2).1
    have hb := hI.1.2.1.1 t hg.1.1 hg.1.2
    rcases h1 with ⟨a1, _⟩ | ⟨_, a2, a3, a4⟩ | ⟨_, a2, a3, a4⟩
    · exact absurd hg a1
    · rcases h2 with ⟨b1, _⟩ | ⟨_, b2, b3, b4⟩ | ⟨_, b2, b3, b4⟩
      · exact absurd hg b1
      · rw [a4, b4]
        exact ⟨by omega, hI⟩
      · omega
    · rcases h2 with ⟨b1, _⟩ | ⟨_, b2, b3, b4⟩ | ⟨_, b2, b3, b4⟩
      · exact absurd hg b1
      · omega
      · rw [a4, b4]
        exact ⟨by omega, ad_Inv hI hg.1 hg.2.1 hg.2.2 a2⟩
  · rcases h1 with ⟨_, a3, a4⟩ | ⟨a1, _⟩ | ⟨a1, _⟩
    · rcases h2 with ⟨_, b3, b4⟩ | ⟨b1, _⟩ | ⟨b1, _⟩
      · rw [a4, b4]
        exact ⟨by omega, hI⟩
      · exact absurd b1 hg
      · exact absurd b1 hg
    · exact absurd a1 hg
    · exact absurd a1 hg
/-! a row goes -/
theorem dpG_0 (g : xG) (t j : Int) : dpG g t 0 j = if j = t then g 0 t - 1 else g 0 j := by simp [dpG, dpL, up]
theorem dpG_1 (g : xG) (t j : Int) : dpG g t 1 j = if 5 * t ≤ j ∧ j < 5 * t + (g 0 t - 1) then g 1 (j + 1) else g 1 j := by simp [dpG, dpL, up]
theorem dpG_2 (g : xG) (t j : Int) : dpG g t 2 j = if 5 * t ≤ j ∧ j < 5 * t + (g 0 t - 1) then g 2 (j + 1) else g 2 j := by simp [dpG, dpL, up]
theorem dpG_17 (g : xG) (t : Int) : dpG g t 17 0 = 0 := by simp [dpG, dpL, up]
theorem dpG_o (g : xG) (t : Int) {k : Nat} (h : k ≠ 0 ∧ k ≠ 1 ∧ k ≠ 2 ∧ k ≠ 17) : dpG g t k = g k := by
  funext j
  simp [dpG, dpL, up, h]
theorem dpM_0 (g : xG) (t j : Int) : dpM g t 0 j = if j = t then g 0 t - 1 else g 0 j := by simp [dpM, dsM, up]
theorem dpM_1 (g : xG) (t j : Int) : dpM g t 1 j = if 10 * t ≤ j ∧ j < 10 * t + 8 then g 1 (j + 2) else g 1 j := by simp [dpM, dsM, up]
theorem dpM_o (g : xG) (t : Int) {k : Nat} (h : k ≠ 0 ∧ k ≠ 1) : dpM g t k = g k := by
  funext j
  simp [dpM, dsM, up, h]
theorem dpG_Val {g : xG} {t : Int} (hV : Val g) (ht : 0 ≤ t ∧ t ≤ 1) (hn : g 0 t ≠ 0) : Val (dpG g t) := by
  refine ⟨fun t2 h0 h1 => ?_, ?_, ?_⟩
  · have h2 := hV.1 t2 h0 h1
    have h3 := hV.1 t ht.1 ht.2
    rw [dpG_0]
    by_cases e : t2 = t
    · rw [if_pos e]
      rw [e] at h2 ⊢
      refine ⟨by omega, by omega, fun i i0 i1 => ?_⟩
      rw [dpG_1, dpG_2, if_pos (by omega), if_pos (by omega)]
      have h4 := h2.2.2 (i + 1) (by omega) (by omega)
      rw [show 5 * t + (i + 1) = 5 * t + i + 1 by omega] at h4
      exact h4
    · rw [if_neg e]
      refine ⟨h2.1, h2.2.1, fun i i0 i1 => ?_⟩
      rw [dpG_1, dpG_2, if_neg (by omega), if_neg (by omega)]
      exact h2.2.2 i i0 i1
  · rw [dpG_o g t (k := 3) (by decide)]
    exact hV.2.1
  · rw [dpG_o g t (k := 3) (by decide), dpG_o g t (k := 4) (by decide), dpG_o g t (k := 5) (by decide), dpG_o g t (k := 6) (by decide), dpG_o g t (k := 7) (by decide), dpG_o g t (k := 8) (by decide), dpG_o g t (k := 9) (by decide)]
    exact hV.2.2
theorem dp_Rel {g gm : xG} {t : Int} (hV : Val g) (hR : RelM g gm) (ht : 0 ≤ t ∧ t ≤ 1) (hn : g 0 t ≠ 0) : RelM (dpG g t) (dpM gm t) := by
  have e0 := (hR.1 t ht.1 ht.2).1
  have h3 := hV.1 t ht.1 ht.2
  refine ⟨fun t2 h0 h1 => ?_, ?_, ?_⟩
  · have h2 := hR.1 t2 h0 h1
    have hv := hV.1 t2 h0 h1
    rw [dpG_0, dpM_0]
    by_cases e : t2 = t
    · rw [if_pos e, if_pos e]
      rw [e] at h2 ⊢
      refine ⟨by omega, fun i i0 i1 => ?_⟩
      have h4 := h2.2 (i + 1) (by omega) (by omega)
      rw [show 5 * t + (i + 1) = 5 * t + i + 1 by omega] at h4
      rw [dpG_1, dpG_2, dpM_1, dpM_1, if_pos (show 5 * t ≤ 5 * t + i ∧ 5 * t + i < 5 * t + (g 0 t - 1) by omega), if_pos (show 5 * t ≤ 5 * t + i ∧ 5 * t + i < 5 * t + (g 0 t - 1) by omega), if_pos (show 10 * t ≤ 10 * t + 2 * i ∧ 10 * t + 2 * i < 10 * t + 8 by omega), if_pos (show 10 * t ≤ 10 * t + 2 * i + 1 ∧ 10 * t + 2 * i + 1 < 10 * t + 8 by omega)]
      rw [show 10 * t + 2 * i + 2 = 10 * t + 2 * (i + 1) by omega, show 10 * t + 2 * i + 1 + 2 = 10 * t + 2 * (i + 1) + 1 by omega]
      exact h4
    · rw [if_neg e, if_neg e]
      refine ⟨h2.1, fun i i0 i1 => ?_⟩
      have h4 := h2.2 i i0 i1
      rw [dpG_1, dpG_2, dpM_1, dpM_1, if_neg (show ¬ (5 * t ≤ 5 * t2 + i ∧ 5 * t2 + i < 5 * t + (g 0 t - 1)) by omega), if_neg (show ¬ (5 * t ≤ 5 * t2 + i ∧ 5 * t2 + i < 5 * t + (g 0 t - 1)) by omega), if_neg (show ¬ (10 * t ≤ 10 * t2 + 2 * i ∧ 10 * t2 + 2 * i < 10 * t + 8) by omega), if_neg (show ¬ (10 * t ≤ 10 * t2 + 2 * i + 1 ∧ 10 * t2 + 2 * i + 1 < 10 * t + 8) by omega)]
      exact h4
  · rw [dpG_o g t (k := 3) (by decide), dpM_o gm t (k := 2) (by decide)]
    exact hR.2.1
  · rw [dpG_o g t (k := 3) (by decide), dpG_o g t (k := 4) (by decide), dpG_o g t (k := 5) (by decide), dpG_o g t (k := 6) (by decide), dpG_o g t (k := 7) (by decide), dpG_o g t (k := 8) (by decide), dpG_o g t (k := 9) (by decide), dpM_o gm t (k := 3) (by decide), dpM_o gm t (k := 4) (by decide), dpM_o gm t (k := 5) (by decide), dpM_o gm t (k := 6) (by decide)]
    exact hR.2.2
theorem dp_Inv {u v : xSt} {t : Int} (hI : InvL u v) (ht : 0 ≤ t ∧ t ≤ 1) (hn : u.1 0 t ≠ 0) : InvL (dpG u.1 t, u.2) (dpM v.1 t, v.2) := by
  obtain ⟨⟨hR, hV, hc, -⟩, hRm, hG⟩ := hI
  have h3 := hV.1 t ht.1 ht.2
  have e0 := (hG.1 t ht.1 ht.2).1
  refine ⟨XI_new ?_ (dpG_Val hV ht hn) ?_ (dpG_17 _ _), ?_, dp_Rel hV hG ht hn⟩
  · unfold dpG
    refine Rng_up (fun k j => ?_) (by omega)
    have hq : Rng (up u.1 0 t (u.1 0 t - 1)) := Rng_up hR (by omega)
    unfold dpL
    split
    · exact hq _ _
    · exact hq _ _
  · rw [dpG_o u.1 t (k := 14) (by decide), dpG_o u.1 t (k := 15) (by decide)]
    exact hc
  · show Rng (dpM v.1 t)
    unfold dpM
    refine Rng_up (fun k j => ?_) (by omega)
    unfold dsM
    split
    · exact hRm _ _
    · exact hRm _ _
theorem jn_dropRow {u v u2 v2 : xSt} {t r r2 : Int} (hI : InvL u v) (h1 : (¬ ((0 ≤ t ∧ t ≤ 1) ∧ u.1 0 t ≠ 0) ∧ r = -1 ∧ u2 = u) ∨ (((0 ≤ t ∧ t ≤ 1) ∧ u.1 0 t ≠ 0) ∧ r = u.1 0 t - 1 ∧ u2 = (dpG u.1 t, u.2)))
    (h2 : (¬ ((0 ≤ t ∧ t ≤ 1) ∧ v.1 0 t ≠ 0) ∧ r2 = -1 ∧ v2 = v) ∨ (((0 ≤ t ∧ t ≤ 1) ∧ v.1 0 t ≠ 0) ∧ r2 = v.1 0 t - 1 ∧ v2 = (dpM v.1 t, v.2))) : r = r2 ∧ InvL u2 v2 := by
  have e0 : 0 ≤ t ∧ t ≤ 1 → v.1 0 t = u.1 0 t := fun ht => (hI.2.2.1 t ht.1 ht.2).1
  rcases h1 with ⟨a1, a3, a4⟩ | ⟨a1, a3, a4⟩
  · rcases h2 with ⟨b1, b3, b4⟩ | ⟨b1, b3, b4⟩
    · rw [a4, b4]
      exact ⟨by omega, hI⟩
    · have := e0 b1.1
      exact absurd ⟨b1.1, by omega⟩ a1
  · have e1 := e0 a1.1
    rcases h2 with ⟨b1, b3, b4⟩ | ⟨b1, b3, b4⟩
    · exact absurd ⟨a1.1, by omega⟩ b1
    · rw [a4, b4]
      exact ⟨by omega, dp_Inv hI a1.1 a1.2⟩
/-! an unknown becomes known -/
theorem lnG_1 (g : xG) (x y j : Int) : lnG g x y 1 j = if 0 ≤ j ∧ j < 10 ∧ j % 5 < g 0 (j / 5) ∧ g 1 j = x then y else g 1 j := by simp [lnG, lnL, up]
theorem lnG_2 (g : xG) (x y j : Int) : lnG g x y 2 j = if 0 ≤ j ∧ j < 10 ∧ j % 5 < g 0 (j / 5) ∧ g 2 j = x then y else g 2 j := by simp [lnG, lnL, up]
theorem lnG_17 (g : xG) (x y : Int) : lnG g x y 17 0 = 0 := by simp [lnG, lnL, up]
theorem lnG_o (g : xG) (x y : Int) {k : Nat} (h : k ≠ 1 ∧ k ≠ 2 ∧ k ≠ 17) : lnG g x y k = g k := by
  funext j
  simp [lnG, lnL, up, h]
theorem lnM_1 (g : xG) (x y j : Int) : lnM g x y 20 1 j = if 0 ≤ j ∧ j < 20 ∧ j % 10 < 2 * g 0 (j / 10) ∧ g 1 j = x then y else g 1 j := by simp [lnM]
theorem lnM_o (g : xG) (x y : Int) {k : Nat} (h : k ≠ 1) : lnM g x y 20 k = g k := by
  funext j
  simp [lnM, h]
theorem lnG_Val {g : xG} {x y : Int} (hV : Val g) (hy : 0 ≤ y ∧ y ≤ 3) : Val (lnG g x y) := by
  refine ⟨fun t h0 h1 => ?_, ?_, ?_⟩
  · have h2 := hV.1 t h0 h1
    rw [lnG_o g x y (k := 0) (by decide)]
    refine ⟨h2.1, h2.2.1, fun i i0 i1 => ?_⟩
    have h3 := h2.2.2 i i0 i1
    rw [lnG_1, lnG_2]
    constructor
    · split
      · exact Or.inl hy
      · exact h3.1
    · split
      · exact Or.inl hy
      · exact h3.2
  · rw [lnG_o g x y (k := 3) (by decide)]
    exact hV.2.1
  · rw [lnG_o g x y (k := 3) (by decide), lnG_o g x y (k := 4) (by decide), lnG_o g x y (k := 5) (by decide), lnG_o g x y (k := 6) (by decide), lnG_o g x y (k := 7) (by decide), lnG_o g x y (k := 8) (by decide), lnG_o g x y (k := 9) (by decide)]
    exact hV.2.2
theorem ln_Rel {g gm : xG} {x y : Int} (hV : Val g) (hR : RelM g gm) : RelM (lnG g x y) (lnM gm x y 20) := by
  refine ⟨fun t h0 h1 => ?_, ?_, ?_⟩
  · have h2 := hR.1 t h0 h1
    have hv := hV.1 t h0 h1
    rw [lnG_o g x y (k := 0) (by decide), lnM_o gm x y (k := 0) (by decide)]
    refine ⟨h2.1, fun i i0 i1 => ?_⟩
    have h4 := h2.2 i i0 i1
    have d1 : (5 * t + i) / 5 = t := by omega
    have d2 : (5 * t + i) % 5 = i := by omega
    have d3 : (10 * t + 2 * i) / 10 = t := by omega
    have d4 : (10 * t + 2 * i) % 10 = 2 * i := by omega
    have d5 : (10 * t + 2 * i + 1) / 10 = t := by omega
    have d6 : (10 * t + 2 * i + 1) % 10 = 2 * i + 1 := by omega
    rw [lnG_1, lnG_2, lnM_1, lnM_1, d1, d2, d3, d4, d5, d6, h2.1, h4.1, h4.2]
    constructor
    · by_cases hx : g 1 (5 * t + i) = x
      · rw [if_pos ⟨by omega, by omega, by omega, hx⟩, if_pos ⟨by omega, by omega, by omega, hx⟩]
      · rw [if_neg (fun q => hx q.2.2.2), if_neg (fun q => hx q.2.2.2)]
    · by_cases hx : g 2 (5 * t + i) = x
      · rw [if_pos ⟨by omega, by omega, by omega, hx⟩, if_pos ⟨by omega, by omega, by omega, hx⟩]
      · rw [if_neg (fun q => hx q.2.2.2), if_neg (fun q => hx q.2.2.2)]
  · rw [lnG_o g x y (k := 3) (by decide), lnM_o gm x y (k := 2) (by decide)]
    exact hR.2.1
  · rw [lnG_o g x y (k := 3) (by decide), lnG_o g x y (k := 4) (by decide), lnG_o g x y (k := 5) (by decide), lnG_o g x y (k := 6) (by decide), lnG_o g x y (k := 7) (by decide), lnG_o g x y (k := 8) (by decide), lnG_o g x y (k := 9) (by decide), lnM_o gm x y (k := 3) (by decide), lnM_o gm x y (k := 4) (by decide), lnM_o gm x y (k := 5) (by decide), lnM_o gm x y (k := 6) (by decide)]
    exact hR.2.2
theorem cn_eq {g gm : xG} {x : Int} (hR : RelM g gm) : ∀ k : Nat, k ≤ 10 → cnM gm x (2 * k) = cnL g x k := by
  intro k
  induction k with
  | zero => intro _; rfl
  | succ k ih =>
    intro hk
    have ih := ih (by omega)
    have e : cnM gm x (2 * k + 1 + 1) = cnM gm x (2 * k) + (if ((2 * k : Nat) : Int) % 10 < 2 * gm 0 (((2 * k : Nat) : Int) / 10) ∧ gm 1 ((2 * k : Nat) : Int) = x then 1 else 0) + (if ((2 * k + 1 : Nat) : Int) % 10 < 2 * gm 0 (((2 * k + 1 : Nat) : Int) / 10) ∧ gm 1 ((2 * k + 1 : Nat) : Int) = x then 1 else 0) := rfl
    have e2 : cnL g x (k + 1) = cnL g x k + (if (k : Int) % 5 < g 0 ((k : Int) / 5) ∧ g 1 (k : Int) = x then 1 else 0) + (if (k : Int) % 5 < g 0 ((k : Int) / 5) ∧ g 2 (k : Int) = x then 1 else 0) := rfl
    have h2 := hR.1 ((k : Int) / 5) (by omega) (by omega)
    have c1 : ((2 * k : Nat) : Int) = 10 * ((k : Int) / 5) + 2 * ((k : Int) % 5) := by omega
    have c2 : ((2 * k + 1 : Nat) : Int) = 10 * ((k : Int) / 5) + 2 * ((k : Int) % 5) + 1 := by omega
    have d3 : (10 * ((k : Int) / 5) + 2 * ((k : Int) % 5)) / 10 = (k : Int) / 5 := by omega
    have d4 : (10 * ((k : Int) / 5) + 2 * ((k : Int) % 5)) % 10 = 2 * ((k : Int) % 5) := by omega
    have d5 : (10 * ((k : Int) / 5) + 2 * ((k : Int) % 5) + 1) / 10 = (k : Int) / 5 := by omega
    have d6 : (10 * ((k : Int) / 5) + 2 * ((k : Int) % 5) + 1) % 10 = 2 * ((k : Int) % 5) + 1 := by omega
    have c3 : 5 * ((k : Int) / 5) + (k : Int) % 5 = (k : Int) := by omega
    rw [show 2 * (k + 1) = 2 * k + 1 + 1 by omega, e, e2, ih, c1, c2, d3, d4, d5, d6, h2.1]
    by_cases hu : (k : Int) % 5 < g 0 ((k : Int) / 5)
    · have h4 := h2.2 ((k : Int) % 5) (by omega) hu
      rw [c3] at h4
      rw [h4.1, h4.2]
      by_cases x1 : g 1 (k : Int) = x
      · by_cases x2 : g 2 (k : Int) = x
        · rw [if_pos ⟨by omega, x1⟩, if_pos ⟨by omega, x2⟩, if_pos ⟨hu, x1⟩, if_pos ⟨hu, x2⟩]
        · rw [if_pos ⟨by omega, x1⟩, if_neg (fun q => x2 q.2), if_pos ⟨hu, x1⟩, if_neg (fun q => x2 q.2)]
      · by_cases x2 : g 2 (k : Int) = x
        · rw [if_neg (fun q => x1 q.2), if_pos ⟨by omega, x2⟩, if_neg (fun q => x1 q.2), if_pos ⟨hu, x2⟩]
        · rw [if_neg (fun q => x1 q.2), if_neg (fun q => x2 q.2), if_neg (fun q => x1 q.2), if_neg (fun q => x2 q.2)]
    · rw [if_neg (fun q => hu (by have := q.1; omega)), if_neg (fun q => hu (by have := q.1; omega)), if_neg (fun q => hu q.1), if_neg (fun q => hu q.1)]
theorem ln_Inv {u v : xSt} {x y : Int} (hI : InvL u v) (hy : 0 ≤ y ∧ y ≤ 3) : InvL (lnG u.1 x y, u.2) (lnM v.1 x y 20, v.2) := by
  obtain ⟨⟨hR, hV, hc, -⟩, hRm, hG⟩ := hI
  refine ⟨XI_new ?_ (lnG_Val hV hy) ?_ (lnG_17 _ _ _), ?_, ln_Rel hV hG⟩
  · unfold lnG
    refine Rng_up (fun k j => ?_) (by omega)
    unfold lnL
    split
    · omega
    · exact hR _ _
  · rw [lnG_o u.1 x y (k := 14) (by decide), lnG_o u.1 x y (k := 15) (by decide)]
    exact hc
  · show Rng (lnM v.1 x y 20)
    intro k j
    unfold lnM
    split
    · omega
    · exact hRm _ _
theorem jn_learn {u v u2 v2 : xSt} {x y r r2 : Int} (hI : InvL u v) (h1 : (¬ ((10 ≤ x ∧ x ≤ 12) ∧ 0 ≤ y ∧ y ≤ 3) ∧ r = -1 ∧ u2 = u) ∨ (((10 ≤ x ∧ x ≤ 12) ∧ 0 ≤ y ∧ y ≤ 3) ∧ r = cnL u.1 x 10 ∧ u2 = (lnG u.1 x y, u.2)))
    (h2 : (¬ ((10 ≤ x ∧ x ≤ 12) ∧ 0 ≤ y ∧ y ≤ 3) ∧ r2 = -1 ∧ v2 = v) ∨ (((10 ≤ x ∧ x ≤ 12) ∧ 0 ≤ y ∧ y ≤ 3) ∧ r2 = cnM v.1 x 20 ∧ v2 = (lnM v.1 x y 20, v.2))) : r = r2 ∧ InvL u2 v2 := by
  rcases h1 with ⟨a1, a3, a4⟩ | ⟨a1, a3, a4⟩
  · rcases h2 with ⟨b1, b3, b4⟩ | ⟨b1, b3, b4⟩
    · rw [a4, b4]
      exact ⟨by omega, hI⟩
    · exact absurd b1 a1
  · rcases h2 with ⟨b1, b3, b4⟩ | ⟨b1, b3, b4⟩
    · exact absurd a1 b1
    · rw [a4, b4]
      refine ⟨?_, ln_Inv hI a1.2⟩
      rw [a3, b3]
      exact (cn_eq hI.2.2 10 (Nat.le_refl 10)).symm
end
section
set_option maxRecDepth 100000
/-! a new rule -/
theorem ruG_3 (g : xG) (x y : Int) : ruG g x y 3 0 = g 3 0 + 1 := by simp [ruG, up]
theorem ruG_4 (g : xG) (x y j : Int) : ruG g x y 4 j = if j = g 3 0 then x else g 4 j := by simp [ruG, up]
theorem ruG_5 (g : xG) (x y j : Int) : ruG g x y 5 j = if j = g 3 0 then y else g 5 j := by simp [ruG, up]
theorem ruG_6 (g : xG) (x y j : Int) : ruG g x y 6 j = if j = g 3 0 then 0 else g 6 j := by simp [ruG, up]
theorem ruG_17 (g : xG) (x y : Int) : ruG g x y 17 0 = 0 := by simp [ruG, up]
theorem ruG_o (g : xG) (x y : Int) {k : Nat} (h : k ≠ 3 ∧ k ≠ 4 ∧ k ≠ 5 ∧ k ≠ 6 ∧ k ≠ 17) : ruG g x y k = g k := by
  funext j
  simp [ruG, up, h]
theorem ruM_2 (g : xG) (x y : Int) : ruM g x y 2 0 = g 2 0 + 1 := by simp [ruM, up]
theorem ruM_3 (g : xG) (x y j : Int) : ruM g x y 3 j = if j = 2 * g 2 0 + 1 then y else if j = 2 * g 2 0 then x else g 3 j := by simp [ruM, up]
theorem ruM_4 (g : xG) (x y j : Int) : ruM g x y 4 j = if j = g 2 0 then 0 else g 4 j := by simp [ruM, up]
theorem ruM_o (g : xG) (x y : Int) {k : Nat} (h : k ≠ 2 ∧ k ≠ 3 ∧ k ≠ 4) : ruM g x y k = g k := by
  funext j
  simp [ruM, up, h]
theorem ruG_Val {g : xG} {x y : Int} (hV : Val g) (hx : isT x) (hy : isT y) (hn : g 3 0 < 2) : Val (ruG g x y) := by
  have h3 := hV.2.1
  refine ⟨?_, ?_, fun r r0 r1 => ?_⟩
  · rw [ruG_o g x y (k := 0) (by decide), ruG_o g x y (k := 1) (by decide), ruG_o g x y (k := 2) (by decide)]
    exact hV.1
  · rw [ruG_3]
    omega
  · rw [ruG_3] at r1
    rw [ruG_4, ruG_5, ruG_6, ruG_o g x y (k := 7) (by decide), ruG_o g x y (k := 8) (by decide), ruG_o g x y (k := 9) (by decide)]
    by_cases e : r = g 3 0
    · rw [if_pos e, if_pos e, if_pos e]
      exact ⟨hx, hy, by omega, by omega, fun k k0 k1 => by omega⟩
    · rw [if_neg e, if_neg e, if_neg e]
      exact hV.2.2 r r0 (by omega)
theorem ru_Rel {g gm : xG} {x y : Int} (hR : RelM g gm) : RelM (ruG g x y) (ruM gm x y) := by
  have e2 := hR.2.1
  refine ⟨?_, ?_, fun r r0 r1 => ?_⟩
  · rw [ruG_o g x y (k := 0) (by decide), ruG_o g x y (k := 1) (by decide), ruG_o g x y (k := 2) (by decide), ruM_o gm x y (k := 0) (by decide), ruM_o gm x y (k := 1) (by decide)]
    exact hR.1
  · rw [ruG_3, ruM_2, e2]
  · rw [ruG_3] at r1
    rw [ruG_4, ruG_5, ruG_6, ruG_o g x y (k := 7) (by decide), ruG_o g x y (k := 8) (by decide), ruG_o g x y (k := 9) (by decide), ruM_3, ruM_3, ruM_4, ruM_o gm x y (k := 5) (by decide), ruM_o gm x y (k := 6) (by decide), e2]
    by_cases e : r = g 3 0
    · rw [if_pos e, if_pos e, if_pos e, if_pos e]
      refine ⟨?_, ?_, rfl, fun k k0 k1 => by omega⟩
      · rw [if_neg (by omega), if_pos (by omega)]
      · rw [if_pos (by omega)]
    · rw [if_neg e, if_neg e, if_neg e, if_neg e]
      have h4 := hR.2.2 r r0 (by omega)
      refine ⟨?_, ?_, h4.2.2.1, h4.2.2.2⟩
      · rw [if_neg (by omega), if_neg (by omega)]
        exact h4.1
      · rw [if_neg (by omega), if_neg (by omega)]
        exact h4.2.1
theorem ru_Inv {u v : xSt} {x y : Int} (hI : InvL u v) (hx : isT x) (hy : isT y) (hn : u.1 3 0 < 2) : InvL (ruG u.1 x y, u.2) (ruM v.1 x y, v.2) := by
  obtain ⟨⟨hR, hV, hc, -⟩, hRm, hG⟩ := hI
  have h3 := hV.2.1
  have e2 := hG.2.1
  refine ⟨XI_new ?_ (ruG_Val hV hx hy hn) ?_ (ruG_17 _ _ _), ?_, ru_Rel hG⟩
  · unfold ruG
    exact Rng_up (Rng_up (Rng_up (Rng_up (Rng_up hR (by omega)) (by omega)) (by omega)) (by omega)) (by omega)
  · rw [ruG_o u.1 x y (k := 14) (by decide), ruG_o u.1 x y (k := 15) (by decide)]
    exact hc
  · show Rng (ruM v.1 x y)
    unfold ruM
    exact Rng_up (Rng_up (Rng_up (Rng_up hRm (by omega)) (by omega)) (by omega)) (by omega)
theorem jn_rule {u v u2 v2 : xSt} {x y r r2 : Int} (hI : InvL u v) (h1 : (¬ (isT x ∧ isT y) ∧ r = -1 ∧ u2 = u) ∨ ((isT x ∧ isT y) ∧ 2 ≤ u.1 3 0 ∧ r = -2 ∧ u2 = u) ∨ ((isT x ∧ isT y) ∧ u.1 3 0 < 2 ∧ r = u.1 3 0 + 1 ∧ u2 = (ruG u.1 x y, u.2)))
    (h2 : (¬ (isT x ∧ isT y) ∧ r2 = -1 ∧ v2 = v) ∨ ((isT x ∧ isT y) ∧ v.1 2 0 = 2 ∧ r2 = -2 ∧ v2 = v) ∨ ((isT x ∧ isT y) ∧ v.1 2 0 ≠ 2 ∧ r2 = v.1 2 0 + 1 ∧ v2 = (ruM v.1 x y, v.2))) : r = r2 ∧ InvL u2 v2 := by
  have e2 := hI.2.2.2.1
  have h3 := hI.1.2.1.2.1
  rcases h1 with ⟨a1, a3, a4⟩ | ⟨a1, a2, a3, a4⟩ | ⟨a1, a2, a3, a4⟩
  · rcases h2 with ⟨b1, b3, b4⟩ | ⟨b1, _⟩ | ⟨b1, _⟩
    · rw [a4, b4]
      exact ⟨by omega, hI⟩
    · exact absurd b1 a1
    · exact absurd b1 a1
  · rcases h2 with ⟨b1, _⟩ | ⟨_, b2, b3, b4⟩ | ⟨_, b2, b3, b4⟩
    · exact absurd a1 b1
    · rw [a4, b4]
      exact ⟨by omega, hI⟩
    · omega
  · rcases h2 with ⟨b1, _⟩ | ⟨_, b2, b3, b4⟩ | ⟨_, b2, b3, b4⟩
    · exact absurd a1 b1
    · omega
    · rw [a4, b4]
      exact ⟨by omega, ru_Inv hI a1.1 a1.2 a2⟩
/-! a new atom -/
theorem atG_6 (g : xG) (t x y j : Int) : atG g t x y 6 j = if j = g 3 0 - 1 then g 6 (g 3 0 - 1) + 1 else g 6 j := by simp [atG, up]
theorem atG_7 (g : xG) (t x y j : Int) : atG g t x y 7 j = if j = 3 * (g 3 0 - 1) + g 6 (g 3 0 - 1) then t else g 7 j := by simp [atG, up]
theorem atG_8 (g : xG) (t x y j : Int) : atG g t x y 8 j = if j = 3 * (g 3 0 - 1) + g 6 (g 3 0 - 1) then x else g 8 j := by simp [atG, up]
theorem atG_9 (g : xG) (t x y j : Int) : atG g t x y 9 j = if j = 3 * (g 3 0 - 1) + g 6 (g 3 0 - 1) then y else g 9 j := by simp [atG, up]
theorem atG_17 (g : xG) (t x y : Int) : atG g t x y 17 0 = 0 := by simp [atG, up]
theorem atG_o (g : xG) (t x y : Int) {k : Nat} (h : k ≠ 6 ∧ k ≠ 7 ∧ k ≠ 8 ∧ k ≠ 9 ∧ k ≠ 17) : atG g t x y k = g k := by
  funext j
  simp [atG, up, h]
theorem atM_4 (g : xG) (t x y j : Int) : atM g t x y 4 j = if j = g 2 0 - 1 then g 4 (g 2 0 - 1) + 1 else g 4 j := by simp [atM, up]
theorem atM_5 (g : xG) (t x y j : Int) : atM g t x y 5 j = if j = 3 * (g 2 0 - 1) + g 4 (g 2 0 - 1) then t else g 5 j := by simp [atM, up]
theorem atM_6 (g : xG) (t x y j : Int) : atM g t x y 6 j = if j = 2 * (3 * (g 2 0 - 1) + g 4 (g 2 0 - 1)) + 1 then y else if j = 2 * (3 * (g 2 0 - 1) + g 4 (g 2 0 - 1)) then x else g 6 j := by simp [atM, up]
theorem atM_o (g : xG) (t x y : Int) {k : Nat} (h : k ≠ 4 ∧ k ≠ 5 ∧ k ≠ 6) : atM g t x y k = g k := by
  funext j
  simp [atM, up, h]
theorem atG_Val {g : xG} {t x y : Int} (hV : Val g) (ht : 0 ≤ t ∧ t ≤ 1) (hx : isT x) (hy : isT y) (hn : 0 < g 3 0) (hc : g 6 (g 3 0 - 1) < 3) : Val (atG g t x y) := by
  have h3 := hV.2.1
  have hq := hV.2.2 (g 3 0 - 1) (by omega) (by omega)
  refine ⟨?_, ?_, fun r r0 r1 => ?_⟩
  · rw [atG_o g t x y (k := 0) (by decide), atG_o g t x y (k := 1) (by decide), atG_o g t x y (k := 2) (by decide)]
    exact hV.1
  · rw [atG_o g t x y (k := 3) (by decide)]
    exact h3
  · rw [atG_o g t x y (k := 3) (by decide)] at r1
    have hr := hV.2.2 r r0 r1
    rw [atG_o g t x y (k := 4) (by decide), atG_o g t x y (k := 5) (by decide), atG_6]
    by_cases e : r = g 3 0 - 1
    · rw [if_pos e]
      refine ⟨hr.1, hr.2.1, by omega, by omega, fun k k0 k1 => ?_⟩
      rw [atG_7, atG_8, atG_9]
      by_cases ek : k = g 6 (g 3 0 - 1)
      · rw [if_pos (by omega), if_pos (by omega), if_pos (by omega)]
        exact ⟨ht, hx, hy⟩
      · rw [if_neg (by omega), if_neg (by omega), if_neg (by omega)]
        rw [e] at hr ⊢
        exact hr.2.2.2.2 k k0 (by omega)
    · rw [if_neg e]
      refine ⟨hr.1, hr.2.1, hr.2.2.1, hr.2.2.2.1, fun k k0 k1 => ?_⟩
      have hb := hr.2.2.2.1
      rw [atG_7, atG_8, atG_9, if_neg (by omega), if_neg (by omega), if_neg (by omega)]
      exact hr.2.2.2.2 k k0 k1
theorem at_Rel {g gm : xG} {t x y : Int} (hV : Val g) (hR : RelM g gm) (hn : 0 < g 3 0) (hc : g 6 (g 3 0 - 1) < 3) : RelM (atG g t x y) (atM gm t x y) := by
  have h3 := hV.2.1
  have e2 := hR.2.1
  have hq := hV.2.2 (g 3 0 - 1) (by omega) (by omega)
  have e4 := (hR.2.2 (g 3 0 - 1) (by omega) (by omega)).2.2.1
  refine ⟨?_, ?_, fun r r0 r1 => ?_⟩
  · rw [atG_o g t x y (k := 0) (by decide), atG_o g t x y (k := 1) (by decide), atG_o g t x y (k := 2) (by decide), atM_o gm t x y (k := 0) (by decide), atM_o gm t x y (k := 1) (by decide)]
    exact hR.1
  · rw [atG_o g t x y (k := 3) (by decide), atM_o gm t x y (k := 2) (by decide)]
    exact e2
  · rw [atG_o g t x y (k := 3) (by decide)] at r1
    have hr := hV.2.2 r r0 r1
    have hm := hR.2.2 r r0 r1
    rw [atG_o g t x y (k := 4) (by decide), atG_o g t x y (k := 5) (by decide), atM_o gm t x y (k := 3) (by decide), atG_6, atM_4, e2, e4]
    by_cases e : r = g 3 0 - 1
    · rw [if_pos e, if_pos e]
      refine ⟨hm.1, hm.2.1, rfl, fun k k0 k1 => ?_⟩
      rw [atG_7, atG_8, atG_9, atM_5, atM_6, atM_6, e2, e4]
      by_cases ek : k = g 6 (g 3 0 - 1)
      · refine ⟨?_, ?_, ?_⟩ <;> (repeat' split) <;> omega
      · have hk := hm.2.2.2 k k0 (by rw [e]; omega)
        refine ⟨?_, ?_, ?_⟩ <;> (repeat' split) <;> omega
    · rw [if_neg e, if_neg e]
      refine ⟨hm.1, hm.2.1, hm.2.2.1, fun k k0 k1 => ?_⟩
      have hb := hr.2.2.2.1
      have hk := hm.2.2.2 k k0 k1
      rw [atG_7, atG_8, atG_9, atM_5, atM_6, atM_6, e2, e4]
      refine ⟨?_, ?_, ?_⟩ <;> (repeat' split) <;> omega
theorem at_Inv {u v : xSt} {t x y : Int} (hI : InvL u v) (ht : 0 ≤ t ∧ t ≤ 1) (hx : isT x) (hy : isT y) (hn : 0 < u.1 3 0) (hc : u.1 6 (u.1 3 0 - 1) < 3) : InvL (atG u.1 t x y, u.2) (atM v.1 t x y, v.2) := by
  obtain ⟨⟨hR, hV, hc2, -⟩, hRm, hG⟩ := hI
  have h3 := hV.2.1
  have e2 := hG.2.1
  have hq := hV.2.2 (u.1 3 0 - 1) (by omega) (by omega)
  have e4 := (hG.2.2 (u.1 3 0 - 1) (by omega) (by omega)).2.2.1
  refine ⟨XI_new ?_ (atG_Val hV ht hx hy hn hc) ?_ (atG_17 _ _ _ _), ?_, at_Rel hV hG hn hc⟩
  · unfold atG
    exact Rng_up (Rng_up (Rng_up (Rng_up (Rng_up hR (by omega)) (by omega)) (by omega)) (by omega)) (by omega)
  · rw [atG_o u.1 t x y (k := 14) (by decide), atG_o u.1 t x y (k := 15) (by decide)]
    exact hc2
  · show Rng (atM v.1 t x y)
    unfold atM
    rw [e2, e4]
    exact Rng_up (Rng_up (Rng_up (Rng_up hRm (by omega)) (by omega)) (by omega)) (by omega)
theorem jn_atom {u v u2 v2 : xSt} {t x y r r2 : Int} (hI : InvL u v) (h1 : (¬ ((0 ≤ t ∧ t ≤ 1) ∧ isT x ∧ isT y) ∧ r = -1 ∧ u2 = u) ∨ (((0 ≤ t ∧ t ≤ 1) ∧ isT x ∧ isT y) ∧ u.1 3 0 = 0 ∧ r = -3 ∧ u2 = u) ∨ (((0 ≤ t ∧ t ≤ 1) ∧ isT x ∧ isT y) ∧ 0 < u.1 3 0 ∧ 3 ≤ u.1 6 (u.1 3 0 - 1) ∧ r = -2 ∧ u2 = u) ∨ (((0 ≤ t ∧ t ≤ 1) ∧ isT x ∧ isT y) ∧ 0 < u.1 3 0 ∧ u.1 6 (u.1 3 0 - 1) < 3 ∧ r = u.1 6 (u.1 3 0 - 1) + 1 ∧ u2 = (atG u.1 t x y, u.2)))
    (h2 : (¬ ((0 ≤ t ∧ t ≤ 1) ∧ isT x ∧ isT y) ∧ r2 = -1 ∧ v2 = v) ∨ (((0 ≤ t ∧ t ≤ 1) ∧ isT x ∧ isT y) ∧ v.1 2 0 = 0 ∧ r2 = -3 ∧ v2 = v) ∨ (((0 ≤ t ∧ t ≤ 1) ∧ isT x ∧ isT y) ∧ 0 < v.1 2 0 ∧ v.1 4 (v.1 2 0 - 1) = 3 ∧ r2 = -2 ∧ v2 = v) ∨ (((0 ≤ t ∧ t ≤ 1) ∧ isT x ∧ isT y) ∧ 0 < v.1 2 0 ∧ v.1 4 (v.1 2 0 - 1) ≠ 3 ∧ r2 = v.1 4 (v.1 2 0 - 1) + 1 ∧ v2 = (atM v.1 t x y, v.2))) : r = r2 ∧ InvL u2 v2 := by
  have e2 := hI.2.2.2.1
  have h3 := hI.1.2.1.2.1
  rw [e2] at h2
  have e4 : 0 < u.1 3 0 → v.1 4 (u.1 3 0 - 1) = u.1 6 (u.1 3 0 - 1) ∧ u.1 6 (u.1 3 0 - 1) ≤ 3 := fun h => ⟨(hI.2.2.2.2 (u.1 3 0 - 1) (by omega) (by omega)).2.2.1, (hI.1.2.1.2.2 (u.1 3 0 - 1) (by omega) (by omega)).2.2.2.1⟩
  rcases h1 with ⟨a1, a3, a4⟩ | ⟨a1, a2, a3, a4⟩ | ⟨a1, a2, a5, a3, a4⟩ | ⟨a1, a2, a5, a3, a4⟩
  · rcases h2 with ⟨b1, b3, b4⟩ | ⟨b1, _⟩ | ⟨b1, _⟩ | ⟨b1, _⟩
    · rw [a4, b4]
      exact ⟨by omega, hI⟩
    · exact absurd b1 a1
    · exact absurd b1 a1
    · exact absurd b1 a1
  · rcases h2 with ⟨b1, _⟩ | ⟨_, b2, b3, b4⟩ | ⟨_, b2, b5, b3, b4⟩ | ⟨_, b2, b5, b3, b4⟩
    · exact absurd a1 b1
    · rw [a4, b4]
      exact ⟨by omega, hI⟩
    · omega
    · omega
  · have e5 := e4 a2
    rcases h2 with ⟨b1, _⟩ | ⟨_, b2, b3, b4⟩ | ⟨_, b2, b5, b3, b4⟩ | ⟨_, b2, b5, b3, b4⟩
    · exact absurd a1 b1
    · omega
    · rw [a4, b4]
      exact ⟨by omega, hI⟩
    · omega
  · have e5 := e4 a2
    rcases h2 with ⟨b1, _⟩ | ⟨_, b2, b3, b4⟩ | ⟨_, b2, b5, b3, b4⟩ | ⟨_, b2, b5, b3, b4⟩
    · exact absurd a1 b1
    · omega
    · omega
    · rw [a4, b4]
      exact ⟨by omega, at_Inv hI a1.1 a1.2.1 a1.2.2 a2 a5⟩
/-! the rules go -/
theorem drG_3 (g : xG) : drG g 3 0 = 0 := by simp [drG, up]
theorem drG_17 (g : xG) : drG g 17 0 = 0 := by simp [drG, up]
theorem drG_o (g : xG) {k : Nat} (h : k ≠ 3 ∧ k ≠ 17) : drG g k = g k := by
  funext j
  simp [drG, up, h]
theorem dr_Inv {u v : xSt} (hI : InvL u v) : InvL (drG u.1, u.2) (up v.1 2 0 0, v.2) := by
  obtain ⟨⟨hR, hV, hc, -⟩, hRm, hG⟩ := hI
  refine ⟨XI_new ?_ ⟨?_, ?_, fun r r0 r1 => ?_⟩ ?_ (drG_17 _), Rng_up hRm (by omega), ?_, ?_, fun r r0 r1 => ?_⟩
  · unfold drG
    exact Rng_up (Rng_up hR (by omega)) (by omega)
  · rw [drG_o u.1 (k := 0) (by decide), drG_o u.1 (k := 1) (by decide), drG_o u.1 (k := 2) (by decide)]
    exact hV.1
  · rw [drG_3]
    omega
  · rw [drG_3] at r1
    omega
  · rw [drG_o u.1 (k := 14) (by decide), drG_o u.1 (k := 15) (by decide)]
    exact hc
  · show ∀ t, 0 ≤ t → t ≤ 1 → up v.1 2 0 0 0 t = drG u.1 0 t ∧ ∀ i, 0 ≤ i → i < drG u.1 0 t → up v.1 2 0 0 1 (10 * t + 2 * i) = drG u.1 1 (5 * t + i) ∧ up v.1 2 0 0 1 (10 * t + 2 * i + 1) = drG u.1 2 (5 * t + i)
    rw [drG_o u.1 (k := 0) (by decide), drG_o u.1 (k := 1) (by decide), drG_o u.1 (k := 2) (by decide), up_o v.1 (k' := 0) 0 0 (by decide), up_o v.1 (k' := 1) 0 0 (by decide)]
    exact hG.1
  · show up v.1 2 0 0 2 0 = drG u.1 3 0
    rw [drG_3, up_s]
  · have r1 : r < drG u.1 3 0 := r1
    rw [drG_3] at r1
    omega
theorem jn_dropRules {u v u2 v2 : xSt} {r r2 : Int} (hI : InvL u v) (h1 : r = u.1 3 0 ∧ u2 = (drG u.1, u.2)) (h2 : r2 = v.1 2 0 ∧ v2 = (up v.1 2 0 0, v.2)) : r = r2 ∧ InvL u2 v2 := by
  have e2 := hI.2.2.2.1
  rw [h1.2, h2.2]
  exact ⟨by omega, dr_Inv hI⟩
/-! the answers -/
theorem i01_u {x y : Int} {P : Prop} (h1 : i01 x P) (h2 : i01 y P) : x = y := by
  rcases h1 with ⟨a, b⟩ | ⟨a, b⟩
  · rcases h2 with ⟨c, d⟩ | ⟨c, d⟩
    · omega
    · exact absurd b d
  · rcases h2 with ⟨c, d⟩ | ⟨c, d⟩
    · exact absurd d b
    · omega
theorem ans_Inv {u v u2 v2 : xSt} (hI : InvL u v) (h1 : XI u2) (h2 : ∀ k, k ≤ 9 → u2.1 k = u.1 k) (h3 : Rng v2.1) (h4 : ∀ k, k ≤ 6 → v2.1 k = v.1 k) : InvL u2 v2 := ⟨h1, h3, RelM_eqg h2 (RelM_eq h4 hI.2.2)⟩
theorem jn_ans {u v u2 v2 : xSt} {r r2 : Int} {P : Prop} (hI : InvL u v) (h1 : XI u2 ∧ (∀ k, k ≤ 9 → u2.1 k = u.1 k) ∧ i01 r P) (h2 : Rng v2.1 ∧ (∀ k, k ≤ 6 → v2.1 k = v.1 k) ∧ i01 r2 P) : r = r2 ∧ InvL u2 v2 := ⟨i01_u h1.2.2 h2.2.2, ans_Inv hI h1.1 h1.2.1 h2.1 h2.2.1⟩
theorem cntB_eq {f f2 : Nat → Bool} : ∀ n : Nat, (∀ k, k < n → (f k = true ↔ f2 k = true)) → cntB f n = cntB f2 n := by
  intro n
  induction n with
  | zero => intro _; rfl
  | succ n ih =>
    intro h
    show cntB f n + (if f n = true then 1 else 0) = cntB f2 n + (if f2 n = true then 1 else 0)
    rw [ih (fun k hk => h k (by omega)), Bool.eq_iff_iff.mpr (h n (by omega))]
theorem jn_cnt {u v u2 v2 : xSt} {r r2 : Int} {P : Nat → Prop} (hI : InvL u v) (h1 : XI u2 ∧ (∀ k, k ≤ 9 → u2.1 k = u.1 k) ∧ ∃ f : Nat → Bool, (∀ n : Nat, n < 49 → (f n = true ↔ P n)) ∧ r = cntB f 49) (h2 : Rng v2.1 ∧ (∀ k, k ≤ 6 → v2.1 k = v.1 k) ∧ ∃ f : Nat → Bool, (∀ n : Nat, n < 49 → (f n = true ↔ P n)) ∧ r2 = cntB f 49) : r = r2 ∧ InvL u2 v2 := by
  obtain ⟨a1, a2, f, a3, a4⟩ := h1
  obtain ⟨b1, b2, f2, b3, b4⟩ := h2
  refine ⟨?_, ans_Inv hI a1 a2 b1 b2⟩
  rw [a4, b4]
  exact cntB_eq 49 (fun k hk => (a3 k hk).trans (b3 k hk).symm)
theorem Inv_0 : InvL u00 u00 := by
  refine ⟨XI_new (fun k i => ?_) ⟨fun t h0 h1 => ⟨?_, ?_, fun i i0 i1 => ?_⟩, ?_, fun r r0 r1 => ?_⟩ ?_ rfl, fun k i => ?_, fun t h0 h1 => ⟨rfl, fun i i0 i1 => ⟨rfl, rfl⟩⟩, rfl, fun r r0 r1 => ⟨rfl, rfl, rfl, fun k k0 k1 => ⟨rfl, rfl, rfl⟩⟩⟩
  · show -1 ≤ (0 : Int) ∧ (0 : Int) ≤ 127
    omega
  · exact Int.le_refl 0
  · show (0 : Int) ≤ 5
    omega
  · have i1 : i < (0 : Int) := i1
    omega
  · show 0 ≤ (0 : Int) ∧ (0 : Int) ≤ 2
    omega
  · have r1 : r < (0 : Int) := r1
    omega
  · show cod 0 ∧ cod 0
    omega
  · show -1 ≤ (0 : Int) ∧ (0 : Int) ≤ 127
    omega
end
section
set_option maxRecDepth 100000
/-! THE CLAIM OUT OF ONE WALK OF THE LAW'S BODY. Your part is whole_start (and what it stands on); all else here is the same for every law, but numbers. -/
def R_law : String := "NaiveNullsLaw"
def lw_P (b : Addr) (xs : List Int32) (args : Array Value) (s : State) : Prop := args = #[.ref b] ∧ s.IntsAt b xs ∧ xs.length ≤ 256 ∧ (Jvm.Cond.and given_1 narrow_1).before args s = true
def lw_Q (_ : Array Value) (s : State) (o : Outcome) (t : State) : Prop := o = .returned (some (.int 1)) ∧ Framed s o t [] 600000 7290000
def lw_Z (below : List Frame) (a : Array Value) (s : State) : State → Prop := fun t => ∃ o, t.status = .running ∧ Ended t below o ∧ lw_Q a s o t
/-- the law's own end, with 1 on the stack, nothing written that was there before, its room as the claim has it -/
theorem lw_ret {p : Program} {l : Launch} {e : Env} {s : State} {m : MethodId} {below : List Frame} {meth : Method} {c : Code} {b : Nat} (hx : p.tables.exec = Jvm.exec) (hb : c.code = code) (hr : meth.sig.returnType = ret) (hlocks : meth.locks = false) {pc : Nat} {H : Heap} {ls : Array Slot} (hdg : decode code pc = .ok (.ireturn, 1)) : W p l e room_1 s m #[Value.ref b] below meth c H [] 600000 7290000 (lw_Z below #[Value.ref b] s) (F0 m pc ls [.int 1]) := by
  intro T hT X
  obtain ⟨fs, hret, hrun, hended, hW, hframe⟩ := X.leave (v := some (.int 1)) (hlocks := hlocks) (fun h => by rw [hr] at h; cases h)
  have hmeth' : T.vm.method? m = some meth := X.method'
  refine ⟨T.setFrames fs, ?_, .returned (some (.int 1)), hrun, hended, rfl, ⟨_, rfl⟩, hW, hframe⟩
  jvm_step X.here [X.here.top, hx, hb, hdg, hmeth', hr, ret, narrow_b1]
  (try refine ⟨rfl, ?_⟩); (try refine ⟨rfl, ?_⟩)
  first | (intro acts; rw [hret _ acts rfl rfl rfl]) | rw [hret _ _ rfl rfl rfl]
  exact Steps.refl _
/-- what holds at the law's entry: the machine, the code, the tables' words (any of lw_tbl by 'hts w (by decide +kernel)'), the script of L ints xs at the cell b, what the Statement gives of the start (any of its parts by flat_of_before) -/
def lw_At (p : Program) (s : State) (m : MethodId) (meth : Method) (c : Code) (b L : Nat) (xs : Nat → Int32) : Prop :=
  p.tables.exec = Jvm.exec ∧ c.code = code ∧ meth.sig.returnType = ret ∧ c.maxLocals = 4 ∧ s.vm.findClass R_law = some m.cls ∧ (∀ w ∈ lw_tbl, w.before #[Value.ref b] s = true) ∧ va_X b L xs s s.heap ∧ b < s.heap.size ∧ meth.locks = false ∧ (Jvm.Cond.and given_1 narrow_1).before #[Value.ref b] s = true
/-- the law's world: the object and the reference -/
abbrev wL (ax am : xAd) (u v : xSt) : va_W := wX ax u ++ wM am v
abbrev FL (D : va_G) (ax am : xAd) (p : Program) (m : MethodId) (c : Code) (s : State) (b : Nat) : Prop := CallFix p m c cL_law 4 s #[Value.ref b] lw_all R_law ∧ va_K D vwCl (tX ax ++ tM am) s
abbrev IL (D : va_G) (ax am : xAd) (s : State) (H : Heap) (locs : List Loc) (u v : xSt) : Prop := va_P D vwCl (wL ax am u v) H ∧ va_D (fun q : Nat => s.heap.size ≤ q) (wL ax am u v) ∧ va_S (fun q : Nat => s.heap.size ≤ q) s.heap H locs
section LAWR
variable {p : Program} {l : Launch} {e : Env} {s : State} {m : MethodId} {below : List Frame} {meth : Method} {c : Code} {H : Heap} {locs : List Loc} {Q : State → Prop} {pc : Nat} {ls : Array Slot} {rest : List Value} {D : va_G} {ax am : xAd} {u v : xSt} {b L : Nat} {xs : Nat → Int32}
/-- a number of the script -/
theorem lr_ld (C0 : lw_At p s m meth c b L xs) (hL : L ≤ 256) (I : IL D ax am s H locs u v) {x z : Int} (hz : xs (iI x).toNatClampNeg = iI z) (h : 0 ≤ x ∧ x < (L : Int)) (hdg : decode cL_law pc = .ok (.iaload, 1)) (kk : W p l e room_1 s m #[Value.ref b] below meth c H locs 25 318 Q (F0 m (pc + 1) ls (.int (iI z) :: rest))) : W p l e room_1 s m #[Value.ref b] below meth c H locs 25 318 Q (F0 m pc ls (.int (iI x) :: .ref b :: rest)) := by
  obtain ⟨hx, hb, hr, hml, hown, hts, hX, hbl, hlocks, hgv⟩ := C0
  refine va_sld hx hb hX hbl (Nat.not_le.mpr hbl) I.2.2 (iI_in h (by omega)) hdg ?_
  exact xi_re hz kk
theorem lr_len (C0 : lw_At p s m meth c b L xs) (I : IL D ax am s H locs u v) (hdg : decode cL_law pc = .ok (.arraylength, 1)) (kk : W p l e room_1 s m #[Value.ref b] below meth c H locs 25 318 Q (F0 m (pc + 1) ls (.int (iI (L : Int)) :: rest))) : W p l e room_1 s m #[Value.ref b] below meth c H locs 25 318 Q (F0 m pc ls (.ref b :: rest)) := by
  obtain ⟨hx, hb, hr, hml, hown, hts, hX, hbl, hlocks, hgv⟩ := C0
  refine va_slen hx hb hX hbl (Nat.not_le.mpr hbl) I.2.2 hdg ?_
  exact xi_re (iI_n (n := L)).symm kk
/-- a call of the object from the law -/
theorem lr_X {y : MethodName} {bytes : ByteArray} {maxL index : Nat} {ret : Option FieldType} {rm : Room} {As st : List Value} {post : Int → xSt → Prop} (F : FL D ax am p m c s b) (I : IL D ax am s H locs u v) (hM : MXi l D ax y bytes maxL ret rm As u post) (hw : GoodIn lw_all (wsV R_law index RX0 y (ws_ y bytes maxL ret))) (hd : y.cls = RX0 ∧ y.cls ≠ "java/lang/invoke/MethodHandle" ∧ y.cls ≠ "java/lang/invoke/VarHandle" ∧ (parseMethodDescriptor y.desc).map (fun d => d.parameters.length) = some As.length) (hRm : rm.cells = 0 ∧ rm.slots = 0) (hR : rm.frames + 1 ≤ room_1.frames ∧ 8 + (maxL + 11) + rm.locals ≤ room_1.locals) (hl : ls.size = 4) (hst : st = As.reverse ++ .ref ax.1 :: rest) (hW : (rest.map fun v => v.category).sum ≤ 8) (hdg : decode cL_law pc = .ok (.invokevirtual index, 3))
    (kk : ∀ (r : Int) (u2 : xSt) (H2 : Heap) (locs2 : List Loc), post r u2 → IL D ax am s H2 locs2 u2 v → W p l e room_1 s m #[Value.ref b] below meth c H2 locs2 25 318 Q (F0 m (pc + 3) ls (.int (iI r) :: rest))) : W p l e room_1 s m #[Value.ref b] below meth c H locs 25 318 Q (F0 m pc ls st) := by
  have hA : ∀ q : Nat, s.heap.size ≤ q → (fun q : Nat => s.heap.size ≤ q) q := fun _ h => h
  have hPc := I.1.sub (ws' := wX ax u) [0, 1, 2, 3, 4, 5, 6, 7, 8, 9, 10, 11, 12] rfl
  have hDc := I.2.1.sub (ws' := wX ax u) [0, 1, 2, 3, 4, 5, 6, 7, 8, 9, 10, 11, 12] (by decide) rfl
  have hKc := F.2.sub (tys' := tX ax) [0, 1, 2, 3, 4, 5, 6, 7, 8, 9, 10, 11] rfl
  have hFc := va_free (wc := wX ax u) I.2.1 I.2.2 hA [0, 1, 2, 3, 4, 5, 6, 7, 8, 9, 10, 11, 12] rfl
  refine va_calli (va_runV (As := As) (rest := rest) (C := RX0) F.1 (hM H.size) (cwV As.length F.1.2.2.2.2 hw rfl hRm.1 hRm.2 hd hR) ⟨fun a U g mk q => by obtain ⟨q0, q1, qP, qK, qD⟩ := q; exact ⟨q0, q1, qP, va_K.moved (u := U) (U := U.calling g mk a) (Vm.Alike.refl U.vm) qK, qD⟩, va_recv hKc hPc (ci := 0) (q0 := 0) rfl rfl, fun U hU hW => ⟨rfl, by rw [hU], by rw [hU]; exact hPc, va_K.moved hW.alike hKc, hDc.weaken (fun _ _ _ _ => trivial)⟩⟩ rfl rfl hl hst (lv_room hW) hdg ⟨Nat.le_of_ble_eq_true rfl, Nat.le_of_ble_eq_true rfl⟩) I.2.2 (fun q _ h => hFc q h) hFc (fun r u2 t H2 locs2 ht hvm hp hB hz hk hS => ?_)
  obtain ⟨ri, rfl, hp⟩ := hp
  obtain ⟨hP1, hK1, hD1⟩ := hB
  rw [ht] at hP1
  obtain ⟨hP, hD⟩ := va_join (wr := wM am v) (w1 := wX ax u2) I.1 I.2.1 [0, 1, 2, 3, 4, 5, 6, 7, 8, 9, 10, 11, 12] [13, 14, 15, 16, 17, 18, 19, 20, 21, 22, 23, 24] rfl rfl (by decide) (by decide) hk hFc hP1 hD1
  exact kk ri u2 H2 locs2 hp ⟨hP.sub (ws' := wL ax am u2 v) [12, 13, 14, 15, 16, 17, 18, 19, 20, 21, 22, 23, 24, 0, 1, 2, 3, 4, 5, 6, 7, 8, 9, 10, 11] rfl, hD.sub (ws' := wL ax am u2 v) [12, 13, 14, 15, 16, 17, 18, 19, 20, 21, 22, 23, 24, 0, 1, 2, 3, 4, 5, 6, 7, 8, 9, 10, 11] (by decide) rfl, hS⟩
/-- a call of the reference from the law -/
theorem lr_M {y : MethodName} {bytes : ByteArray} {maxL index : Nat} {ret : Option FieldType} {rm : Room} {As st : List Value} {post : Int → xSt → Prop} (F : FL D ax am p m c s b) (I : IL D ax am s H locs u v) (hM : MMi l D am y bytes maxL ret rm As v post) (hw : GoodIn lw_all (wsV R_law index RX1 y (ws_ y bytes maxL ret))) (hd : y.cls = RX1 ∧ y.cls ≠ "java/lang/invoke/MethodHandle" ∧ y.cls ≠ "java/lang/invoke/VarHandle" ∧ (parseMethodDescriptor y.desc).map (fun d => d.parameters.length) = some As.length) (hRm : rm.cells = 0 ∧ rm.slots = 0) (hR : rm.frames + 1 ≤ room_1.frames ∧ 8 + (maxL + 11) + rm.locals ≤ room_1.locals) (hl : ls.size = 4) (hst : st = As.reverse ++ .ref am.1 :: rest) (hW : (rest.map fun v => v.category).sum ≤ 8) (hdg : decode cL_law pc = .ok (.invokevirtual index, 3))
    (kk : ∀ (r : Int) (u2 : xSt) (H2 : Heap) (locs2 : List Loc), post r u2 → IL D ax am s H2 locs2 u u2 → W p l e room_1 s m #[Value.ref b] below meth c H2 locs2 25 318 Q (F0 m (pc + 3) ls (.int (iI r) :: rest))) : W p l e room_1 s m #[Value.ref b] below meth c H locs 25 318 Q (F0 m pc ls st) := by
  have hA : ∀ q : Nat, s.heap.size ≤ q → (fun q : Nat => s.heap.size ≤ q) q := fun _ h => h
  have hPc := I.1.sub (ws' := wM am v) [13, 14, 15, 16, 17, 18, 19, 20, 21, 22, 23, 24] rfl
  have hDc := I.2.1.sub (ws' := wM am v) [13, 14, 15, 16, 17, 18, 19, 20, 21, 22, 23, 24] (by decide) rfl
  have hKc := F.2.sub (tys' := tM am) [12, 13, 14, 15, 16, 17, 18, 19, 20, 21, 22] rfl
  have hFc := va_free (wc := wM am v) I.2.1 I.2.2 hA [13, 14, 15, 16, 17, 18, 19, 20, 21, 22, 23, 24] rfl
  refine va_calli (va_runV (As := As) (rest := rest) (C := RX1) F.1 (hM H.size) (cwV As.length F.1.2.2.2.2 hw rfl hRm.1 hRm.2 hd hR) ⟨fun a U g mk q => by obtain ⟨q0, q1, qP, qK, qD⟩ := q; exact ⟨q0, q1, qP, va_K.moved (u := U) (U := U.calling g mk a) (Vm.Alike.refl U.vm) qK, qD⟩, va_recv hKc hPc (ci := 1) (q0 := 0) rfl rfl, fun U hU hW => ⟨rfl, by rw [hU], by rw [hU]; exact hPc, va_K.moved hW.alike hKc, hDc.weaken (fun _ _ _ _ => trivial)⟩⟩ rfl rfl hl hst (lv_room hW) hdg ⟨Nat.le_of_ble_eq_true rfl, Nat.le_of_ble_eq_true rfl⟩) I.2.2 (fun q _ h => hFc q h) hFc (fun r u2 t H2 locs2 ht hvm hp hB hz hk hS => ?_)
  obtain ⟨ri, rfl, hp⟩ := hp
  obtain ⟨hP1, hK1, hD1⟩ := hB
  rw [ht] at hP1
  obtain ⟨hP, hD⟩ := va_join (wr := wX ax u) (w1 := wM am u2) I.1 I.2.1 [13, 14, 15, 16, 17, 18, 19, 20, 21, 22, 23, 24] [0, 1, 2, 3, 4, 5, 6, 7, 8, 9, 10, 11, 12] rfl rfl (by decide) (by decide) hk hFc hP1 hD1
  exact kk ri u2 H2 locs2 hp ⟨hP.sub (ws' := wL ax am u u2) [0, 1, 2, 3, 4, 5, 6, 7, 8, 9, 10, 11, 12, 13, 14, 15, 16, 17, 18, 19, 20, 21, 22, 23, 24] rfl, hD.sub (ws' := wL ax am u u2) [0, 1, 2, 3, 4, 5, 6, 7, 8, 9, 10, 11, 12, 13, 14, 15, 16, 17, 18, 19, 20, 21, 22, 23, 24] (by decide) rfl, hS⟩
end LAWR
end
section
set_option maxRecDepth 100000
section LAWC
variable {p : Program} {l : Launch} {e : Env} {s : State} {m : MethodId} {below : List Frame} {meth : Method} {c : Code} {H : Heap} {locs : List Loc} {ls : Array Slot} {D : va_G} {ax am : xAd} {u v : xSt} {b L : Nat} {xs : Nat → Int32}
set_option maxHeartbeats 4000000 in
/-- the law's case 0: addRow -/
theorem la_0 (C0 : lw_At p s m meth c b L xs) (hL : L ≤ 256) (F : FL D ax am p m c s b) {i : Int} (hi : 0 ≤ i ∧ i + 4 ≤ (L : Int)) (hI : InvL u v) (I : IL D ax am s H locs u v) (hl : lv_has ls 4 [(0, .ref b), (1, .ref ax.1), (2, .ref am.1), (3, .int (iI i))]) (next : ∀ (u v : xSt) (H : Heap) (locs : List Loc) (ls : Array Slot), InvL u v → IL D ax am s H locs u v → lv_has ls 4 [(0, .ref b), (1, .ref ax.1), (2, .ref am.1), (3, .int (iI i))] → W p l e room_1 s m #[Value.ref b] below meth c H locs 25 318 (lw_Z below #[Value.ref b] s) (F0 m 368 ls [])) : W p l e room_1 s m #[Value.ref b] below meth c H locs 25 318 (lw_Z below #[Value.ref b] s) (F0 m 88 ls []) := by
  have hx := F.1.1
  have hb := F.1.2.1
  obtain ⟨s1, hs1, r1⟩ : ∃ z : Int, xs (iI (i + 1)).toNatClampNeg = iI z ∧ i32 z := ⟨_, (iI_of _).symm, iI_rg _⟩
  obtain ⟨s2, hs2, r2⟩ : ∃ z : Int, xs (iI (i + 2)).toNatClampNeg = iI z ∧ i32 z := ⟨_, (iI_of _).symm, iI_rg _⟩
  obtain ⟨s3, hs3, r3⟩ : ∃ z : Int, xs (iI (i + 3)).toNatClampNeg = iI z ∧ i32 z := ⟨_, (iI_of _).symm, iI_rg _⟩
  refine lv_aload_n (pc := 88) hx hb dL_law_88 rfl (lv_at hl 1 rfl) ?_
  refine lv_aload_n (pc := 89) hx hb dL_law_89 rfl (lv_at hl 0 rfl) ?_
  refine lv_iload_n (pc := 90) hx hb dL_law_90 rfl (lv_at hl 3 rfl) ?_
  refine xi_ic (pc := 91) F.1 dL_law_91 ?_
  refine xi_iadd (pc := 92) F.1 dL_law_92 ?_
  refine lr_ld (pc := 93) C0 hL I hs1 (by omega) dL_law_93 ?_
  refine lv_aload_n (pc := 94) hx hb dL_law_94 rfl (lv_at hl 0 rfl) ?_
  refine lv_iload_n (pc := 95) hx hb dL_law_95 rfl (lv_at hl 3 rfl) ?_
  refine xi_ic (pc := 96) F.1 dL_law_96 ?_
  refine xi_iadd (pc := 97) F.1 dL_law_97 ?_
  refine lr_ld (pc := 98) C0 hL I hs2 (by omega) dL_law_98 ?_
  refine lv_aload_n (pc := 99) hx hb dL_law_99 rfl (lv_at hl 0 rfl) ?_
  refine lv_iload_n (pc := 100) hx hb dL_law_100 rfl (lv_at hl 3 rfl) ?_
  refine xi_ic (pc := 101) F.1 dL_law_101 ?_
  refine xi_iadd (pc := 102) F.1 dL_law_102 ?_
  refine lr_ld (pc := 103) C0 hL I hs3 (by omega) dL_law_103 ?_
  refine lr_X (pc := 104) (As := [.int (iI s1), .int (iI s2), .int (iI s3)]) (rest := []) F I (cX_addRow l D ax u s1 s2 s3 r1 r2 r3 hI.1.1 (fun j j0 j1 => ⟨(hI.1.2.1.1 j j0 j1).1, (hI.1.2.1.1 j j0 j1).2.1⟩)) (lw_V q96 q97 q98 q24 q99) hdX_addRow ⟨rfl, rfl⟩ ⟨Nat.le_of_ble_eq_true rfl, Nat.le_of_ble_eq_true rfl⟩ hl.1 rfl (Nat.le_of_ble_eq_true rfl) dL_law_104 (fun z1 u2 H locs hp1 I => ?_)
  refine lv_aload_n (pc := 107) hx hb dL_law_107 rfl (lv_at hl 2 rfl) ?_
  refine lv_aload_n (pc := 108) hx hb dL_law_108 rfl (lv_at hl 0 rfl) ?_
  refine lv_iload_n (pc := 109) hx hb dL_law_109 rfl (lv_at hl 3 rfl) ?_
  refine xi_ic (pc := 110) F.1 dL_law_110 ?_
  refine xi_iadd (pc := 111) F.1 dL_law_111 ?_
  refine lr_ld (pc := 112) C0 hL I hs1 (by omega) dL_law_112 ?_
  refine lv_aload_n (pc := 113) hx hb dL_law_113 rfl (lv_at hl 0 rfl) ?_
  refine lv_iload_n (pc := 114) hx hb dL_law_114 rfl (lv_at hl 3 rfl) ?_
  refine xi_ic (pc := 115) F.1 dL_law_115 ?_
  refine xi_iadd (pc := 116) F.1 dL_law_116 ?_
  refine lr_ld (pc := 117) C0 hL I hs2 (by omega) dL_law_117 ?_
  refine lv_aload_n (pc := 118) hx hb dL_law_118 rfl (lv_at hl 0 rfl) ?_
  refine lv_iload_n (pc := 119) hx hb dL_law_119 rfl (lv_at hl 3 rfl) ?_
  refine xi_ic (pc := 120) F.1 dL_law_120 ?_
  refine xi_iadd (pc := 121) F.1 dL_law_121 ?_
  refine lr_ld (pc := 122) C0 hL I hs3 (by omega) dL_law_122 ?_
  refine lr_M (pc := 123) (As := [.int (iI s1), .int (iI s2), .int (iI s3)]) (rest := [.int (iI z1)]) F I (cM_addRow l D am v s1 s2 s3 r1 r2 r3 hI.2.1 (fun j j0 j1 => by rw [(hI.2.2.1 j j0 j1).1]; exact ⟨(hI.1.2.1.1 j j0 j1).1, (hI.1.2.1.1 j j0 j1).2.1⟩)) (lw_V q232 q233 q234 q25 q235) hdM_addRow ⟨rfl, rfl⟩ ⟨Nat.le_of_ble_eq_true rfl, Nat.le_of_ble_eq_true rfl⟩ hl.1 rfl (Nat.le_of_ble_eq_true rfl) dL_law_123 (fun z2 v2 H locs hp2 I => ?_)
  have hj := jn_addRow hI hp1 hp2
  refine lv_icmp_eq (pc := 126) (tgt := 368) hx hb dL_law_126 (by decide) (fun _ => ?_) (fun q => absurd (by rw [hj.1]) q)
  exact next _ _ _ _ ls hj.2 I hl
set_option maxHeartbeats 4000000 in
/-- the law's case 1: dropRow -/
theorem la_1 (C0 : lw_At p s m meth c b L xs) (hL : L ≤ 256) (F : FL D ax am p m c s b) {i : Int} (hi : 0 ≤ i ∧ i + 4 ≤ (L : Int)) (hI : InvL u v) (I : IL D ax am s H locs u v) (hl : lv_has ls 4 [(0, .ref b), (1, .ref ax.1), (2, .ref am.1), (3, .int (iI i))]) (next : ∀ (u v : xSt) (H : Heap) (locs : List Loc) (ls : Array Slot), InvL u v → IL D ax am s H locs u v → lv_has ls 4 [(0, .ref b), (1, .ref ax.1), (2, .ref am.1), (3, .int (iI i))] → W p l e room_1 s m #[Value.ref b] below meth c H locs 25 318 (lw_Z below #[Value.ref b] s) (F0 m 368 ls [])) : W p l e room_1 s m #[Value.ref b] below meth c H locs 25 318 (lw_Z below #[Value.ref b] s) (F0 m 131 ls []) := by
  have hx := F.1.1
  have hb := F.1.2.1
  obtain ⟨s1, hs1, r1⟩ : ∃ z : Int, xs (iI (i + 1)).toNatClampNeg = iI z ∧ i32 z := ⟨_, (iI_of _).symm, iI_rg _⟩
  refine lv_aload_n (pc := 131) hx hb dL_law_131 rfl (lv_at hl 1 rfl) ?_
  refine lv_aload_n (pc := 132) hx hb dL_law_132 rfl (lv_at hl 0 rfl) ?_
  refine lv_iload_n (pc := 133) hx hb dL_law_133 rfl (lv_at hl 3 rfl) ?_
  refine xi_ic (pc := 134) F.1 dL_law_134 ?_
  refine xi_iadd (pc := 135) F.1 dL_law_135 ?_
  refine lr_ld (pc := 136) C0 hL I hs1 (by omega) dL_law_136 ?_
  refine lr_X (pc := 137) (As := [.int (iI s1)]) (rest := []) F I (cX_dropRow l D ax u s1 r1 hI.1.1 (fun j j0 j1 => ⟨(hI.1.2.1.1 j j0 j1).1, (hI.1.2.1.1 j j0 j1).2.1⟩)) (lw_V q104 q105 q106 q24 q107) hdX_dropRow ⟨rfl, rfl⟩ ⟨Nat.le_of_ble_eq_true rfl, Nat.le_of_ble_eq_true rfl⟩ hl.1 rfl (Nat.le_of_ble_eq_true rfl) dL_law_137 (fun z1 u2 H locs hp1 I => ?_)
  refine lv_aload_n (pc := 140) hx hb dL_law_140 rfl (lv_at hl 2 rfl) ?_
  refine lv_aload_n (pc := 141) hx hb dL_law_141 rfl (lv_at hl 0 rfl) ?_
  refine lv_iload_n (pc := 142) hx hb dL_law_142 rfl (lv_at hl 3 rfl) ?_
  refine xi_ic (pc := 143) F.1 dL_law_143 ?_
  refine xi_iadd (pc := 144) F.1 dL_law_144 ?_
  refine lr_ld (pc := 145) C0 hL I hs1 (by omega) dL_law_145 ?_
  refine lr_M (pc := 146) (As := [.int (iI s1)]) (rest := [.int (iI z1)]) F I (cM_dropRow l D am v s1 r1 hI.2.1 (fun j j0 j1 => by rw [(hI.2.2.1 j j0 j1).1]; exact ⟨(hI.1.2.1.1 j j0 j1).1, (hI.1.2.1.1 j j0 j1).2.1⟩)) (lw_V q244 q245 q246 q25 q247) hdM_dropRow ⟨rfl, rfl⟩ ⟨Nat.le_of_ble_eq_true rfl, Nat.le_of_ble_eq_true rfl⟩ hl.1 rfl (Nat.le_of_ble_eq_true rfl) dL_law_146 (fun z2 v2 H locs hp2 I => ?_)
  have hj := jn_dropRow hI hp1 hp2
  refine lv_icmp_eq (pc := 149) (tgt := 368) hx hb dL_law_149 (by decide) (fun _ => ?_) (fun q => absurd (by rw [hj.1]) q)
  exact next _ _ _ _ ls hj.2 I hl
set_option maxHeartbeats 4000000 in
/-- the law's case 2: learn -/
theorem la_2 (C0 : lw_At p s m meth c b L xs) (hL : L ≤ 256) (F : FL D ax am p m c s b) {i : Int} (hi : 0 ≤ i ∧ i + 4 ≤ (L : Int)) (hI : InvL u v) (I : IL D ax am s H locs u v) (hl : lv_has ls 4 [(0, .ref b), (1, .ref ax.1), (2, .ref am.1), (3, .int (iI i))]) (next : ∀ (u v : xSt) (H : Heap) (locs : List Loc) (ls : Array Slot), InvL u v → IL D ax am s H locs u v → lv_has ls 4 [(0, .ref b), (1, .ref ax.1), (2, .ref am.1), (3, .int (iI i))] → W p l e room_1 s m #[Value.ref b] below meth c H locs 25 318 (lw_Z below #[Value.ref b] s) (F0 m 368 ls [])) : W p l e room_1 s m #[Value.ref b] below meth c H locs 25 318 (lw_Z below #[Value.ref b] s) (F0 m 154 ls []) := by
  have hx := F.1.1
  have hb := F.1.2.1
  obtain ⟨s1, hs1, r1⟩ : ∃ z : Int, xs (iI (i + 1)).toNatClampNeg = iI z ∧ i32 z := ⟨_, (iI_of _).symm, iI_rg _⟩
  obtain ⟨s2, hs2, r2⟩ : ∃ z : Int, xs (iI (i + 2)).toNatClampNeg = iI z ∧ i32 z := ⟨_, (iI_of _).symm, iI_rg _⟩
  refine lv_aload_n (pc := 154) hx hb dL_law_154 rfl (lv_at hl 1 rfl) ?_
  refine lv_aload_n (pc := 155) hx hb dL_law_155 rfl (lv_at hl 0 rfl) ?_
  refine lv_iload_n (pc := 156) hx hb dL_law_156 rfl (lv_at hl 3 rfl) ?_
  refine xi_ic (pc := 157) F.1 dL_law_157 ?_
  refine xi_iadd (pc := 158) F.1 dL_law_158 ?_
  refine lr_ld (pc := 159) C0 hL I hs1 (by omega) dL_law_159 ?_
  refine lv_aload_n (pc := 160) hx hb dL_law_160 rfl (lv_at hl 0 rfl) ?_
  refine lv_iload_n (pc := 161) hx hb dL_law_161 rfl (lv_at hl 3 rfl) ?_
  refine xi_ic (pc := 162) F.1 dL_law_162 ?_
  refine xi_iadd (pc := 163) F.1 dL_law_163 ?_
  refine lr_ld (pc := 164) C0 hL I hs2 (by omega) dL_law_164 ?_
  refine lr_X (pc := 165) (As := [.int (iI s1), .int (iI s2)]) (rest := []) F I (cX_learn l D ax u s1 s2 r1 r2 hI.1.1) (lw_V q108 q109 q110 q24 q111) hdX_learn ⟨rfl, rfl⟩ ⟨Nat.le_of_ble_eq_true rfl, Nat.le_of_ble_eq_true rfl⟩ hl.1 rfl (Nat.le_of_ble_eq_true rfl) dL_law_165 (fun z1 u2 H locs hp1 I => ?_)
  refine lv_aload_n (pc := 168) hx hb dL_law_168 rfl (lv_at hl 2 rfl) ?_
  refine lv_aload_n (pc := 169) hx hb dL_law_169 rfl (lv_at hl 0 rfl) ?_
  refine lv_iload_n (pc := 170) hx hb dL_law_170 rfl (lv_at hl 3 rfl) ?_
  refine xi_ic (pc := 171) F.1 dL_law_171 ?_
  refine xi_iadd (pc := 172) F.1 dL_law_172 ?_
  refine lr_ld (pc := 173) C0 hL I hs1 (by omega) dL_law_173 ?_
  refine lv_aload_n (pc := 174) hx hb dL_law_174 rfl (lv_at hl 0 rfl) ?_
  refine lv_iload_n (pc := 175) hx hb dL_law_175 rfl (lv_at hl 3 rfl) ?_
  refine xi_ic (pc := 176) F.1 dL_law_176 ?_
  refine xi_iadd (pc := 177) F.1 dL_law_177 ?_
  refine lr_ld (pc := 178) C0 hL I hs2 (by omega) dL_law_178 ?_
  refine lr_M (pc := 179) (As := [.int (iI s1), .int (iI s2)]) (rest := [.int (iI z1)]) F I (cM_learn l D am v s1 s2 r1 r2 hI.2.1) (lw_V q248 q249 q250 q25 q251) hdM_learn ⟨rfl, rfl⟩ ⟨Nat.le_of_ble_eq_true rfl, Nat.le_of_ble_eq_true rfl⟩ hl.1 rfl (Nat.le_of_ble_eq_true rfl) dL_law_179 (fun z2 v2 H locs hp2 I => ?_)
  have hj := jn_learn hI hp1 hp2
  refine lv_icmp_eq (pc := 182) (tgt := 368) hx hb dL_law_182 (by decide) (fun _ => ?_) (fun q => absurd (by rw [hj.1]) q)
  exact next _ _ _ _ ls hj.2 I hl
set_option maxHeartbeats 4000000 in
/-- the law's case 3: rule -/
theorem la_3 (C0 : lw_At p s m meth c b L xs) (hL : L ≤ 256) (F : FL D ax am p m c s b) {i : Int} (hi : 0 ≤ i ∧ i + 4 ≤ (L : Int)) (hI : InvL u v) (I : IL D ax am s H locs u v) (hl : lv_has ls 4 [(0, .ref b), (1, .ref ax.1), (2, .ref am.1), (3, .int (iI i))]) (next : ∀ (u v : xSt) (H : Heap) (locs : List Loc) (ls : Array Slot), InvL u v → IL D ax am s H locs u v → lv_has ls 4 [(0, .ref b), (1, .ref ax.1), (2, .ref am.1), (3, .int (iI i))] → W p l e room_1 s m #[Value.ref b] below meth c H locs 25 318 (lw_Z below #[Value.ref b] s) (F0 m 368 ls [])) : W p l e room_1 s m #[Value.ref b] below meth c H locs 25 318 (lw_Z below #[Value.ref b] s) (F0 m 187 ls []) := by
  have hx := F.1.1
  have hb := F.1.2.1
  obtain ⟨s1, hs1, r1⟩ : ∃ z : Int, xs (iI (i + 1)).toNatClampNeg = iI z ∧ i32 z := ⟨_, (iI_of _).symm, iI_rg _⟩
  obtain ⟨s2, hs2, r2⟩ : ∃ z : Int, xs (iI (i + 2)).toNatClampNeg = iI z ∧ i32 z := ⟨_, (iI_of _).symm, iI_rg _⟩
  refine lv_aload_n (pc := 187) hx hb dL_law_187 rfl (lv_at hl 1 rfl) ?_
  refine lv_aload_n (pc := 188) hx hb dL_law_188 rfl (lv_at hl 0 rfl) ?_
  refine lv_iload_n (pc := 189) hx hb dL_law_189 rfl (lv_at hl 3 rfl) ?_
  refine xi_ic (pc := 190) F.1 dL_law_190 ?_
  refine xi_iadd (pc := 191) F.1 dL_law_191 ?_
  refine lr_ld (pc := 192) C0 hL I hs1 (by omega) dL_law_192 ?_
  refine lv_aload_n (pc := 193) hx hb dL_law_193 rfl (lv_at hl 0 rfl) ?_
  refine lv_iload_n (pc := 194) hx hb dL_law_194 rfl (lv_at hl 3 rfl) ?_
  refine xi_ic (pc := 195) F.1 dL_law_195 ?_
  refine xi_iadd (pc := 196) F.1 dL_law_196 ?_
  refine lr_ld (pc := 197) C0 hL I hs2 (by omega) dL_law_197 ?_
  refine lr_X (pc := 198) (As := [.int (iI s1), .int (iI s2)]) (rest := []) F I (cX_rule l D ax u s1 s2 r1 r2 hI.1.1 hI.1.2.1.2.1) (lw_V q112 q113 q114 q24 q115) hdX_rule ⟨rfl, rfl⟩ ⟨Nat.le_of_ble_eq_true rfl, Nat.le_of_ble_eq_true rfl⟩ hl.1 rfl (Nat.le_of_ble_eq_true rfl) dL_law_198 (fun z1 u2 H locs hp1 I => ?_)
  refine lv_aload_n (pc := 201) hx hb dL_law_201 rfl (lv_at hl 2 rfl) ?_
  refine lv_aload_n (pc := 202) hx hb dL_law_202 rfl (lv_at hl 0 rfl) ?_
  refine lv_iload_n (pc := 203) hx hb dL_law_203 rfl (lv_at hl 3 rfl) ?_
  refine xi_ic (pc := 204) F.1 dL_law_204 ?_
  refine xi_iadd (pc := 205) F.1 dL_law_205 ?_
  refine lr_ld (pc := 206) C0 hL I hs1 (by omega) dL_law_206 ?_
  refine lv_aload_n (pc := 207) hx hb dL_law_207 rfl (lv_at hl 0 rfl) ?_
  refine lv_iload_n (pc := 208) hx hb dL_law_208 rfl (lv_at hl 3 rfl) ?_
  refine xi_ic (pc := 209) F.1 dL_law_209 ?_
  refine xi_iadd (pc := 210) F.1 dL_law_210 ?_
  refine lr_ld (pc := 211) C0 hL I hs2 (by omega) dL_law_211 ?_
  refine lr_M (pc := 212) (As := [.int (iI s1), .int (iI s2)]) (rest := [.int (iI z1)]) F I (cM_rule l D am v s1 s2 r1 r2 hI.2.1 (by rw [hI.2.2.2.1]; exact hI.1.2.1.2.1)) (lw_V q252 q253 q254 q25 q255) hdM_rule ⟨rfl, rfl⟩ ⟨Nat.le_of_ble_eq_true rfl, Nat.le_of_ble_eq_true rfl⟩ hl.1 rfl (Nat.le_of_ble_eq_true rfl) dL_law_212 (fun z2 v2 H locs hp2 I => ?_)
  have hj := jn_rule hI hp1 hp2
  refine lv_icmp_eq (pc := 215) (tgt := 368) hx hb dL_law_215 (by decide) (fun _ => ?_) (fun q => absurd (by rw [hj.1]) q)
  exact next _ _ _ _ ls hj.2 I hl
set_option maxHeartbeats 4000000 in
/-- the law's case 4: atom -/
theorem la_4 (C0 : lw_At p s m meth c b L xs) (hL : L ≤ 256) (F : FL D ax am p m c s b) {i : Int} (hi : 0 ≤ i ∧ i + 4 ≤ (L : Int)) (hI : InvL u v) (I : IL D ax am s H locs u v) (hl : lv_has ls 4 [(0, .ref b), (1, .ref ax.1), (2, .ref am.1), (3, .int (iI i))]) (next : ∀ (u v : xSt) (H : Heap) (locs : List Loc) (ls : Array Slot), InvL u v → IL D ax am s H locs u v → lv_has ls 4 [(0, .ref b), (1, .ref ax.1), (2, .ref am.1), (3, .int (iI i))] → W p l e room_1 s m #[Value.ref b] below meth c H locs 25 318 (lw_Z below #[Value.ref b] s) (F0 m 368 ls [])) : W p l e room_1 s m #[Value.ref b] below meth c H locs 25 318 (lw_Z below #[Value.ref b] s) (F0 m 220 ls []) := by
  have hx := F.1.1
  have hb := F.1.2.1
  obtain ⟨s1, hs1, r1⟩ : ∃ z : Int, xs (iI (i + 1)).toNatClampNeg = iI z ∧ i32 z := ⟨_, (iI_of _).symm, iI_rg _⟩
  obtain ⟨s2, hs2, r2⟩ : ∃ z : Int, xs (iI (i + 2)).toNatClampNeg = iI z ∧ i32 z := ⟨_, (iI_of _).symm, iI_rg _⟩
  obtain ⟨s3, hs3, r3⟩ : ∃ z : Int, xs (iI (i + 3)).toNatClampNeg = iI z ∧ i32 z := ⟨_, (iI_of _).symm, iI_rg _⟩
  refine lv_aload_n (pc := 220) hx hb dL_law_220 rfl (lv_at hl 1 rfl) ?_
  refine lv_aload_n (pc := 221) hx hb dL_law_221 rfl (lv_at hl 0 rfl) ?_
  refine lv_iload_n (pc := 222) hx hb dL_law_222 rfl (lv_at hl 3 rfl) ?_
  refine xi_ic (pc := 223) F.1 dL_law_223 ?_
  refine xi_iadd (pc := 224) F.1 dL_law_224 ?_
  refine lr_ld (pc := 225) C0 hL I hs1 (by omega) dL_law_225 ?_
  refine lv_aload_n (pc := 226) hx hb dL_law_226 rfl (lv_at hl 0 rfl) ?_
  refine lv_iload_n (pc := 227) hx hb dL_law_227 rfl (lv_at hl 3 rfl) ?_
  refine xi_ic (pc := 228) F.1 dL_law_228 ?_
  refine xi_iadd (pc := 229) F.1 dL_law_229 ?_
  refine lr_ld (pc := 230) C0 hL I hs2 (by omega) dL_law_230 ?_
  refine lv_aload_n (pc := 231) hx hb dL_law_231 rfl (lv_at hl 0 rfl) ?_
  refine lv_iload_n (pc := 232) hx hb dL_law_232 rfl (lv_at hl 3 rfl) ?_
  refine xi_ic (pc := 233) F.1 dL_law_233 ?_
  refine xi_iadd (pc := 234) F.1 dL_law_234 ?_
  refine lr_ld (pc := 235) C0 hL I hs3 (by omega) dL_law_235 ?_
  refine lr_X (pc := 236) (As := [.int (iI s1), .int (iI s2), .int (iI s3)]) (rest := []) F I (cX_atom l D ax u s1 s2 s3 r1 r2 r3 hI.1.1 hI.1.2.1.2.1 (fun h => by have q := hI.1.2.1.2.2 (u.1 3 0 - 1) (by omega) (by omega); exact ⟨q.2.2.1, q.2.2.2.1⟩)) (lw_V q120 q121 q122 q24 q123) hdX_atom ⟨rfl, rfl⟩ ⟨Nat.le_of_ble_eq_true rfl, Nat.le_of_ble_eq_true rfl⟩ hl.1 rfl (Nat.le_of_ble_eq_true rfl) dL_law_236 (fun z1 u2 H locs hp1 I => ?_)
  refine lv_aload_n (pc := 239) hx hb dL_law_239 rfl (lv_at hl 2 rfl) ?_
  refine lv_aload_n (pc := 240) hx hb dL_law_240 rfl (lv_at hl 0 rfl) ?_
  refine lv_iload_n (pc := 241) hx hb dL_law_241 rfl (lv_at hl 3 rfl) ?_
  refine xi_ic (pc := 242) F.1 dL_law_242 ?_
  refine xi_iadd (pc := 243) F.1 dL_law_243 ?_
  refine lr_ld (pc := 244) C0 hL I hs1 (by omega) dL_law_244 ?_
  refine lv_aload_n (pc := 245) hx hb dL_law_245 rfl (lv_at hl 0 rfl) ?_
  refine lv_iload_n (pc := 246) hx hb dL_law_246 rfl (lv_at hl 3 rfl) ?_
  refine xi_ic (pc := 247) F.1 dL_law_247 ?_
  refine xi_iadd (pc := 248) F.1 dL_law_248 ?_
  refine lr_ld (pc := 249) C0 hL I hs2 (by omega) dL_law_249 ?_
  refine lv_aload_n (pc := 250) hx hb dL_law_250 rfl (lv_at hl 0 rfl) ?_
  refine lv_iload_n (pc := 251) hx hb dL_law_251 rfl (lv_at hl 3 rfl) ?_
  refine xi_ic (pc := 252) F.1 dL_law_252 ?_
  refine xi_iadd (pc := 253) F.1 dL_law_253 ?_
  refine lr_ld (pc := 254) C0 hL I hs3 (by omega) dL_law_254 ?_
  refine lr_M (pc := 255) (As := [.int (iI s1), .int (iI s2), .int (iI s3)]) (rest := [.int (iI z1)]) F I (cM_atom l D am v s1 s2 s3 r1 r2 r3 hI.2.1 (by rw [hI.2.2.2.1]; exact hI.1.2.1.2.1) (by rw [hI.2.2.2.1]; exact fun h => by rw [(hI.2.2.2.2 (u.1 3 0 - 1) (by omega) (by omega)).2.2.1]; have q := hI.1.2.1.2.2 (u.1 3 0 - 1) (by omega) (by omega); exact ⟨q.2.2.1, q.2.2.2.1⟩)) (lw_V q260 q261 q262 q25 q263) hdM_atom ⟨rfl, rfl⟩ ⟨Nat.le_of_ble_eq_true rfl, Nat.le_of_ble_eq_true rfl⟩ hl.1 rfl (Nat.le_of_ble_eq_true rfl) dL_law_255 (fun z2 v2 H locs hp2 I => ?_)
  have hj := jn_atom hI hp1 hp2
  refine lv_icmp_eq (pc := 258) (tgt := 368) hx hb dL_law_258 (by decide) (fun _ => ?_) (fun q => absurd (by rw [hj.1]) q)
  exact next _ _ _ _ ls hj.2 I hl
end LAWC
end
section
set_option maxRecDepth 100000
section LAWC
variable {p : Program} {l : Launch} {e : Env} {s : State} {m : MethodId} {below : List Frame} {meth : Method} {c : Code} {H : Heap} {locs : List Loc} {ls : Array Slot} {D : va_G} {ax am : xAd} {u v : xSt} {b L : Nat} {xs : Nat → Int32}
set_option maxHeartbeats 4000000 in
/-- the law's case 5: dropRules -/
theorem la_5 (C0 : lw_At p s m meth c b L xs) (hL : L ≤ 256) (F : FL D ax am p m c s b) {i : Int} (hi : 0 ≤ i ∧ i + 4 ≤ (L : Int)) (hI : InvL u v) (I : IL D ax am s H locs u v) (hl : lv_has ls 4 [(0, .ref b), (1, .ref ax.1), (2, .ref am.1), (3, .int (iI i))]) (next : ∀ (u v : xSt) (H : Heap) (locs : List Loc) (ls : Array Slot), InvL u v → IL D ax am s H locs u v → lv_has ls 4 [(0, .ref b), (1, .ref ax.1), (2, .ref am.1), (3, .int (iI i))] → W p l e room_1 s m #[Value.ref b] below meth c H locs 25 318 (lw_Z below #[Value.ref b] s) (F0 m 368 ls [])) : W p l e room_1 s m #[Value.ref b] below meth c H locs 25 318 (lw_Z below #[Value.ref b] s) (F0 m 263 ls []) := by
  have hx := F.1.1
  have hb := F.1.2.1
  refine lv_aload_n (pc := 263) hx hb dL_law_263 rfl (lv_at hl 1 rfl) ?_
  refine lr_X (pc := 264) (As := []) (rest := []) F I (cX_dropRules l D ax u hI.1.1) (lw_V q124 q125 q126 q24 q127) hdX_dropRules ⟨rfl, rfl⟩ ⟨Nat.le_of_ble_eq_true rfl, Nat.le_of_ble_eq_true rfl⟩ hl.1 rfl (Nat.le_of_ble_eq_true rfl) dL_law_264 (fun z1 u2 H locs hp1 I => ?_)
  refine lv_aload_n (pc := 267) hx hb dL_law_267 rfl (lv_at hl 2 rfl) ?_
  refine lr_M (pc := 268) (As := []) (rest := [.int (iI z1)]) F I (cM_dropRules l D am v hI.2.1) (lw_V q264 q265 q266 q25 q267) hdM_dropRules ⟨rfl, rfl⟩ ⟨Nat.le_of_ble_eq_true rfl, Nat.le_of_ble_eq_true rfl⟩ hl.1 rfl (Nat.le_of_ble_eq_true rfl) dL_law_268 (fun z2 v2 H locs hp2 I => ?_)
  have hj := jn_dropRules hI hp1 hp2
  refine lv_icmp_eq (pc := 271) (tgt := 368) hx hb dL_law_271 (by decide) (fun _ => ?_) (fun q => absurd (by rw [hj.1]) q)
  exact next _ _ _ _ ls hj.2 I hl
set_option maxHeartbeats 4000000 in
/-- the law's case 6: certain -/
theorem la_6 (C0 : lw_At p s m meth c b L xs) (hL : L ≤ 256) (F : FL D ax am p m c s b) {i : Int} (hi : 0 ≤ i ∧ i + 4 ≤ (L : Int)) (hI : InvL u v) (I : IL D ax am s H locs u v) (hl : lv_has ls 4 [(0, .ref b), (1, .ref ax.1), (2, .ref am.1), (3, .int (iI i))]) (next : ∀ (u v : xSt) (H : Heap) (locs : List Loc) (ls : Array Slot), InvL u v → IL D ax am s H locs u v → lv_has ls 4 [(0, .ref b), (1, .ref ax.1), (2, .ref am.1), (3, .int (iI i))] → W p l e room_1 s m #[Value.ref b] below meth c H locs 25 318 (lw_Z below #[Value.ref b] s) (F0 m 368 ls [])) : W p l e room_1 s m #[Value.ref b] below meth c H locs 25 318 (lw_Z below #[Value.ref b] s) (F0 m 276 ls []) := by
  have hx := F.1.1
  have hb := F.1.2.1
  obtain ⟨s1, hs1, r1⟩ : ∃ z : Int, xs (iI (i + 1)).toNatClampNeg = iI z ∧ i32 z := ⟨_, (iI_of _).symm, iI_rg _⟩
  obtain ⟨s2, hs2, r2⟩ : ∃ z : Int, xs (iI (i + 2)).toNatClampNeg = iI z ∧ i32 z := ⟨_, (iI_of _).symm, iI_rg _⟩
  refine lv_aload_n (pc := 276) hx hb dL_law_276 rfl (lv_at hl 1 rfl) ?_
  refine lv_aload_n (pc := 277) hx hb dL_law_277 rfl (lv_at hl 0 rfl) ?_
  refine lv_iload_n (pc := 278) hx hb dL_law_278 rfl (lv_at hl 3 rfl) ?_
  refine xi_ic (pc := 279) F.1 dL_law_279 ?_
  refine xi_iadd (pc := 280) F.1 dL_law_280 ?_
  refine lr_ld (pc := 281) C0 hL I hs1 (by omega) dL_law_281 ?_
  refine lv_aload_n (pc := 282) hx hb dL_law_282 rfl (lv_at hl 0 rfl) ?_
  refine lv_iload_n (pc := 283) hx hb dL_law_283 rfl (lv_at hl 3 rfl) ?_
  refine xi_ic (pc := 284) F.1 dL_law_284 ?_
  refine xi_iadd (pc := 285) F.1 dL_law_285 ?_
  refine lr_ld (pc := 286) C0 hL I hs2 (by omega) dL_law_286 ?_
  refine lr_X (pc := 287) (As := [.int (iI s1), .int (iI s2)]) (rest := []) F I (cX_certain l D ax u s1 s2 hI.1 r1 r2) (lw_V q128 q129 q130 q24 q131) hdX_certain ⟨rfl, rfl⟩ ⟨Nat.le_of_ble_eq_true rfl, Nat.le_of_ble_eq_true rfl⟩ hl.1 rfl (Nat.le_of_ble_eq_true rfl) dL_law_287 (fun z1 u2 H locs hp1 I => ?_)
  refine lv_aload_n (pc := 290) hx hb dL_law_290 rfl (lv_at hl 2 rfl) ?_
  refine lv_aload_n (pc := 291) hx hb dL_law_291 rfl (lv_at hl 0 rfl) ?_
  refine lv_iload_n (pc := 292) hx hb dL_law_292 rfl (lv_at hl 3 rfl) ?_
  refine xi_ic (pc := 293) F.1 dL_law_293 ?_
  refine xi_iadd (pc := 294) F.1 dL_law_294 ?_
  refine lr_ld (pc := 295) C0 hL I hs1 (by omega) dL_law_295 ?_
  refine lv_aload_n (pc := 296) hx hb dL_law_296 rfl (lv_at hl 0 rfl) ?_
  refine lv_iload_n (pc := 297) hx hb dL_law_297 rfl (lv_at hl 3 rfl) ?_
  refine xi_ic (pc := 298) F.1 dL_law_298 ?_
  refine xi_iadd (pc := 299) F.1 dL_law_299 ?_
  refine lr_ld (pc := 300) C0 hL I hs2 (by omega) dL_law_300 ?_
  refine lr_M (pc := 301) (As := [.int (iI s1), .int (iI s2)]) (rest := [.int (iI z1)]) F I (cM_certain l D am v s1 s2 u.1 hI.1.2.1 hI.2.2 r1 r2 hI.2.1) (lw_V q268 q269 q270 q25 q271) hdM_certain ⟨rfl, rfl⟩ ⟨Nat.le_of_ble_eq_true rfl, Nat.le_of_ble_eq_true rfl⟩ hl.1 rfl (Nat.le_of_ble_eq_true rfl) dL_law_301 (fun z2 v2 H locs hp2 I => ?_)
  have hj := jn_ans hI hp1 hp2
  refine lv_icmp_eq (pc := 304) (tgt := 368) hx hb dL_law_304 (by decide) (fun _ => ?_) (fun q => absurd (by rw [hj.1]) q)
  exact next _ _ _ _ ls hj.2 I hl
set_option maxHeartbeats 4000000 in
/-- the law's case 7: possible -/
theorem la_7 (C0 : lw_At p s m meth c b L xs) (hL : L ≤ 256) (F : FL D ax am p m c s b) {i : Int} (hi : 0 ≤ i ∧ i + 4 ≤ (L : Int)) (hI : InvL u v) (I : IL D ax am s H locs u v) (hl : lv_has ls 4 [(0, .ref b), (1, .ref ax.1), (2, .ref am.1), (3, .int (iI i))]) (next : ∀ (u v : xSt) (H : Heap) (locs : List Loc) (ls : Array Slot), InvL u v → IL D ax am s H locs u v → lv_has ls 4 [(0, .ref b), (1, .ref ax.1), (2, .ref am.1), (3, .int (iI i))] → W p l e room_1 s m #[Value.ref b] below meth c H locs 25 318 (lw_Z below #[Value.ref b] s) (F0 m 368 ls [])) : W p l e room_1 s m #[Value.ref b] below meth c H locs 25 318 (lw_Z below #[Value.ref b] s) (F0 m 309 ls []) := by
  have hx := F.1.1
  have hb := F.1.2.1
  obtain ⟨s1, hs1, r1⟩ : ∃ z : Int, xs (iI (i + 1)).toNatClampNeg = iI z ∧ i32 z := ⟨_, (iI_of _).symm, iI_rg _⟩
  obtain ⟨s2, hs2, r2⟩ : ∃ z : Int, xs (iI (i + 2)).toNatClampNeg = iI z ∧ i32 z := ⟨_, (iI_of _).symm, iI_rg _⟩
  refine lv_aload_n (pc := 309) hx hb dL_law_309 rfl (lv_at hl 1 rfl) ?_
  refine lv_aload_n (pc := 310) hx hb dL_law_310 rfl (lv_at hl 0 rfl) ?_
  refine lv_iload_n (pc := 311) hx hb dL_law_311 rfl (lv_at hl 3 rfl) ?_
  refine xi_ic (pc := 312) F.1 dL_law_312 ?_
  refine xi_iadd (pc := 313) F.1 dL_law_313 ?_
  refine lr_ld (pc := 314) C0 hL I hs1 (by omega) dL_law_314 ?_
  refine lv_aload_n (pc := 315) hx hb dL_law_315 rfl (lv_at hl 0 rfl) ?_
  refine lv_iload_n (pc := 316) hx hb dL_law_316 rfl (lv_at hl 3 rfl) ?_
  refine xi_ic (pc := 317) F.1 dL_law_317 ?_
  refine xi_iadd (pc := 318) F.1 dL_law_318 ?_
  refine lr_ld (pc := 319) C0 hL I hs2 (by omega) dL_law_319 ?_
  refine lr_X (pc := 320) (As := [.int (iI s1), .int (iI s2)]) (rest := []) F I (cX_possible l D ax u s1 s2 hI.1 r1 r2) (lw_V q172 q173 q174 q24 q175) hdX_possible ⟨rfl, rfl⟩ ⟨Nat.le_of_ble_eq_true rfl, Nat.le_of_ble_eq_true rfl⟩ hl.1 rfl (Nat.le_of_ble_eq_true rfl) dL_law_320 (fun z1 u2 H locs hp1 I => ?_)
  refine lv_aload_n (pc := 323) hx hb dL_law_323 rfl (lv_at hl 2 rfl) ?_
  refine lv_aload_n (pc := 324) hx hb dL_law_324 rfl (lv_at hl 0 rfl) ?_
  refine lv_iload_n (pc := 325) hx hb dL_law_325 rfl (lv_at hl 3 rfl) ?_
  refine xi_ic (pc := 326) F.1 dL_law_326 ?_
  refine xi_iadd (pc := 327) F.1 dL_law_327 ?_
  refine lr_ld (pc := 328) C0 hL I hs1 (by omega) dL_law_328 ?_
  refine lv_aload_n (pc := 329) hx hb dL_law_329 rfl (lv_at hl 0 rfl) ?_
  refine lv_iload_n (pc := 330) hx hb dL_law_330 rfl (lv_at hl 3 rfl) ?_
  refine xi_ic (pc := 331) F.1 dL_law_331 ?_
  refine xi_iadd (pc := 332) F.1 dL_law_332 ?_
  refine lr_ld (pc := 333) C0 hL I hs2 (by omega) dL_law_333 ?_
  refine lr_M (pc := 334) (As := [.int (iI s1), .int (iI s2)]) (rest := [.int (iI z1)]) F I (cM_possible l D am v s1 s2 u.1 hI.1.2.1 hI.2.2 r1 r2 hI.2.1) (lw_V q304 q305 q306 q25 q307) hdM_possible ⟨rfl, rfl⟩ ⟨Nat.le_of_ble_eq_true rfl, Nat.le_of_ble_eq_true rfl⟩ hl.1 rfl (Nat.le_of_ble_eq_true rfl) dL_law_334 (fun z2 v2 H locs hp2 I => ?_)
  have hj := jn_ans hI hp1 hp2
  refine lv_icmp_eq (pc := 337) (tgt := 368) hx hb dL_law_337 (by decide) (fun _ => ?_) (fun q => absurd (by rw [hj.1]) q)
  exact next _ _ _ _ ls hj.2 I hl
set_option maxHeartbeats 4000000 in
/-- the law's case 8: certainCount -/
theorem la_8 (C0 : lw_At p s m meth c b L xs) (hL : L ≤ 256) (F : FL D ax am p m c s b) {i : Int} (hi : 0 ≤ i ∧ i + 4 ≤ (L : Int)) (hI : InvL u v) (I : IL D ax am s H locs u v) (hl : lv_has ls 4 [(0, .ref b), (1, .ref ax.1), (2, .ref am.1), (3, .int (iI i))]) (next : ∀ (u v : xSt) (H : Heap) (locs : List Loc) (ls : Array Slot), InvL u v → IL D ax am s H locs u v → lv_has ls 4 [(0, .ref b), (1, .ref ax.1), (2, .ref am.1), (3, .int (iI i))] → W p l e room_1 s m #[Value.ref b] below meth c H locs 25 318 (lw_Z below #[Value.ref b] s) (F0 m 368 ls [])) : W p l e room_1 s m #[Value.ref b] below meth c H locs 25 318 (lw_Z below #[Value.ref b] s) (F0 m 342 ls []) := by
  have hx := F.1.1
  have hb := F.1.2.1
  refine lv_aload_n (pc := 342) hx hb dL_law_342 rfl (lv_at hl 1 rfl) ?_
  refine lr_X (pc := 343) (As := []) (rest := []) F I (cX_certainCount l D ax u hI.1) (lw_V q176 q177 q178 q24 q179) hdX_certainCount ⟨rfl, rfl⟩ ⟨Nat.le_of_ble_eq_true rfl, Nat.le_of_ble_eq_true rfl⟩ hl.1 rfl (Nat.le_of_ble_eq_true rfl) dL_law_343 (fun z1 u2 H locs hp1 I => ?_)
  refine lv_aload_n (pc := 346) hx hb dL_law_346 rfl (lv_at hl 2 rfl) ?_
  refine lr_M (pc := 347) (As := []) (rest := [.int (iI z1)]) F I (cM_certainCount l D am v u.1 hI.1.2.1 hI.2.2 hI.2.1) (lw_V q308 q309 q310 q25 q311) hdM_certainCount ⟨rfl, rfl⟩ ⟨Nat.le_of_ble_eq_true rfl, Nat.le_of_ble_eq_true rfl⟩ hl.1 rfl (Nat.le_of_ble_eq_true rfl) dL_law_347 (fun z2 v2 H locs hp2 I => ?_)
  have hj := jn_cnt hI hp1 hp2
  refine lv_icmp_eq (pc := 350) (tgt := 368) hx hb dL_law_350 (by decide) (fun _ => ?_) (fun q => absurd (by rw [hj.1]) q)
  exact next _ _ _ _ ls hj.2 I hl
set_option maxHeartbeats 4000000 in
/-- the law's case 9: alwaysSome -/
theorem la_9 (C0 : lw_At p s m meth c b L xs) (hL : L ≤ 256) (F : FL D ax am p m c s b) {i : Int} (hi : 0 ≤ i ∧ i + 4 ≤ (L : Int)) (hI : InvL u v) (I : IL D ax am s H locs u v) (hl : lv_has ls 4 [(0, .ref b), (1, .ref ax.1), (2, .ref am.1), (3, .int (iI i))]) (next : ∀ (u v : xSt) (H : Heap) (locs : List Loc) (ls : Array Slot), InvL u v → IL D ax am s H locs u v → lv_has ls 4 [(0, .ref b), (1, .ref ax.1), (2, .ref am.1), (3, .int (iI i))] → W p l e room_1 s m #[Value.ref b] below meth c H locs 25 318 (lw_Z below #[Value.ref b] s) (F0 m 368 ls [])) : W p l e room_1 s m #[Value.ref b] below meth c H locs 25 318 (lw_Z below #[Value.ref b] s) (F0 m 355 ls []) := by
  have hx := F.1.1
  have hb := F.1.2.1
  refine lv_aload_n (pc := 355) hx hb dL_law_355 rfl (lv_at hl 1 rfl) ?_
  refine lr_X (pc := 356) (As := []) (rest := []) F I (cX_alwaysSome l D ax u hI.1) (lw_V q180 q181 q182 q24 q183) hdX_alwaysSome ⟨rfl, rfl⟩ ⟨Nat.le_of_ble_eq_true rfl, Nat.le_of_ble_eq_true rfl⟩ hl.1 rfl (Nat.le_of_ble_eq_true rfl) dL_law_356 (fun z1 u2 H locs hp1 I => ?_)
  refine lv_aload_n (pc := 359) hx hb dL_law_359 rfl (lv_at hl 2 rfl) ?_
  refine lr_M (pc := 360) (As := []) (rest := [.int (iI z1)]) F I (cM_alwaysSome l D am v u.1 hI.1.2.1 hI.2.2 hI.2.1) (lw_V q312 q313 q314 q25 q315) hdM_alwaysSome ⟨rfl, rfl⟩ ⟨Nat.le_of_ble_eq_true rfl, Nat.le_of_ble_eq_true rfl⟩ hl.1 rfl (Nat.le_of_ble_eq_true rfl) dL_law_360 (fun z2 v2 H locs hp2 I => ?_)
  have hj := jn_ans hI hp1 hp2
  refine lv_icmp_eq (pc := 363) (tgt := 368) hx hb dL_law_363 (by decide) (fun _ => ?_) (fun q => absurd (by rw [hj.1]) q)
  exact next _ _ _ _ ls hj.2 I hl
end LAWC
end
section
set_option maxRecDepth 100000
set_option maxHeartbeats 4000000 in
/-- the law's loop, at its head -/
theorem law_loop {p : Program} {l : Launch} {e : Env} {s : State} {m : MethodId} {below : List Frame} {meth : Method} {c : Code} {D : va_G} {ax am : xAd} {b L : Nat} {xs : Nat → Int32} (C0 : lw_At p s m meth c b L xs) (hL : L ≤ 256) (F : FL D ax am p m c s b) : ∀ (n : Nat) (i : Int) (u v : xSt) (H : Heap) (locs : List Loc) (ls : Array Slot), (0 ≤ i ∧ i ≤ 256) → (L : Int) < i + n → InvL u v → IL D ax am s H locs u v → lv_has ls 4 [(0, .ref b), (1, .ref ax.1), (2, .ref am.1), (3, .int (iI i))] → W p l e room_1 s m #[Value.ref b] below meth c H locs 25 318 (lw_Z below #[Value.ref b] s) (F0 m 18 ls []) := by
  have hx := F.1.1
  have hb := F.1.2.1
  obtain ⟨_, _, hr, hml, hown, hts, hX, hbl, hlocks, hgv⟩ := id C0
  intro n
  induction n with
  | zero =>
    intro i u v H locs ls hi hn hI I hl
    refine lv_iload_n (pc := 18) hx hb dL_law_18 rfl (lv_at hl 3 rfl) ?_
    refine lv_aload_n (pc := 19) hx hb dL_law_19 rfl (lv_at hl 0 rfl) ?_
    refine lr_len (pc := 20) C0 I dL_law_20 ?_
    refine xi_ic (pc := 21) F.1 dL_law_21 ?_
    refine xi_isub (pc := 22) F.1 dL_law_22 ?_
    refine xi_cgt (pc := 23) (tgt := 374) F.1 (by omega) dL_law_23 (by decide) (fun c1 => ?_) (fun c1 => ?_)
    · refine lv_iconst (v := 1) (pc := 374) hx hb dL_law_374 (by decide) ?_
      refine va_forget (fun q hq => I.2.2.2.2 q hq) ?_
      refine W.widen (k := 600000) (n := 7290000) (Nat.le_of_ble_eq_true rfl) (Nat.le_of_ble_eq_true rfl) ?_
      exact lw_ret hx hb hr hlocks dL_law_375
    · exfalso
      omega
  | succ n ih =>
    intro i u v H locs ls hi hn hI I hl
    refine lv_iload_n (pc := 18) hx hb dL_law_18 rfl (lv_at hl 3 rfl) ?_
    refine lv_aload_n (pc := 19) hx hb dL_law_19 rfl (lv_at hl 0 rfl) ?_
    refine lr_len (pc := 20) C0 I dL_law_20 ?_
    refine xi_ic (pc := 21) F.1 dL_law_21 ?_
    refine xi_isub (pc := 22) F.1 dL_law_22 ?_
    refine xi_cgt (pc := 23) (tgt := 374) F.1 (by omega) dL_law_23 (by decide) (fun c1 => ?_) (fun c1 => ?_)
    · refine lv_iconst (v := 1) (pc := 374) hx hb dL_law_374 (by decide) ?_
      refine va_forget (fun q hq => I.2.2.2.2 q hq) ?_
      refine W.widen (k := 600000) (n := 7290000) (Nat.le_of_ble_eq_true rfl) (Nat.le_of_ble_eq_true rfl) ?_
      exact lw_ret hx hb hr hlocks dL_law_375
    · have hi4 : 0 ≤ i ∧ i + 4 ≤ (L : Int) := by omega
      have next : ∀ (u v : xSt) (H : Heap) (locs : List Loc) (ls : Array Slot), InvL u v → IL D ax am s H locs u v → lv_has ls 4 [(0, .ref b), (1, .ref ax.1), (2, .ref am.1), (3, .int (iI i))] → W p l e room_1 s m #[Value.ref b] below meth c H locs 25 318 (lw_Z below #[Value.ref b] s) (F0 m 368 ls []) := by
        intro u v H locs ls hI I hl
        refine xi_iinc (pc := 368) (lv' := [(3, .int (iI (i + 4))), (0, .ref b), (1, .ref ax.1), (2, .ref am.1)]) F.1 dL_law_368 hl (k := 3) rfl (by decide) rfl (fun ls hl => ?_)
        refine lv_goto (pc := 371) (tgt := 18) hx hb dL_law_371 (by decide) ?_
        exact ih (i + 4) u v H locs ls (by omega) (by omega) hI I (lv_sub hl [1, 2, 3, 0] rfl)
      obtain ⟨s0, hs0, r0⟩ : ∃ z : Int, xs (iI i).toNatClampNeg = iI z ∧ i32 z := ⟨_, (iI_of _).symm, iI_rg _⟩
      refine lv_aload_n (pc := 26) hx hb dL_law_26 rfl (lv_at hl 0 rfl) ?_
      refine lv_iload_n (pc := 27) hx hb dL_law_27 rfl (lv_at hl 3 rfl) ?_
      refine lr_ld (pc := 28) C0 hL I hs0 (by omega) dL_law_28 ?_
      refine xi_bp (pc := 29) F.1 dL_law_29 (by decide) ?_
      refine lv_iand (pc := 31) hx hb dL_law_31 ?_
      refine lv_topi (fun w hw => ?_)
      rcases (show w.toInt < 0 ∨ w.toInt = 0 ∨ w.toInt = 1 ∨ w.toInt = 2 ∨ w.toInt = 3 ∨ w.toInt = 4 ∨ w.toInt = 5 ∨ w.toInt = 6 ∨ w.toInt = 7 ∨ w.toInt = 8 ∨ w.toInt = 9 ∨ 9 < w.toInt by omega) with h | h | h | h | h | h | h | h | h | h | h | h
      · refine lv_tableOut (pc := 32) (tgt := 368) hx hb dL_law_32 (Or.inl h) (by decide) ?_
        exact next u v H locs ls hI I hl
      · refine lv_tableIn (pc := 32) (off := 56) (tgt := 88) hx hb dL_law_32 (by omega) (by omega) (by rw [h]; rfl) (by decide) ?_
        exact la_0 C0 hL F hi4 hI I hl next
      · refine lv_tableIn (pc := 32) (off := 99) (tgt := 131) hx hb dL_law_32 (by omega) (by omega) (by rw [h]; rfl) (by decide) ?_
        exact la_1 C0 hL F hi4 hI I hl next
      · refine lv_tableIn (pc := 32) (off := 122) (tgt := 154) hx hb dL_law_32 (by omega) (by omega) (by rw [h]; rfl) (by decide) ?_
        exact la_2 C0 hL F hi4 hI I hl next
      · refine lv_tableIn (pc := 32) (off := 155) (tgt := 187) hx hb dL_law_32 (by omega) (by omega) (by rw [h]; rfl) (by decide) ?_
        exact la_3 C0 hL F hi4 hI I hl next
      · refine lv_tableIn (pc := 32) (off := 188) (tgt := 220) hx hb dL_law_32 (by omega) (by omega) (by rw [h]; rfl) (by decide) ?_
        exact la_4 C0 hL F hi4 hI I hl next
      · refine lv_tableIn (pc := 32) (off := 231) (tgt := 263) hx hb dL_law_32 (by omega) (by omega) (by rw [h]; rfl) (by decide) ?_
        exact la_5 C0 hL F hi4 hI I hl next
      · refine lv_tableIn (pc := 32) (off := 244) (tgt := 276) hx hb dL_law_32 (by omega) (by omega) (by rw [h]; rfl) (by decide) ?_
        exact la_6 C0 hL F hi4 hI I hl next
      · refine lv_tableIn (pc := 32) (off := 277) (tgt := 309) hx hb dL_law_32 (by omega) (by omega) (by rw [h]; rfl) (by decide) ?_
        exact la_7 C0 hL F hi4 hI I hl next
      · refine lv_tableIn (pc := 32) (off := 310) (tgt := 342) hx hb dL_law_32 (by omega) (by omega) (by rw [h]; rfl) (by decide) ?_
        exact la_8 C0 hL F hi4 hI I hl next
      · refine lv_tableIn (pc := 32) (off := 323) (tgt := 355) hx hb dL_law_32 (by omega) (by omega) (by rw [h]; rfl) (by decide) ?_
        exact la_9 C0 hL F hi4 hI I hl next
      · refine lv_tableOut (pc := 32) (tgt := 368) hx hb dL_law_32 (Or.inr h) (by decide) ?_
        exact next u v H locs ls hI I hl
set_option maxHeartbeats 4000000 in
/-- the law, from its entry -/
theorem whole_start {p : Program} {e : Env} {s : State} {m : MethodId} {below : List Frame} {meth : Method} {c : Code} (l : Launch) {b L : Nat} {xs : Nat → Int32} (hL : L ≤ 256) (C0 : lw_At p s m meth c b L xs) : W p l e room_1 s m #[Value.ref b] below meth c s.heap [] 0 0 (lw_Z below #[Value.ref b] s) (entryFrame m ([Value.ref b] : List Value).toArray 4) := by
  obtain ⟨hx, hb, hr, hml, hown, hts0, hX, hbl, hlocks, hgv⟩ := id C0
  have hts : ∀ w ∈ lw_all, w.before #[Value.ref b] s = true := fun w h => hts0 w (lw_all_tbl h)
  have hA : ∀ q : Nat, s.heap.size ≤ q → (fun q : Nat => s.heap.size ≤ q) q := fun _ h => h
  obtain ⟨c0_, iS0, hKn0⟩ := u_known (C := RX0) (T := TX0) (N := 20) (n := 20) hts0 (fun w h => lw_all_tbl (in_X0 w h)) (hts0 _ (lw_all_tbl q27))
  obtain ⟨c1_, iS1, hKn1⟩ := u_known (C := RX1) (T := TX1) (N := 13) (n := 13) hts0 (fun w h => lw_all_tbl (in_X1 w h)) (hts0 _ (lw_all_tbl q185))
  obtain ⟨D, hKc⟩ : ∃ D : va_G, ∀ (k : Nat) (q : vw_C), vwCl[k]? = some q → u_Kn s q.1 q.2.1 q.2.2 (D.1 k) (D.2 k) := by
    refine ⟨(fun k => if k = 0 then c0_ else c1_, fun k => if k = 0 then iS0 else iS1), ?_⟩
    intro k q hq
    match k, hq with
    | 0, hq => cases hq; exact hKn0
    | 1, hq => cases hq; exact hKn1
    | k + 2, hq => simp [vwCl] at hq
  have hS : va_S (fun q : Nat => s.heap.size ≤ q) s.heap s.heap [] := va_S.rf
  have hK : va_K D vwCl [] s := ⟨hKc, fun k q h => by simp at h⟩
  have hP : va_P D vwCl [] s.heap := fun k q h => by simp at h
  have hD : va_D (fun q : Nat => s.heap.size ≤ q) [] := ⟨fun i j p q h => by simp at h, fun k q h => by simp at h⟩
  have hl := lv_entry ([.ref b]) (n := 4) (Nat.le_of_ble_eq_true rfl)
  rw [lg_entry_eq]
  generalize (lg_sl ([.ref b]) ++ List.replicate (4 - (lg_sl ([.ref b])).length) Slot.unset).toArray = ls at hl ⊢
  have hl : lv_has ls 4 [(0, .ref b)] := hl
  refine va_new (pc := 0) (ci := 0) (fs := fX0) (C := RX0) (T := TX0) (N := 20) hx hb hts in_X0 tyX0 tyX0_ok hown (hts _ q26) (hts _ q27) (hts _ q24) hK hP hD hS hA rfl (fun j hj => by rcases (show j = 0 ∨ j = 1 ∨ j = 2 ∨ j = 3 ∨ j = 4 ∨ j = 5 ∨ j = 6 ∨ j = 7 ∨ j = 8 ∨ j = 9 ∨ j = 10 ∨ j = 11 ∨ j = 12 ∨ j = 13 ∨ j = 14 ∨ j = 15 ∨ j = 16 ∨ j = 17 ∨ j = 18 ∨ j = 19 by omega) with rfl | rfl | rfl | rfl | rfl | rfl | rfl | rfl | rfl | rfl | rfl | rfl | rfl | rfl | rfl | rfl | rfl | rfl | rfl | rfl <;> rfl) (Nat.le_of_ble_eq_true rfl) (Nat.le_of_ble_eq_true rfl) dL_law_0 (fun q0v H hP hD hS => ?_)
  have hP : va_P D vwCl [(q0v, .inr (0, fX0))] H := hP
  have hD : va_D (fun q : Nat => s.heap.size ≤ q) [(q0v, .inr (0, fX0))] := hD
  refine W.widen (k := 1) (n := 20) (Nat.le_of_ble_eq_true rfl) (Nat.le_of_ble_eq_true rfl) ?_
  refine lv_dup (pc := 3) hx hb dL_law_3 rfl ?_
  have hFc := va_free (wc := [(q0v, .inr (0, fX0))]) hD hS hA [0] rfl
  refine va_callv (va_runI (As := []) (rest := [.ref q0v]) ⟨hx, hb, hml, hown, hts⟩ (cX_init l D q0v H.size) (cwI 0 hts (lw_meth q30) rfl rfl rfl (hts _ q24) (hts _ q28) (hts _ q29) rfl (by decide +kernel) ⟨Nat.le_of_ble_eq_true rfl, Nat.le_of_ble_eq_true rfl⟩) ⟨fun a U g mk q => by obtain ⟨q0, q1, qP, qK, qD⟩ := q; exact ⟨q0, q1, qP, va_K.moved (u := U) (U := U.calling g mk a) (Vm.Alike.refl U.vm) qK, qD⟩, fun U hU hW => ⟨rfl, by rw [hU], by rw [hU]; exact hP, va_K.moved hW.alike hK, hD.weaken (fun _ _ _ _ => trivial)⟩⟩ rfl rfl hl.1 rfl (lv_room (Nat.le_of_ble_eq_true rfl)) dL_law_4 ⟨Nat.le_of_ble_eq_true rfl, Nat.le_of_ble_eq_true rfl⟩) hS (fun q _ h => hFc q h) hFc (fun ax t H1 locs ht hvm hw hB hz1 hk1 hS => ?_)
  obtain ⟨hP1, hK1, hD1⟩ := hB
  rw [ht] at hP1
  have hK1 := va_K.moved hvm.symm hK1
  obtain ⟨hP, hD⟩ := va_join (wr := []) (w1 := wX ax u00) hP hD [0] [] rfl rfl (by decide) (by decide) hk1 hFc hP1 hD1
  generalize H1 = H at hP hS ⊢
  have hP : va_P D vwCl (wX ax u00) H := hP
  have hD : va_D (fun q : Nat => s.heap.size ≤ q) (wX ax u00) := hD
  have hK : va_K D vwCl (tX ax) s := hK1
  rw [← hw]
  refine W.widen (k := 13) (n := 105) (Nat.le_of_ble_eq_true rfl) (Nat.le_of_ble_eq_true rfl) ?_
  refine lv_astore_n (pc := 7) (lv' := [(1, .ref ax.1), (0, .ref b)]) hx hb dL_law_7 rfl hl (by decide) rfl (fun ls hl => ?_)
  refine va_new (pc := 8) (ci := 1) (fs := fM0) (C := RX1) (T := TX1) (N := 13) hx hb hts in_X1 tyX1 tyX1_ok hown (hts _ q184) (hts _ q185) (hts _ q25) hK hP hD hS hA rfl (fun j hj => by rcases (show j = 0 ∨ j = 1 ∨ j = 2 ∨ j = 3 ∨ j = 4 ∨ j = 5 ∨ j = 6 ∨ j = 7 ∨ j = 8 ∨ j = 9 ∨ j = 10 ∨ j = 11 ∨ j = 12 by omega) with rfl | rfl | rfl | rfl | rfl | rfl | rfl | rfl | rfl | rfl | rfl | rfl | rfl <;> rfl) (Nat.le_of_ble_eq_true rfl) (Nat.le_of_ble_eq_true rfl) dL_law_8 (fun q1v H hP hD hS => ?_)
  refine W.widen (k := 14) (n := 118) (Nat.le_of_ble_eq_true rfl) (Nat.le_of_ble_eq_true rfl) ?_
  refine lv_dup (pc := 11) hx hb dL_law_11 rfl ?_
  have hPc := hP.sub (ws' := [(q1v, .inr (1, fM0))]) [13] rfl
  have hDc := hD.sub (ws' := [(q1v, .inr (1, fM0))]) [13] (by decide) rfl
  have hKc := hK.sub (tys' := []) [] rfl
  have hFc := va_free (wc := [(q1v, .inr (1, fM0))]) hD hS hA [13] rfl
  refine va_callv (va_runI (As := []) (rest := [.ref q1v]) ⟨hx, hb, hml, hown, hts⟩ (cM_init l D q1v H.size) (cwI 0 hts (lw_meth q188) rfl rfl rfl (hts _ q25) (hts _ q186) (hts _ q187) rfl (by decide +kernel) ⟨Nat.le_of_ble_eq_true rfl, Nat.le_of_ble_eq_true rfl⟩) ⟨fun a U g mk q => by obtain ⟨q0, q1, qP, qK, qD⟩ := q; exact ⟨q0, q1, qP, va_K.moved (u := U) (U := U.calling g mk a) (Vm.Alike.refl U.vm) qK, qD⟩, fun U hU hW => ⟨rfl, by rw [hU], by rw [hU]; exact hPc, va_K.moved hW.alike hKc, hDc.weaken (fun _ _ _ _ => trivial)⟩⟩ rfl rfl hl.1 rfl (lv_room (Nat.le_of_ble_eq_true rfl)) dL_law_12 ⟨Nat.le_of_ble_eq_true rfl, Nat.le_of_ble_eq_true rfl⟩) hS (fun q _ h => hFc q h) hFc (fun am t H1 locs ht hvm hw2 hB hz1 hk1 hS => ?_)
  obtain ⟨hP1, hK1, hD1⟩ := hB
  rw [ht] at hP1
  have hK1 := va_K.moved hvm.symm hK1
  obtain ⟨hP, hD⟩ := va_join (wr := wX ax u00) (w1 := wM am u00) hP hD [13] [0, 1, 2, 3, 4, 5, 6, 7, 8, 9, 10, 11, 12] rfl rfl (by decide) (by decide) hk1 hFc hP1 hD1
  generalize H1 = H at hP hS ⊢
  have hK : va_K D vwCl (tX ax ++ tM am) s := hK.app hK1
  rw [← hw2]
  refine W.widen (k := 25) (n := 318) (Nat.le_of_ble_eq_true rfl) (Nat.le_of_ble_eq_true rfl) ?_
  refine lv_astore_n (pc := 15) (lv' := [(2, .ref am.1), (1, .ref ax.1), (0, .ref b)]) hx hb dL_law_15 rfl hl (by decide) rfl (fun ls hl => ?_)
  refine lv_iconst (v := iI 0) (pc := 16) hx hb dL_law_16 rfl ?_
  refine lv_istore_n (pc := 17) (lv' := [(3, .int (iI 0)), (2, .ref am.1), (1, .ref ax.1), (0, .ref b)]) hx hb dL_law_17 rfl hl (by decide) rfl (fun ls hl => ?_)
  exact law_loop C0 hL ⟨⟨hx, hb, hml, hown, hts⟩, hK⟩ 300 0 u00 u00 H locs ls (by omega) (by omega) Inv_0 ⟨hP, hD, hS⟩ (lv_sub hl [3, 2, 1, 0] rfl)
end
section
set_option maxRecDepth 100000
set_option maxHeartbeats 4000000 in
theorem lw_walk (l : Launch) (b : Addr) (xs : List Int32) : MetFree l x (headSpec (Jvm.Cond.code x code maxLocals ret :: tables_1) room_1) (lw_P b xs) (fun _ _ _ _ _ => True) lw_Q := by
  refine MetFree.of_bodyS (code := code) (maxLocals := maxLocals) (ret := ret) (by decide) ?_ ?_
  · intro args s m h hn
    obtain ⟨meth, c, h1, h2, h3, h4, h5, h6, -, -⟩ := Cond.code_spec hn (atoms_spec (ws := Jvm.Cond.code x code maxLocals ret :: tables_1) h _ List.mem_cons_self)
    exact ⟨meth, c, h1, h2, h3, h4, h5, h6⟩
  · intro p e s m args below meth c s₁ B hml0 hP _
    obtain ⟨rfl, hx, hbd, hgv⟩ := hP
    obtain ⟨scr, harrAt, hlist, hof, hsmall⟩ := hx
    obtain ⟨hcb, hkn, -, -⟩ := State.arrayAt?_spec harrAt
    have hown : s.vm.findClass R_law = some m.cls := findClass_of_methodNamed B.named
    have hts0 : ∀ c ∈ (Jvm.Cond.code x code maxLocals ret :: tables_1), c.before #[Value.ref b] s = true := atoms_spec (ws := Jvm.Cond.code x code maxLocals ret :: tables_1) B.pre
    have hts : ∀ w ∈ lw_tbl, w.before #[Value.ref b] s = true := k2_hts_sels lw_privs (fun w hw => hts0 w (List.mem_cons_of_mem _ hw)) lw_privs_ok
    have hml : c.maxLocals = 4 := B.maxLocals_eq (hts0 _ List.mem_cons_self)
    have X₀ : Stand p l e room_1 s m #[Value.ref b] below meth c s₁ [] 0 0 := Stand.of_body B
    have hh0 : s₁.heap = s.heap := by rw [B.state]; rfl
    have hsz : scr.slots.size = xs.length := by rw [← Array.length_toList, hlist, List.length_map]
    have hval : ∀ j : Nat, j < xs.length → scr.slots[j]? = some (.int (xs.getD j 0)) := fun j hj => by
      rw [← Array.getElem?_toList, hlist]
      simp [hj]
    have hbl : b < s.heap.size := (Array.getElem?_eq_some_iff.mp hcb).1
    have hX : va_X b xs.length (fun j => xs.getD j 0) s s.heap := ⟨scr, hcb, hof, hkn, hsz, hval⟩
    have K : W p l e room_1 s m #[Value.ref b] below meth c s₁.heap [] 0 0 (lw_Z below #[Value.ref b] s) (entryFrame m ([Value.ref b] : List Value).toArray 4) := by
      rw [hh0]
      exact whole_start l hbd ⟨B.exec, B.bytes, B.returns, hml, hown, hts, hX, hbl, B.notSynchronized, hgv⟩
    obtain ⟨t, a1, o, b1, b2, b3⟩ := K s₁ rfl X₀
    exact ⟨t, o, a1, b1, b2, b3⟩
theorem lw_pre_spec {args : Array Value} {s : State} (h : (Jvm.Cond.and given_1 narrow_1).before args s = true) (hr : rest_1_c.before args s = true) : ∃ (b : Addr) (xs : List Int32), lw_P b xs args s := by
  have hs := flat_of_before _ h
  have hq := flat_of_before _ hr
  have hc : (Cond.count 1).before args s = true := hs _ (by decide +kernel)
  have harr : (Cond.arrayOf (.arg 0) .int).before args s = true := hs _ (by decide +kernel)
  have hle : (Cond.le (.length (.arg 0)) (.int 256)).before args s = true := hs _ (by decide +kernel)
  have hlen : (Cond.isInt (.length (.arg 0))).before args s = true := hq _ (by decide +kernel)
  have hall : (Cond.all (.arg 0) (.isInt (.elem (.arg 0) (.index 0)))).before args s = true := hq _ (by decide +kernel)
  obtain ⟨b, xs, hb, hx⟩ := State.ints_of_pre rfl harr hlen hall
  have hsm : xs.length < 2 ^ 31 := hx.choose_spec.2.2.2
  have hev : (Term.length (.arg 0)).eval args s none [] s = some (.int xs.length.toInt32) := hx.length_eval hb
  have hv := Cond.le_ints hev (show (Term.int 256).eval args s none [] s = some (.int 256) from rfl)
  have hd : xs.length.toInt32 ≤ 256 := by
    simpa [Cond.before, Cond.holds, hv] using hle
  have hN : xs.length ≤ 256 := (Int32.ofNat_le_ofNat hsm (by decide)).mp (show Int32.ofNat xs.length ≤ Int32.ofNat 256 from hd)
  exact ⟨b, xs, Cond.one_arg hc (show args[0]? = some (.ref b) from hb), hx, hN, h⟩
theorem lw_comes (l : Launch) : Comes l x (Jvm.Cond.code x code maxLocals ret :: tables_1) room_1 (fun tb e args s => Calls_1 tb e args s ∧ rest_1 tb e args s ∧ Pre_1 tb e args s)
    (fun _ _ args s o t => lw_Q args s o t) := by
  intro p e ha hc hk s m args below hf hfit hheap happ hpre
  obtain ⟨b, xs, hP⟩ := lw_pre_spec hpre.2.2 hpre.2.1
  obtain ⟨k, o, h1, h2, h3, hQ⟩ := lw_walk l b xs p e ha hc hk s m args below hf ((Spec.applies_iff_loose hf).mp happ).1 hP trivial
  exact ⟨k, o, h1, h2, h3, hQ⟩
theorem lw_frame {s t : State} {o : Outcome} {args : Array Value} (h : Framed s o t [] 600000 7290000) :
    Framed s o t (fieldLocs frame_1_writes args s ++ arrayLocs frame_1_arrays args s ++ staticLocs frame_1_statics s) 600000 7290000 := h
theorem lw_limb (L : Cond) (hL : ∀ (args : Array Value) (s t : State), L.after args s (.returned (some (.int 1))) t = true) :
    ArmFor flags0 classFile x code maxLocals ret World_1 tables_1 room_1 Calls_1 rest_1 Pre_1
      (fun tb e a s o t => postC L tb e a s o t ∧ Framed s o t (fieldLocs frame_1_writes a s ++ arrayLocs frame_1_arrays a s ++ staticLocs frame_1_statics s) 600000 7290000) := by
  intro l _ _ _ p e ha hc hk s m args below hf hfit hheap happ hpre
  obtain ⟨k, o, h1, h2, h3, rfl, hF⟩ := lw_comes l p e ha hc hk s m args below hf hfit hheap happ hpre
  exact ⟨k, _, h1, h2, h3, hL args s _, lw_frame hF⟩
theorem i_vc : Claimed_1_1 ∧ Claimed_1_2 := ⟨lw_limb limb_1_1 (fun args s t => by simp [limb_1_1, Cond.after, Cond.holds, Cond.value]), lw_limb limb_1_2 (fun args s t => Cond.after_iff.mpr (by
  first | (rw [show limb_1_2 = Cond.eq .result (.int 1) from rfl, Cond.eq_ints (x := 1) (y := 1) rfl rfl]; simp; done) | (simp [limb_1_2, Cond.value, Term.eval]; done)))⟩
end
