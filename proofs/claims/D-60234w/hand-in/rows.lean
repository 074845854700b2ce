section
-- ===== PART A: goes FIRST, ahead of the names: the tables' words, and 'selects' of the private methods out of them =====
/-- a private method of a class that the tables say can be made, by its rows of tables_1 -/
def lw_okq (q : MethodName × Nat) : Prop := (q.1.cls ≠ "java/lang/invoke/MethodHandle" ∧ q.1.cls ≠ "java/lang/invoke/VarHandle") ∧ Cond.instantiable q.1.cls q.2 ∈ tables_1 ∧ Cond.privateMethod q.1 ∈ tables_1 ∧ Cond.instanceMethod q.1 ∈ tables_1
set_option maxRecDepth 100000
theorem lw_t1 {w : Cond} (h : w ∈ tables_1_1) : w ∈ tables_1 := List.mem_append_left _ h
theorem lw_t2 {w : Cond} (h : w ∈ tables_1_2) : w ∈ tables_1 := List.mem_append_right _ h
theorem lw_p0 : lw_okq (⟨"ScanDiagnose", "drop", "()V"⟩, 15) := ⟨⟨by decide +kernel, by decide +kernel⟩, lw_t1 (List.mem_of_getElem? (i := 4) rfl), lw_t1 (List.mem_of_getElem? (i := 12) rfl), lw_t1 (List.mem_of_getElem? (i := 13) rfl)⟩
theorem lw_p1 : lw_okq (⟨"ScanDiagnose", "isLine", "(I)Z"⟩, 15) := ⟨⟨by decide +kernel, by decide +kernel⟩, lw_t1 (List.mem_of_getElem? (i := 4) rfl), lw_t1 (List.mem_of_getElem? (i := 69) rfl), lw_t1 (List.mem_of_getElem? (i := 70) rfl)⟩
theorem lw_p2 : lw_okq (⟨"ScanDiagnose", "isFault", "(I)Z"⟩, 15) := ⟨⟨by decide +kernel, by decide +kernel⟩, lw_t1 (List.mem_of_getElem? (i := 4) rfl), lw_t1 (List.mem_of_getElem? (i := 89) rfl), lw_t1 (List.mem_of_getElem? (i := 90) rfl)⟩
theorem lw_p3 : lw_okq (⟨"ScanDiagnose", "runAll", "(II)V"⟩, 15) := ⟨⟨by decide +kernel, by decide +kernel⟩, lw_t1 (List.mem_of_getElem? (i := 4) rfl), lw_t1 (List.mem_of_getElem? (i := 103) rfl), lw_t1 (List.mem_of_getElem? (i := 104) rfl)⟩
theorem lw_p4 : lw_okq (⟨"ScanDiagnose", "settle", "(I)V"⟩, 15) := ⟨⟨by decide +kernel, by decide +kernel⟩, lw_t1 (List.mem_of_getElem? (i := 4) rfl), lw_t1 (List.mem_of_getElem? (i := 107) rfl), lw_t1 (List.mem_of_getElem? (i := 108) rfl)⟩
theorem lw_p5 : lw_okq (⟨"ScanDiagnose", "answerOf", "(I)I"⟩, 15) := ⟨⟨by decide +kernel, by decide +kernel⟩, lw_t1 (List.mem_of_getElem? (i := 4) rfl), lw_t1 (List.mem_of_getElem? (i := 117) rfl), lw_t1 (List.mem_of_getElem? (i := 118) rfl)⟩
theorem lw_p6 : lw_okq (⟨"ScanDiagnose", "faults", "()J"⟩, 15) := ⟨⟨by decide +kernel, by decide +kernel⟩, lw_t1 (List.mem_of_getElem? (i := 4) rfl), lw_t1 (List.mem_of_getElem? (i := 141) rfl), lw_t1 (List.mem_of_getElem? (i := 142) rfl)⟩
theorem lw_p7 : lw_okq (⟨"ScanDiagnose", "group", "()V"⟩, 15) := ⟨⟨by decide +kernel, by decide +kernel⟩, lw_t1 (List.mem_of_getElem? (i := 4) rfl), lw_t1 (List.mem_of_getElem? (i := 172) rfl), lw_t1 (List.mem_of_getElem? (i := 173) rfl)⟩
theorem lw_p8 : lw_okq (⟨"ScanDiagnose", "split", "(J)V"⟩, 15) := ⟨⟨by decide +kernel, by decide +kernel⟩, lw_t1 (List.mem_of_getElem? (i := 4) rfl), lw_t1 (List.mem_of_getElem? (i := 176) rfl), lw_t1 (List.mem_of_getElem? (i := 177) rfl)⟩
theorem lw_p9 : lw_okq (⟨"ScanDiagnose", "groupsWith", "(J)I"⟩, 15) := ⟨⟨by decide +kernel, by decide +kernel⟩, lw_t1 (List.mem_of_getElem? (i := 4) rfl), lw_t1 (List.mem_of_getElem? (i := 191) rfl), lw_t1 (List.mem_of_getElem? (i := 192) rfl)⟩
theorem lw_p10 : lw_okq (⟨"ScanDiagnoseModel", "badLine", "(I)Z"⟩, 12) := ⟨⟨by decide +kernel, by decide +kernel⟩, lw_t1 (List.mem_of_getElem? (i := 199) rfl), lw_t2 (List.mem_of_getElem? (i := 6) rfl), lw_t2 (List.mem_of_getElem? (i := 7) rfl)⟩
theorem lw_p11 : lw_okq (⟨"ScanDiagnoseModel", "lineCount", "()I"⟩, 12) := ⟨⟨by decide +kernel, by decide +kernel⟩, lw_t1 (List.mem_of_getElem? (i := 199) rfl), lw_t2 (List.mem_of_getElem? (i := 10) rfl), lw_t2 (List.mem_of_getElem? (i := 11) rfl)⟩
theorem lw_p12 : lw_okq (⟨"ScanDiagnoseModel", "badFault", "(I)Z"⟩, 12) := ⟨⟨by decide +kernel, by decide +kernel⟩, lw_t1 (List.mem_of_getElem? (i := 199) rfl), lw_t2 (List.mem_of_getElem? (i := 30) rfl), lw_t2 (List.mem_of_getElem? (i := 31) rfl)⟩
theorem lw_p13 : lw_okq (⟨"ScanDiagnoseModel", "badPattern", "(I)Z"⟩, 12) := ⟨⟨by decide +kernel, by decide +kernel⟩, lw_t1 (List.mem_of_getElem? (i := 199) rfl), lw_t2 (List.mem_of_getElem? (i := 38) rfl), lw_t2 (List.mem_of_getElem? (i := 39) rfl)⟩
theorem lw_p14 : lw_okq (⟨"ScanDiagnoseModel", "badCycles", "(I)Z"⟩, 12) := ⟨⟨by decide +kernel, by decide +kernel⟩, lw_t1 (List.mem_of_getElem? (i := 199) rfl), lw_t2 (List.mem_of_getElem? (i := 42) rfl), lw_t2 (List.mem_of_getElem? (i := 43) rfl)⟩
theorem lw_p15 : lw_okq (⟨"ScanDiagnoseModel", "run", "(III)I"⟩, 12) := ⟨⟨by decide +kernel, by decide +kernel⟩, lw_t1 (List.mem_of_getElem? (i := 199) rfl), lw_t2 (List.mem_of_getElem? (i := 46) rfl), lw_t2 (List.mem_of_getElem? (i := 47) rfl)⟩
def lw_privs_1 : List (MethodName × Nat) := [(⟨"ScanDiagnose", "drop", "()V"⟩, 15), (⟨"ScanDiagnose", "isLine", "(I)Z"⟩, 15), (⟨"ScanDiagnose", "isFault", "(I)Z"⟩, 15), (⟨"ScanDiagnose", "runAll", "(II)V"⟩, 15), (⟨"ScanDiagnose", "settle", "(I)V"⟩, 15), (⟨"ScanDiagnose", "answerOf", "(I)I"⟩, 15), (⟨"ScanDiagnose", "faults", "()J"⟩, 15), (⟨"ScanDiagnose", "group", "()V"⟩, 15), (⟨"ScanDiagnose", "split", "(J)V"⟩, 15), (⟨"ScanDiagnose", "groupsWith", "(J)I"⟩, 15), (⟨"ScanDiagnoseModel", "badLine", "(I)Z"⟩, 12), (⟨"ScanDiagnoseModel", "lineCount", "()I"⟩, 12), (⟨"ScanDiagnoseModel", "badFault", "(I)Z"⟩, 12), (⟨"ScanDiagnoseModel", "badPattern", "(I)Z"⟩, 12), (⟨"ScanDiagnoseModel", "badCycles", "(I)Z"⟩, 12), (⟨"ScanDiagnoseModel", "run", "(III)I"⟩, 12)]
theorem lw_r1 : ∀ q ∈ lw_privs_1, lw_okq q := List.forall_mem_cons.mpr ⟨lw_p0, List.forall_mem_cons.mpr ⟨lw_p1, List.forall_mem_cons.mpr ⟨lw_p2, List.forall_mem_cons.mpr ⟨lw_p3, List.forall_mem_cons.mpr ⟨lw_p4, List.forall_mem_cons.mpr ⟨lw_p5, List.forall_mem_cons.mpr ⟨lw_p6, List.forall_mem_cons.mpr ⟨lw_p7, List.forall_mem_cons.mpr ⟨lw_p8, List.forall_mem_cons.mpr ⟨lw_p9, List.forall_mem_cons.mpr ⟨lw_p10, List.forall_mem_cons.mpr ⟨lw_p11, List.forall_mem_cons.mpr ⟨lw_p12, List.forall_mem_cons.mpr ⟨lw_p13, List.forall_mem_cons.mpr ⟨lw_p14, List.forall_mem_cons.mpr ⟨lw_p15, fun _ h => absurd h List.not_mem_nil⟩⟩⟩⟩⟩⟩⟩⟩⟩⟩⟩⟩⟩⟩⟩⟩
theorem lw_p16 : lw_okq (⟨"ScanDiagnoseModel", "settle", "(III)V"⟩, 12) := ⟨⟨by decide +kernel, by decide +kernel⟩, lw_t1 (List.mem_of_getElem? (i := 199) rfl), lw_t2 (List.mem_of_getElem? (i := 50) rfl), lw_t2 (List.mem_of_getElem? (i := 51) rfl)⟩
theorem lw_p17 : lw_okq (⟨"ScanDiagnoseModel", "gateValue", "(I)I"⟩, 12) := ⟨⟨by decide +kernel, by decide +kernel⟩, lw_t1 (List.mem_of_getElem? (i := 199) rfl), lw_t2 (List.mem_of_getElem? (i := 54) rfl), lw_t2 (List.mem_of_getElem? (i := 55) rfl)⟩
theorem lw_p18 : lw_okq (⟨"ScanDiagnoseModel", "explains", "(I)Z"⟩, 12) := ⟨⟨by decide +kernel, by decide +kernel⟩, lw_t1 (List.mem_of_getElem? (i := 199) rfl), lw_t2 (List.mem_of_getElem? (i := 78) rfl), lw_t2 (List.mem_of_getElem? (i := 79) rfl)⟩
theorem lw_p19 : lw_okq (⟨"ScanDiagnoseModel", "alike", "(II)Z"⟩, 12) := ⟨⟨by decide +kernel, by decide +kernel⟩, lw_t1 (List.mem_of_getElem? (i := 199) rfl), lw_t2 (List.mem_of_getElem? (i := 102) rfl), lw_t2 (List.mem_of_getElem? (i := 103) rfl)⟩
theorem lw_p20 : lw_okq (⟨"ScanDiagnoseModel", "earliest", "(I)I"⟩, 12) := ⟨⟨by decide +kernel, by decide +kernel⟩, lw_t1 (List.mem_of_getElem? (i := 199) rfl), lw_t2 (List.mem_of_getElem? (i := 110) rfl), lw_t2 (List.mem_of_getElem? (i := 111) rfl)⟩
theorem lw_p21 : lw_okq (⟨"ScanDiagnoseModel", "possible", "(I)Z"⟩, 12) := ⟨⟨by decide +kernel, by decide +kernel⟩, lw_t1 (List.mem_of_getElem? (i := 199) rfl), lw_t2 (List.mem_of_getElem? (i := 122) rfl), lw_t2 (List.mem_of_getElem? (i := 123) rfl)⟩
def lw_privs_2 : List (MethodName × Nat) := [(⟨"ScanDiagnoseModel", "settle", "(III)V"⟩, 12), (⟨"ScanDiagnoseModel", "gateValue", "(I)I"⟩, 12), (⟨"ScanDiagnoseModel", "explains", "(I)Z"⟩, 12), (⟨"ScanDiagnoseModel", "alike", "(II)Z"⟩, 12), (⟨"ScanDiagnoseModel", "earliest", "(I)I"⟩, 12), (⟨"ScanDiagnoseModel", "possible", "(I)Z"⟩, 12)]
theorem lw_r2 : ∀ q ∈ lw_privs_2, lw_okq q := List.forall_mem_cons.mpr ⟨lw_p16, List.forall_mem_cons.mpr ⟨lw_p17, List.forall_mem_cons.mpr ⟨lw_p18, List.forall_mem_cons.mpr ⟨lw_p19, List.forall_mem_cons.mpr ⟨lw_p20, List.forall_mem_cons.mpr ⟨lw_p21, fun _ h => absurd h List.not_mem_nil⟩⟩⟩⟩⟩⟩
def lw_privs : List (MethodName × Nat) := lw_privs_1 ++ (lw_privs_2)
def lw_tbl : List Cond := k2_sels lw_privs ++ tables_1
theorem lw_privs_ok : ∀ q ∈ lw_privs, lw_okq q := by
  show ∀ q ∈ lw_privs_1 ++ (lw_privs_2), lw_okq q
  exact List.forall_mem_append.mpr ⟨lw_r1, lw_r2⟩
-- ===== ONE list of words for every method: the tables' words that hold all through a run =====
def lw_all : List Cond := lw_tbl.filter goodWord
/-- a word of the tables by its place: claim/WORDS.tsv -/
theorem lw_w {w : Cond} (i : Nat) (h : lw_tbl[i]? = some w) (g : goodWord w = true) : w ∈ lw_all := List.mem_filter.mpr ⟨List.mem_of_getElem? h, g⟩
theorem lw_all_tbl {w : Cond} (h : w ∈ lw_all) : w ∈ lw_tbl := (List.mem_filter.mp h).1
theorem lw_self : GoodIn lw_all lw_all := fun w h => ⟨h, good_of_word (List.mem_filter.mp h).2⟩
/-- a class's field words, by their places -/
theorem lw_in (ws : List Cond) (ps : List Nat) (hp : ws = ps.filterMap (fun i => lw_tbl[i]?)) (hg : ws.all goodWord = true) : ∀ w ∈ ws, w ∈ lw_all := by
  intro w h
  have h1 := List.all_eq_true.mp hg w h
  rw [hp] at h
  obtain ⟨i, -, hi⟩ := List.mem_filterMap.mp h
  exact lw_w i hi h1
/-- the words of a contract for the method y with code b, L locals, answer r -/
abbrev ws_ (y : MethodName) (b : ByteArray) (L : Nat) (r : Option FieldType) : List Cond := Cond.code y b L r :: lw_all
theorem lw_meth {y : MethodName} {b : ByteArray} {L : Nat} {r : Option FieldType} (h : Cond.code y b L r ∈ lw_all) : GoodIn lw_all (ws_ y b L r) := by
  intro w hw
  rcases List.mem_cons.mp hw with e | e
  · rw [e]
    exact lw_self _ h
  · exact lw_self _ e
theorem lw_app {a c : List Cond} (ha : ∀ w ∈ a, w ∈ lw_all) (hc : GoodIn lw_all c) : GoodIn lw_all (a ++ c) := by
  intro w hw
  rcases List.mem_append.mp hw with e | e
  · exact lw_self w (ha w e)
  · exact hc w e
/-- what a call through an object asks: cwV n hts (lw_V ..) -/
theorem lw_V {own : String} {idx : Nat} {C : String} {y : MethodName} {b : ByteArray} {L : Nat} {r : Option FieldType} (h1 : Cond.methodLink own idx y ∈ lw_all) (h2 : Cond.instanceMethod y ∈ lw_all) (h3 : Cond.selects C y y ∈ lw_all) (h4 : Cond.initialized C ∈ lw_all) (h5 : Cond.code y b L r ∈ lw_all) : GoodIn lw_all (wsV own idx C y (ws_ y b L r)) := by
  refine lw_app ?_ (lw_meth h5)
  intro w hw
  simp only [List.mem_cons, List.not_mem_nil, or_false] at hw
  rcases hw with e | e | e | e
  · rw [e]; exact h1
  · rw [e]; exact h2
  · rw [e]; exact h3
  · rw [e]; exact h4
/-- what a static call asks: va_cwS n hts (lw_S ..) -/
theorem lw_S {own : String} {idx : Nat} {y : MethodName} {b : ByteArray} {L : Nat} {r : Option FieldType} (h1 : Cond.methodLink own idx y ∈ lw_all) (h2 : Cond.static y ∈ lw_all) (h3 : Cond.initialized y.cls ∈ lw_all) (h4 : Cond.code y b L r ∈ lw_all) : GoodIn lw_all (va_wsS own idx y (ws_ y b L r)) := by
  refine lw_app ?_ (lw_meth h4)
  intro w hw
  simp only [List.mem_cons, List.not_mem_nil, or_false] at hw
  rcases hw with e | e | e
  · rw [e]; exact h1
  · rw [e]; exact h2
  · rw [e]; exact h3
/-- the words of a contract for a method WITH HANDLERS (hh: its table) -/
abbrev wsW_ (y : MethodName) (b : ByteArray) (L : Nat) (r : Option FieldType) (hh : List (Nat × Nat × Nat × Nat)) : List Cond := Cond.codeWith y b L r hh :: lw_all
theorem lw_methW {y : MethodName} {b : ByteArray} {L : Nat} {r : Option FieldType} {hh : List (Nat × Nat × Nat × Nat)} (h : Cond.codeWith y b L r hh ∈ lw_all) : GoodIn lw_all (wsW_ y b L r hh) := by
  intro w hw
  rcases List.mem_cons.mp hw with e | e
  · rw [e]
    exact lw_self _ h
  · exact lw_self _ e
/-- any list of words by their places (lw_in), good -/
theorem lw_good {ws : List Cond} (h : ∀ w ∈ ws, w ∈ lw_all) : GoodIn lw_all ws := fun w hw => lw_self w (h w hw)
/-- what a call of a method with handlers asks: vx_cwVW n hts (lw_VW ..), vx_cwSW n hts (lw_SW ..) -/
theorem lw_VW {own : String} {idx : Nat} {C : String} {y : MethodName} {b : ByteArray} {L : Nat} {r : Option FieldType} {hh : List (Nat × Nat × Nat × Nat)} (h1 : Cond.methodLink own idx y ∈ lw_all) (h2 : Cond.instanceMethod y ∈ lw_all) (h3 : Cond.selects C y y ∈ lw_all) (h4 : Cond.initialized C ∈ lw_all) (h5 : Cond.codeWith y b L r hh ∈ lw_all) : GoodIn lw_all (wsV own idx C y (wsW_ y b L r hh)) := by
  refine lw_app ?_ (lw_methW h5)
  intro w hw
  simp only [List.mem_cons, List.not_mem_nil, or_false] at hw
  rcases hw with e | e | e | e
  · rw [e]; exact h1
  · rw [e]; exact h2
  · rw [e]; exact h3
  · rw [e]; exact h4
theorem lw_SW {own : String} {idx : Nat} {y : MethodName} {b : ByteArray} {L : Nat} {r : Option FieldType} {hh : List (Nat × Nat × Nat × Nat)} (h1 : Cond.methodLink own idx y ∈ lw_all) (h2 : Cond.static y ∈ lw_all) (h3 : Cond.initialized y.cls ∈ lw_all) (h4 : Cond.codeWith y b L r hh ∈ lw_all) : GoodIn lw_all (va_wsS own idx y (wsW_ y b L r hh)) := by
  refine lw_app ?_ (lw_methW h4)
  intro w hw
  simp only [List.mem_cons, List.not_mem_nil, or_false] at hw
  rcases hw with e | e | e
  · rw [e]; exact h1
  · rw [e]; exact h2
  · rw [e]; exact h3
/-- a word by its place in its run of the tables -/
theorem lw_at {r : List Cond} (hr : ∀ w ∈ r, w ∈ lw_tbl) {w : Cond} (i : Nat) (h : r[i]? = some w) : w ∈ lw_tbl := hr w (List.mem_of_getElem? h)
theorem lw_g {w : Cond} (h : w ∈ lw_tbl) (g : goodWord w = true) : w ∈ lw_all := List.mem_filter.mpr ⟨h, g⟩
theorem lw_ms : ∀ w ∈ k2_sels lw_privs, w ∈ lw_tbl := fun w h => show w ∈ k2_sels lw_privs ++ tables_1 from List.mem_append_left _ h
theorem lw_m1 : ∀ w ∈ tables_1_1, w ∈ lw_tbl := fun w h => show w ∈ k2_sels lw_privs ++ tables_1 from List.mem_append_right (k2_sels lw_privs) (show w ∈ tables_1 from List.mem_append_left _ h)
theorem lw_m2 : ∀ w ∈ tables_1_2, w ∈ lw_tbl := fun w h => show w ∈ k2_sels lw_privs ++ tables_1 from List.mem_append_right (k2_sels lw_privs) (show w ∈ tables_1 from List.mem_append_right _ h)
theorem qs0 : (Cond.selects "ScanDiagnose" ⟨"ScanDiagnose", "drop", "()V"⟩ ⟨"ScanDiagnose", "drop", "()V"⟩) ∈ lw_all := lw_g (lw_at lw_ms 0 rfl) rfl
theorem qs1 : (Cond.selects "ScanDiagnose" ⟨"ScanDiagnose", "isLine", "(I)Z"⟩ ⟨"ScanDiagnose", "isLine", "(I)Z"⟩) ∈ lw_all := lw_g (lw_at lw_ms 1 rfl) rfl
theorem qs2 : (Cond.selects "ScanDiagnose" ⟨"ScanDiagnose", "isFault", "(I)Z"⟩ ⟨"ScanDiagnose", "isFault", "(I)Z"⟩) ∈ lw_all := lw_g (lw_at lw_ms 2 rfl) rfl
theorem qs3 : (Cond.selects "ScanDiagnose" ⟨"ScanDiagnose", "runAll", "(II)V"⟩ ⟨"ScanDiagnose", "runAll", "(II)V"⟩) ∈ lw_all := lw_g (lw_at lw_ms 3 rfl) rfl
theorem qs4 : (Cond.selects "ScanDiagnose" ⟨"ScanDiagnose", "settle", "(I)V"⟩ ⟨"ScanDiagnose", "settle", "(I)V"⟩) ∈ lw_all := lw_g (lw_at lw_ms 4 rfl) rfl
theorem qs5 : (Cond.selects "ScanDiagnose" ⟨"ScanDiagnose", "answerOf", "(I)I"⟩ ⟨"ScanDiagnose", "answerOf", "(I)I"⟩) ∈ lw_all := lw_g (lw_at lw_ms 5 rfl) rfl
theorem qs6 : (Cond.selects "ScanDiagnose" ⟨"ScanDiagnose", "faults", "()J"⟩ ⟨"ScanDiagnose", "faults", "()J"⟩) ∈ lw_all := lw_g (lw_at lw_ms 6 rfl) rfl
theorem qs7 : (Cond.selects "ScanDiagnose" ⟨"ScanDiagnose", "group", "()V"⟩ ⟨"ScanDiagnose", "group", "()V"⟩) ∈ lw_all := lw_g (lw_at lw_ms 7 rfl) rfl
theorem qs8 : (Cond.selects "ScanDiagnose" ⟨"ScanDiagnose", "split", "(J)V"⟩ ⟨"ScanDiagnose", "split", "(J)V"⟩) ∈ lw_all := lw_g (lw_at lw_ms 8 rfl) rfl
theorem qs9 : (Cond.selects "ScanDiagnose" ⟨"ScanDiagnose", "groupsWith", "(J)I"⟩ ⟨"ScanDiagnose", "groupsWith", "(J)I"⟩) ∈ lw_all := lw_g (lw_at lw_ms 9 rfl) rfl
theorem qs10 : (Cond.selects "ScanDiagnoseModel" ⟨"ScanDiagnoseModel", "badLine", "(I)Z"⟩ ⟨"ScanDiagnoseModel", "badLine", "(I)Z"⟩) ∈ lw_all := lw_g (lw_at lw_ms 10 rfl) rfl
theorem qs11 : (Cond.selects "ScanDiagnoseModel" ⟨"ScanDiagnoseModel", "lineCount", "()I"⟩ ⟨"ScanDiagnoseModel", "lineCount", "()I"⟩) ∈ lw_all := lw_g (lw_at lw_ms 11 rfl) rfl
theorem qs12 : (Cond.selects "ScanDiagnoseModel" ⟨"ScanDiagnoseModel", "badFault", "(I)Z"⟩ ⟨"ScanDiagnoseModel", "badFault", "(I)Z"⟩) ∈ lw_all := lw_g (lw_at lw_ms 12 rfl) rfl
theorem qs13 : (Cond.selects "ScanDiagnoseModel" ⟨"ScanDiagnoseModel", "badPattern", "(I)Z"⟩ ⟨"ScanDiagnoseModel", "badPattern", "(I)Z"⟩) ∈ lw_all := lw_g (lw_at lw_ms 13 rfl) rfl
theorem qs14 : (Cond.selects "ScanDiagnoseModel" ⟨"ScanDiagnoseModel", "badCycles", "(I)Z"⟩ ⟨"ScanDiagnoseModel", "badCycles", "(I)Z"⟩) ∈ lw_all := lw_g (lw_at lw_ms 14 rfl) rfl
theorem qs15 : (Cond.selects "ScanDiagnoseModel" ⟨"ScanDiagnoseModel", "run", "(III)I"⟩ ⟨"ScanDiagnoseModel", "run", "(III)I"⟩) ∈ lw_all := lw_g (lw_at lw_ms 15 rfl) rfl
theorem qs16 : (Cond.selects "ScanDiagnoseModel" ⟨"ScanDiagnoseModel", "settle", "(III)V"⟩ ⟨"ScanDiagnoseModel", "settle", "(III)V"⟩) ∈ lw_all := lw_g (lw_at lw_ms 16 rfl) rfl
theorem qs17 : (Cond.selects "ScanDiagnoseModel" ⟨"ScanDiagnoseModel", "gateValue", "(I)I"⟩ ⟨"ScanDiagnoseModel", "gateValue", "(I)I"⟩) ∈ lw_all := lw_g (lw_at lw_ms 17 rfl) rfl
theorem qs18 : (Cond.selects "ScanDiagnoseModel" ⟨"ScanDiagnoseModel", "explains", "(I)Z"⟩ ⟨"ScanDiagnoseModel", "explains", "(I)Z"⟩) ∈ lw_all := lw_g (lw_at lw_ms 18 rfl) rfl
theorem qs19 : (Cond.selects "ScanDiagnoseModel" ⟨"ScanDiagnoseModel", "alike", "(II)Z"⟩ ⟨"ScanDiagnoseModel", "alike", "(II)Z"⟩) ∈ lw_all := lw_g (lw_at lw_ms 19 rfl) rfl
theorem qs20 : (Cond.selects "ScanDiagnoseModel" ⟨"ScanDiagnoseModel", "earliest", "(I)I"⟩ ⟨"ScanDiagnoseModel", "earliest", "(I)I"⟩) ∈ lw_all := lw_g (lw_at lw_ms 20 rfl) rfl
theorem qs21 : (Cond.selects "ScanDiagnoseModel" ⟨"ScanDiagnoseModel", "possible", "(I)Z"⟩ ⟨"ScanDiagnoseModel", "possible", "(I)Z"⟩) ∈ lw_all := lw_g (lw_at lw_ms 21 rfl) rfl
end
section
set_option maxRecDepth 100000
/-! ScanDiagnose -/
def RX0 : String := "ScanDiagnose"
def TX0 : u_T := fun k => match k with
  | 0 => ("ScanDiagnose", "kinds", "[I", true)
  | 1 => ("ScanDiagnose", "firsts", "[I", true)
  | 2 => ("ScanDiagnose", "seconds", "[I", true)
  | 3 => ("ScanDiagnose", "feeds", "[I", true)
  | 4 => ("ScanDiagnose", "outputs", "[I", true)
  | 5 => ("ScanDiagnose", "words", "[J", true)
  | 6 => ("ScanDiagnose", "states", "[J", true)
  | 7 => ("ScanDiagnose", "answers", "[J", true)
  | 8 => ("ScanDiagnose", "like", "[J", true)
  | 9 => ("ScanDiagnose", "gates", "I", false)
  | 10 => ("ScanDiagnose", "device", "I", false)
  | 11 => ("ScanDiagnose", "noted", "I", false)
  | 12 => ("ScanDiagnose", "left", "J", false)
  | 13 => ("ScanDiagnose", "likeHealthy", "J", false)
  | _ => ("ScanDiagnose", "grouped", "Z", false)
def tyX0 : Nat → FieldType := fun k => match k with
  | 0 => .array .int
  | 1 => .array .int
  | 2 => .array .int
  | 3 => .array .int
  | 4 => .array .int
  | 5 => .array .long
  | 6 => .array .long
  | 7 => .array .long
  | 8 => .array .long
  | 9 => .int
  | 10 => .int
  | 11 => .int
  | 12 => .long
  | 13 => .long
  | _ => .boolean
abbrev wsX00 : List Cond := u_ws RX0 TX0 15
set_option maxRecDepth 100000 in
theorem nmX0 : ∀ a, a < 15 → ∀ b, b < 15 → a ≠ b → (TX0 a).2.1 ≠ (TX0 b).2.1 := by decide +kernel
set_option maxRecDepth 100000 in
theorem tyX0_ok : ∀ k, k < 15 → parseFieldDescriptor (TX0 k).2.2.1 = some (tyX0 k) := by decide +kernel
abbrev cX0_init : ByteArray := prog_1_method_1_code
def yX0_init : MethodName := ⟨RX0, "<init>", "()V"⟩
theorem dX0_init_0 : decode cX0_init 0 = .ok (.aload_n 0, 1) := by decide +kernel
theorem dX0_init_1 : decode cX0_init 1 = .ok (.invokespecial 1, 3) := by decide +kernel
theorem dX0_init_4 : decode cX0_init 4 = .ok (.aload_n 0, 1) := by decide +kernel
theorem dX0_init_5 : decode cX0_init 5 = .ok (.bipush 14, 2) := by decide +kernel
theorem dX0_init_7 : decode cX0_init 7 = .ok (.newarray .int, 2) := by decide +kernel
theorem dX0_init_9 : decode cX0_init 9 = .ok (.putfield 7, 3) := by decide +kernel
theorem dX0_init_12 : decode cX0_init 12 = .ok (.aload_n 0, 1) := by decide +kernel
theorem dX0_init_13 : decode cX0_init 13 = .ok (.bipush 14, 2) := by decide +kernel
theorem dX0_init_15 : decode cX0_init 15 = .ok (.newarray .int, 2) := by decide +kernel
theorem dX0_init_17 : decode cX0_init 17 = .ok (.putfield 13, 3) := by decide +kernel
theorem dX0_init_20 : decode cX0_init 20 = .ok (.aload_n 0, 1) := by decide +kernel
theorem dX0_init_21 : decode cX0_init 21 = .ok (.bipush 14, 2) := by decide +kernel
theorem dX0_init_23 : decode cX0_init 23 = .ok (.newarray .int, 2) := by decide +kernel
theorem dX0_init_25 : decode cX0_init 25 = .ok (.putfield 16, 3) := by decide +kernel
theorem dX0_init_28 : decode cX0_init 28 = .ok (.aload_n 0, 1) := by decide +kernel
theorem dX0_init_29 : decode cX0_init 29 = .ok (.iconst 3, 1) := by decide +kernel
theorem dX0_init_30 : decode cX0_init 30 = .ok (.newarray .int, 2) := by decide +kernel
theorem dX0_init_32 : decode cX0_init 32 = .ok (.putfield 19, 3) := by decide +kernel
theorem dX0_init_35 : decode cX0_init 35 = .ok (.aload_n 0, 1) := by decide +kernel
theorem dX0_init_36 : decode cX0_init 36 = .ok (.iconst 2, 1) := by decide +kernel
theorem dX0_init_37 : decode cX0_init 37 = .ok (.newarray .int, 2) := by decide +kernel
theorem dX0_init_39 : decode cX0_init 39 = .ok (.putfield 22, 3) := by decide +kernel
theorem dX0_init_42 : decode cX0_init 42 = .ok (.aload_n 0, 1) := by decide +kernel
theorem dX0_init_43 : decode cX0_init 43 = .ok (.bipush 21, 2) := by decide +kernel
theorem dX0_init_45 : decode cX0_init 45 = .ok (.newarray .long, 2) := by decide +kernel
theorem dX0_init_47 : decode cX0_init 47 = .ok (.putfield 25, 3) := by decide +kernel
theorem dX0_init_50 : decode cX0_init 50 = .ok (.aload_n 0, 1) := by decide +kernel
theorem dX0_init_51 : decode cX0_init 51 = .ok (.iconst 3, 1) := by decide +kernel
theorem dX0_init_52 : decode cX0_init 52 = .ok (.newarray .long, 2) := by decide +kernel
theorem dX0_init_54 : decode cX0_init 54 = .ok (.putfield 29, 3) := by decide +kernel
theorem dX0_init_57 : decode cX0_init 57 = .ok (.aload_n 0, 1) := by decide +kernel
theorem dX0_init_58 : decode cX0_init 58 = .ok (.iconst 5, 1) := by decide +kernel
theorem dX0_init_59 : decode cX0_init 59 = .ok (.newarray .long, 2) := by decide +kernel
theorem dX0_init_61 : decode cX0_init 61 = .ok (.putfield 32, 3) := by decide +kernel
theorem dX0_init_64 : decode cX0_init 64 = .ok (.aload_n 0, 1) := by decide +kernel
theorem dX0_init_65 : decode cX0_init 65 = .ok (.bipush 42, 2) := by decide +kernel
theorem dX0_init_67 : decode cX0_init 67 = .ok (.newarray .long, 2) := by decide +kernel
theorem dX0_init_69 : decode cX0_init 69 = .ok (.putfield 35, 3) := by decide +kernel
theorem dX0_init_72 : decode cX0_init 72 = .ok (.iconst 0, 1) := by decide +kernel
theorem dX0_init_73 : decode cX0_init 73 = .ok (.istore_n 1, 1) := by decide +kernel
theorem dX0_init_74 : decode cX0_init 74 = .ok (.iload_n 1, 1) := by decide +kernel
theorem dX0_init_75 : decode cX0_init 75 = .ok (.iconst 3, 1) := by decide +kernel
theorem dX0_init_76 : decode cX0_init 76 = .ok (.if_icmp .ge 18, 3) := by decide +kernel
theorem dX0_init_79 : decode cX0_init 79 = .ok (.aload_n 0, 1) := by decide +kernel
theorem dX0_init_80 : decode cX0_init 80 = .ok (.getfield 19, 3) := by decide +kernel
theorem dX0_init_83 : decode cX0_init 83 = .ok (.iload_n 1, 1) := by decide +kernel
theorem dX0_init_84 : decode cX0_init 84 = .ok (.iconst 4, 1) := by decide +kernel
theorem dX0_init_85 : decode cX0_init 85 = .ok (.iload_n 1, 1) := by decide +kernel
theorem dX0_init_86 : decode cX0_init 86 = .ok (.iadd, 1) := by decide +kernel
theorem dX0_init_87 : decode cX0_init 87 = .ok (.iastore, 1) := by decide +kernel
theorem dX0_init_88 : decode cX0_init 88 = .ok (.iinc 1 1, 3) := by decide +kernel
theorem dX0_init_91 : decode cX0_init 91 = .ok (.goto (-17), 3) := by decide +kernel
theorem dX0_init_94 : decode cX0_init 94 = .ok (.aload_n 0, 1) := by decide +kernel
theorem dX0_init_95 : decode cX0_init 95 = .ok (.iconst (-1), 1) := by decide +kernel
theorem dX0_init_96 : decode cX0_init 96 = .ok (.putfield 38, 3) := by decide +kernel
theorem dX0_init_99 : decode cX0_init 99 = .ok (.aload_n 0, 1) := by decide +kernel
theorem dX0_init_100 : decode cX0_init 100 = .ok (.invokevirtual 42, 3) := by decide +kernel
theorem dX0_init_103 : decode cX0_init 103 = .ok (.return_, 1) := by decide +kernel
abbrev cX0_drop : ByteArray := prog_1_method_25_code
def yX0_drop : MethodName := ⟨RX0, "drop", "()V"⟩
theorem dX0_drop_0 : decode cX0_drop 0 = .ok (.aload_n 0, 1) := by decide +kernel
theorem dX0_drop_1 : decode cX0_drop 1 = .ok (.iconst 0, 1) := by decide +kernel
theorem dX0_drop_2 : decode cX0_drop 2 = .ok (.putfield 61, 3) := by decide +kernel
theorem dX0_drop_5 : decode cX0_drop 5 = .ok (.aload_n 0, 1) := by decide +kernel
theorem dX0_drop_6 : decode cX0_drop 6 = .ok (.ldc2_w 76, 3) := by decide +kernel
theorem dX0_drop_9 : decode cX0_drop 9 = .ok (.putfield 72, 3) := by decide +kernel
theorem dX0_drop_12 : decode cX0_drop 12 = .ok (.aload_n 0, 1) := by decide +kernel
theorem dX0_drop_13 : decode cX0_drop 13 = .ok (.iconst 0, 1) := by decide +kernel
theorem dX0_drop_14 : decode cX0_drop 14 = .ok (.putfield 98, 3) := by decide +kernel
theorem dX0_drop_17 : decode cX0_drop 17 = .ok (.return_, 1) := by decide +kernel
abbrev cX0_gate : ByteArray := prog_1_method_2_code
def yX0_gate : MethodName := ⟨RX0, "gate", "(III)I"⟩
theorem dX0_gate_0 : decode cX0_gate 0 = .ok (.iload_n 1, 1) := by decide +kernel
theorem dX0_gate_1 : decode cX0_gate 1 = .ok (.ifCond .lt 8, 3) := by decide +kernel
theorem dX0_gate_4 : decode cX0_gate 4 = .ok (.iload_n 1, 1) := by decide +kernel
theorem dX0_gate_5 : decode cX0_gate 5 = .ok (.iconst 5, 1) := by decide +kernel
theorem dX0_gate_6 : decode cX0_gate 6 = .ok (.if_icmp .le 5, 3) := by decide +kernel
theorem dX0_gate_9 : decode cX0_gate 9 = .ok (.iconst (-1), 1) := by decide +kernel
theorem dX0_gate_10 : decode cX0_gate 10 = .ok (.ireturn, 1) := by decide +kernel
theorem dX0_gate_11 : decode cX0_gate 11 = .ok (.aload_n 0, 1) := by decide +kernel
theorem dX0_gate_12 : decode cX0_gate 12 = .ok (.iload_n 2, 1) := by decide +kernel
theorem dX0_gate_13 : decode cX0_gate 13 = .ok (.invokevirtual 45, 3) := by decide +kernel
theorem dX0_gate_16 : decode cX0_gate 16 = .ok (.ifCond .eq 16, 3) := by decide +kernel
theorem dX0_gate_19 : decode cX0_gate 19 = .ok (.iload_n 1, 1) := by decide +kernel
theorem dX0_gate_20 : decode cX0_gate 20 = .ok (.iconst 5, 1) := by decide +kernel
theorem dX0_gate_21 : decode cX0_gate 21 = .ok (.if_icmp .eq 14, 3) := by decide +kernel
theorem dX0_gate_24 : decode cX0_gate 24 = .ok (.aload_n 0, 1) := by decide +kernel
theorem dX0_gate_25 : decode cX0_gate 25 = .ok (.iload_n 3, 1) := by decide +kernel
theorem dX0_gate_26 : decode cX0_gate 26 = .ok (.invokevirtual 45, 3) := by decide +kernel
theorem dX0_gate_29 : decode cX0_gate 29 = .ok (.ifCond .ne 6, 3) := by decide +kernel
theorem dX0_gate_32 : decode cX0_gate 32 = .ok (.bipush (-2), 2) := by decide +kernel
theorem dX0_gate_34 : decode cX0_gate 34 = .ok (.ireturn, 1) := by decide +kernel
theorem dX0_gate_35 : decode cX0_gate 35 = .ok (.aload_n 0, 1) := by decide +kernel
theorem dX0_gate_36 : decode cX0_gate 36 = .ok (.getfield 49, 3) := by decide +kernel
theorem dX0_gate_39 : decode cX0_gate 39 = .ok (.bipush 14, 2) := by decide +kernel
theorem dX0_gate_41 : decode cX0_gate 41 = .ok (.if_icmp .ne 6, 3) := by decide +kernel
theorem dX0_gate_44 : decode cX0_gate 44 = .ok (.bipush (-3), 2) := by decide +kernel
theorem dX0_gate_46 : decode cX0_gate 46 = .ok (.ireturn, 1) := by decide +kernel
theorem dX0_gate_47 : decode cX0_gate 47 = .ok (.aload_n 0, 1) := by decide +kernel
theorem dX0_gate_48 : decode cX0_gate 48 = .ok (.getfield 7, 3) := by decide +kernel
theorem dX0_gate_51 : decode cX0_gate 51 = .ok (.aload_n 0, 1) := by decide +kernel
theorem dX0_gate_52 : decode cX0_gate 52 = .ok (.getfield 49, 3) := by decide +kernel
theorem dX0_gate_55 : decode cX0_gate 55 = .ok (.iload_n 1, 1) := by decide +kernel
theorem dX0_gate_56 : decode cX0_gate 56 = .ok (.iastore, 1) := by decide +kernel
theorem dX0_gate_57 : decode cX0_gate 57 = .ok (.aload_n 0, 1) := by decide +kernel
theorem dX0_gate_58 : decode cX0_gate 58 = .ok (.getfield 13, 3) := by decide +kernel
theorem dX0_gate_61 : decode cX0_gate 61 = .ok (.aload_n 0, 1) := by decide +kernel
theorem dX0_gate_62 : decode cX0_gate 62 = .ok (.getfield 49, 3) := by decide +kernel
theorem dX0_gate_65 : decode cX0_gate 65 = .ok (.iload_n 2, 1) := by decide +kernel
theorem dX0_gate_66 : decode cX0_gate 66 = .ok (.iastore, 1) := by decide +kernel
theorem dX0_gate_67 : decode cX0_gate 67 = .ok (.aload_n 0, 1) := by decide +kernel
theorem dX0_gate_68 : decode cX0_gate 68 = .ok (.getfield 16, 3) := by decide +kernel
theorem dX0_gate_71 : decode cX0_gate 71 = .ok (.aload_n 0, 1) := by decide +kernel
theorem dX0_gate_72 : decode cX0_gate 72 = .ok (.getfield 49, 3) := by decide +kernel
theorem dX0_gate_75 : decode cX0_gate 75 = .ok (.iload_n 1, 1) := by decide +kernel
theorem dX0_gate_76 : decode cX0_gate 76 = .ok (.iconst 5, 1) := by decide +kernel
theorem dX0_gate_77 : decode cX0_gate 77 = .ok (.if_icmp .ne 7, 3) := by decide +kernel
theorem dX0_gate_80 : decode cX0_gate 80 = .ok (.iload_n 2, 1) := by decide +kernel
theorem dX0_gate_81 : decode cX0_gate 81 = .ok (.goto 4, 3) := by decide +kernel
theorem dX0_gate_84 : decode cX0_gate 84 = .ok (.iload_n 3, 1) := by decide +kernel
theorem dX0_gate_85 : decode cX0_gate 85 = .ok (.iastore, 1) := by decide +kernel
theorem dX0_gate_86 : decode cX0_gate 86 = .ok (.aload_n 0, 1) := by decide +kernel
theorem dX0_gate_87 : decode cX0_gate 87 = .ok (.dup, 1) := by decide +kernel
theorem dX0_gate_88 : decode cX0_gate 88 = .ok (.getfield 49, 3) := by decide +kernel
theorem dX0_gate_91 : decode cX0_gate 91 = .ok (.iconst 1, 1) := by decide +kernel
theorem dX0_gate_92 : decode cX0_gate 92 = .ok (.iadd, 1) := by decide +kernel
theorem dX0_gate_93 : decode cX0_gate 93 = .ok (.putfield 49, 3) := by decide +kernel
theorem dX0_gate_96 : decode cX0_gate 96 = .ok (.aload_n 0, 1) := by decide +kernel
theorem dX0_gate_97 : decode cX0_gate 97 = .ok (.invokevirtual 42, 3) := by decide +kernel
theorem dX0_gate_100 : decode cX0_gate 100 = .ok (.bipush 7, 2) := by decide +kernel
theorem dX0_gate_102 : decode cX0_gate 102 = .ok (.aload_n 0, 1) := by decide +kernel
theorem dX0_gate_103 : decode cX0_gate 103 = .ok (.getfield 49, 3) := by decide +kernel
theorem dX0_gate_106 : decode cX0_gate 106 = .ok (.iadd, 1) := by decide +kernel
theorem dX0_gate_107 : decode cX0_gate 107 = .ok (.iconst 1, 1) := by decide +kernel
theorem dX0_gate_108 : decode cX0_gate 108 = .ok (.isub, 1) := by decide +kernel
theorem dX0_gate_109 : decode cX0_gate 109 = .ok (.ireturn, 1) := by decide +kernel
abbrev cX0_isLine : ByteArray := prog_1_method_21_code
def yX0_isLine : MethodName := ⟨RX0, "isLine", "(I)Z"⟩
theorem dX0_isLine_0 : decode cX0_isLine 0 = .ok (.iload_n 1, 1) := by decide +kernel
theorem dX0_isLine_1 : decode cX0_isLine 1 = .ok (.ifCond .lt 18, 3) := by decide +kernel
theorem dX0_isLine_4 : decode cX0_isLine 4 = .ok (.iload_n 1, 1) := by decide +kernel
theorem dX0_isLine_5 : decode cX0_isLine 5 = .ok (.bipush 7, 2) := by decide +kernel
theorem dX0_isLine_7 : decode cX0_isLine 7 = .ok (.aload_n 0, 1) := by decide +kernel
theorem dX0_isLine_8 : decode cX0_isLine 8 = .ok (.getfield 49, 3) := by decide +kernel
theorem dX0_isLine_11 : decode cX0_isLine 11 = .ok (.iadd, 1) := by decide +kernel
theorem dX0_isLine_12 : decode cX0_isLine 12 = .ok (.if_icmp .ge 7, 3) := by decide +kernel
theorem dX0_isLine_15 : decode cX0_isLine 15 = .ok (.iconst 1, 1) := by decide +kernel
theorem dX0_isLine_16 : decode cX0_isLine 16 = .ok (.goto 4, 3) := by decide +kernel
theorem dX0_isLine_19 : decode cX0_isLine 19 = .ok (.iconst 0, 1) := by decide +kernel
theorem dX0_isLine_20 : decode cX0_isLine 20 = .ok (.ireturn, 1) := by decide +kernel
abbrev cX0_feed : ByteArray := prog_1_method_3_code
def yX0_feed : MethodName := ⟨RX0, "feed", "(II)I"⟩
theorem dX0_feed_0 : decode cX0_feed 0 = .ok (.iload_n 1, 1) := by decide +kernel
theorem dX0_feed_1 : decode cX0_feed 1 = .ok (.ifCond .lt 8, 3) := by decide +kernel
theorem dX0_feed_4 : decode cX0_feed 4 = .ok (.iload_n 1, 1) := by decide +kernel
theorem dX0_feed_5 : decode cX0_feed 5 = .ok (.iconst 2, 1) := by decide +kernel
theorem dX0_feed_6 : decode cX0_feed 6 = .ok (.if_icmp .le 5, 3) := by decide +kernel
theorem dX0_feed_9 : decode cX0_feed 9 = .ok (.iconst (-1), 1) := by decide +kernel
theorem dX0_feed_10 : decode cX0_feed 10 = .ok (.ireturn, 1) := by decide +kernel
theorem dX0_feed_11 : decode cX0_feed 11 = .ok (.aload_n 0, 1) := by decide +kernel
theorem dX0_feed_12 : decode cX0_feed 12 = .ok (.iload_n 2, 1) := by decide +kernel
theorem dX0_feed_13 : decode cX0_feed 13 = .ok (.invokevirtual 45, 3) := by decide +kernel
theorem dX0_feed_16 : decode cX0_feed 16 = .ok (.ifCond .ne 6, 3) := by decide +kernel
theorem dX0_feed_19 : decode cX0_feed 19 = .ok (.bipush (-2), 2) := by decide +kernel
theorem dX0_feed_21 : decode cX0_feed 21 = .ok (.ireturn, 1) := by decide +kernel
theorem dX0_feed_22 : decode cX0_feed 22 = .ok (.aload_n 0, 1) := by decide +kernel
theorem dX0_feed_23 : decode cX0_feed 23 = .ok (.getfield 19, 3) := by decide +kernel
theorem dX0_feed_26 : decode cX0_feed 26 = .ok (.iload_n 1, 1) := by decide +kernel
theorem dX0_feed_27 : decode cX0_feed 27 = .ok (.iaload, 1) := by decide +kernel
theorem dX0_feed_28 : decode cX0_feed 28 = .ok (.istore_n 3, 1) := by decide +kernel
theorem dX0_feed_29 : decode cX0_feed 29 = .ok (.aload_n 0, 1) := by decide +kernel
theorem dX0_feed_30 : decode cX0_feed 30 = .ok (.getfield 19, 3) := by decide +kernel
theorem dX0_feed_33 : decode cX0_feed 33 = .ok (.iload_n 1, 1) := by decide +kernel
theorem dX0_feed_34 : decode cX0_feed 34 = .ok (.iload_n 2, 1) := by decide +kernel
theorem dX0_feed_35 : decode cX0_feed 35 = .ok (.iastore, 1) := by decide +kernel
theorem dX0_feed_36 : decode cX0_feed 36 = .ok (.aload_n 0, 1) := by decide +kernel
theorem dX0_feed_37 : decode cX0_feed 37 = .ok (.invokevirtual 42, 3) := by decide +kernel
theorem dX0_feed_40 : decode cX0_feed 40 = .ok (.iload_n 3, 1) := by decide +kernel
theorem dX0_feed_41 : decode cX0_feed 41 = .ok (.ireturn, 1) := by decide +kernel
abbrev cX0_output : ByteArray := prog_1_method_4_code
def yX0_output : MethodName := ⟨RX0, "output", "(II)I"⟩
theorem dX0_output_0 : decode cX0_output 0 = .ok (.iload_n 1, 1) := by decide +kernel
theorem dX0_output_1 : decode cX0_output 1 = .ok (.ifCond .eq 10, 3) := by decide +kernel
theorem dX0_output_4 : decode cX0_output 4 = .ok (.iload_n 1, 1) := by decide +kernel
theorem dX0_output_5 : decode cX0_output 5 = .ok (.iconst 1, 1) := by decide +kernel
theorem dX0_output_6 : decode cX0_output 6 = .ok (.if_icmp .eq 5, 3) := by decide +kernel
theorem dX0_output_9 : decode cX0_output 9 = .ok (.iconst (-1), 1) := by decide +kernel
theorem dX0_output_10 : decode cX0_output 10 = .ok (.ireturn, 1) := by decide +kernel
theorem dX0_output_11 : decode cX0_output 11 = .ok (.aload_n 0, 1) := by decide +kernel
theorem dX0_output_12 : decode cX0_output 12 = .ok (.iload_n 2, 1) := by decide +kernel
theorem dX0_output_13 : decode cX0_output 13 = .ok (.invokevirtual 45, 3) := by decide +kernel
theorem dX0_output_16 : decode cX0_output 16 = .ok (.ifCond .ne 6, 3) := by decide +kernel
theorem dX0_output_19 : decode cX0_output 19 = .ok (.bipush (-2), 2) := by decide +kernel
theorem dX0_output_21 : decode cX0_output 21 = .ok (.ireturn, 1) := by decide +kernel
theorem dX0_output_22 : decode cX0_output 22 = .ok (.aload_n 0, 1) := by decide +kernel
theorem dX0_output_23 : decode cX0_output 23 = .ok (.getfield 22, 3) := by decide +kernel
theorem dX0_output_26 : decode cX0_output 26 = .ok (.iload_n 1, 1) := by decide +kernel
theorem dX0_output_27 : decode cX0_output 27 = .ok (.iaload, 1) := by decide +kernel
theorem dX0_output_28 : decode cX0_output 28 = .ok (.istore_n 3, 1) := by decide +kernel
theorem dX0_output_29 : decode cX0_output 29 = .ok (.aload_n 0, 1) := by decide +kernel
theorem dX0_output_30 : decode cX0_output 30 = .ok (.getfield 22, 3) := by decide +kernel
theorem dX0_output_33 : decode cX0_output 33 = .ok (.iload_n 1, 1) := by decide +kernel
theorem dX0_output_34 : decode cX0_output 34 = .ok (.iload_n 2, 1) := by decide +kernel
theorem dX0_output_35 : decode cX0_output 35 = .ok (.iastore, 1) := by decide +kernel
theorem dX0_output_36 : decode cX0_output 36 = .ok (.aload_n 0, 1) := by decide +kernel
theorem dX0_output_37 : decode cX0_output 37 = .ok (.invokevirtual 42, 3) := by decide +kernel
theorem dX0_output_40 : decode cX0_output 40 = .ok (.iload_n 3, 1) := by decide +kernel
theorem dX0_output_41 : decode cX0_output 41 = .ok (.ireturn, 1) := by decide +kernel
abbrev cX0_lines : ByteArray := prog_1_method_5_code
def yX0_lines : MethodName := ⟨RX0, "lines", "()I"⟩
theorem dX0_lines_0 : decode cX0_lines 0 = .ok (.bipush 7, 2) := by decide +kernel
theorem dX0_lines_2 : decode cX0_lines 2 = .ok (.aload_n 0, 1) := by decide +kernel
theorem dX0_lines_3 : decode cX0_lines 3 = .ok (.getfield 49, 3) := by decide +kernel
theorem dX0_lines_6 : decode cX0_lines 6 = .ok (.iadd, 1) := by decide +kernel
theorem dX0_lines_7 : decode cX0_lines 7 = .ok (.ireturn, 1) := by decide +kernel
abbrev cX0_inject : ByteArray := prog_1_method_6_code
def yX0_inject : MethodName := ⟨RX0, "inject", "(I)I"⟩
theorem dX0_inject_0 : decode cX0_inject 0 = .ok (.iload_n 1, 1) := by decide +kernel
theorem dX0_inject_1 : decode cX0_inject 1 = .ok (.iconst (-1), 1) := by decide +kernel
theorem dX0_inject_2 : decode cX0_inject 2 = .ok (.if_icmp .eq 13, 3) := by decide +kernel
theorem dX0_inject_5 : decode cX0_inject 5 = .ok (.aload_n 0, 1) := by decide +kernel
theorem dX0_inject_6 : decode cX0_inject 6 = .ok (.iload_n 1, 1) := by decide +kernel
theorem dX0_inject_7 : decode cX0_inject 7 = .ok (.invokevirtual 52, 3) := by decide +kernel
theorem dX0_inject_10 : decode cX0_inject 10 = .ok (.ifCond .ne 5, 3) := by decide +kernel
theorem dX0_inject_13 : decode cX0_inject 13 = .ok (.iconst (-1), 1) := by decide +kernel
theorem dX0_inject_14 : decode cX0_inject 14 = .ok (.ireturn, 1) := by decide +kernel
theorem dX0_inject_15 : decode cX0_inject 15 = .ok (.aload_n 0, 1) := by decide +kernel
theorem dX0_inject_16 : decode cX0_inject 16 = .ok (.iload_n 1, 1) := by decide +kernel
theorem dX0_inject_17 : decode cX0_inject 17 = .ok (.putfield 38, 3) := by decide +kernel
theorem dX0_inject_20 : decode cX0_inject 20 = .ok (.aload_n 0, 1) := by decide +kernel
theorem dX0_inject_21 : decode cX0_inject 21 = .ok (.invokevirtual 42, 3) := by decide +kernel
theorem dX0_inject_24 : decode cX0_inject 24 = .ok (.iconst 0, 1) := by decide +kernel
theorem dX0_inject_25 : decode cX0_inject 25 = .ok (.ireturn, 1) := by decide +kernel
abbrev cX0_isFault : ByteArray := prog_1_method_22_code
def yX0_isFault : MethodName := ⟨RX0, "isFault", "(I)Z"⟩
theorem dX0_isFault_0 : decode cX0_isFault 0 = .ok (.iload_n 1, 1) := by decide +kernel
theorem dX0_isFault_1 : decode cX0_isFault 1 = .ok (.ifCond .lt 20, 3) := by decide +kernel
theorem dX0_isFault_4 : decode cX0_isFault 4 = .ok (.iload_n 1, 1) := by decide +kernel
theorem dX0_isFault_5 : decode cX0_isFault 5 = .ok (.iconst 2, 1) := by decide +kernel
theorem dX0_isFault_6 : decode cX0_isFault 6 = .ok (.bipush 7, 2) := by decide +kernel
theorem dX0_isFault_8 : decode cX0_isFault 8 = .ok (.aload_n 0, 1) := by decide +kernel
theorem dX0_isFault_9 : decode cX0_isFault 9 = .ok (.getfield 49, 3) := by decide +kernel
theorem dX0_isFault_12 : decode cX0_isFault 12 = .ok (.iadd, 1) := by decide +kernel
theorem dX0_isFault_13 : decode cX0_isFault 13 = .ok (.imul, 1) := by decide +kernel
theorem dX0_isFault_14 : decode cX0_isFault 14 = .ok (.if_icmp .ge 7, 3) := by decide +kernel
theorem dX0_isFault_17 : decode cX0_isFault 17 = .ok (.iconst 1, 1) := by decide +kernel
theorem dX0_isFault_18 : decode cX0_isFault 18 = .ok (.goto 4, 3) := by decide +kernel
theorem dX0_isFault_21 : decode cX0_isFault 21 = .ok (.iconst 0, 1) := by decide +kernel
theorem dX0_isFault_22 : decode cX0_isFault 22 = .ok (.ireturn, 1) := by decide +kernel
abbrev cX0_observe : ByteArray := prog_1_method_7_code
def yX0_observe : MethodName := ⟨RX0, "observe", "(II)I"⟩
theorem dX0_observe_0 : decode cX0_observe 0 = .ok (.iload_n 1, 1) := by decide +kernel
theorem dX0_observe_1 : decode cX0_observe 1 = .ok (.invokestatic 55, 3) := by decide +kernel
theorem dX0_observe_4 : decode cX0_observe 4 = .ok (.ifCond .ne 5, 3) := by decide +kernel
theorem dX0_observe_7 : decode cX0_observe 7 = .ok (.iconst (-1), 1) := by decide +kernel
theorem dX0_observe_8 : decode cX0_observe 8 = .ok (.ireturn, 1) := by decide +kernel
theorem dX0_observe_9 : decode cX0_observe 9 = .ok (.iload_n 2, 1) := by decide +kernel
theorem dX0_observe_10 : decode cX0_observe 10 = .ok (.invokestatic 58, 3) := by decide +kernel
theorem dX0_observe_13 : decode cX0_observe 13 = .ok (.ifCond .ne 6, 3) := by decide +kernel
theorem dX0_observe_16 : decode cX0_observe 16 = .ok (.bipush (-2), 2) := by decide +kernel
theorem dX0_observe_18 : decode cX0_observe 18 = .ok (.ireturn, 1) := by decide +kernel
theorem dX0_observe_19 : decode cX0_observe 19 = .ok (.aload_n 0, 1) := by decide +kernel
theorem dX0_observe_20 : decode cX0_observe 20 = .ok (.getfield 61, 3) := by decide +kernel
theorem dX0_observe_23 : decode cX0_observe 23 = .ok (.bipush 20, 2) := by decide +kernel
theorem dX0_observe_25 : decode cX0_observe 25 = .ok (.if_icmp .ne 6, 3) := by decide +kernel
theorem dX0_observe_28 : decode cX0_observe 28 = .ok (.bipush (-3), 2) := by decide +kernel
theorem dX0_observe_30 : decode cX0_observe 30 = .ok (.ireturn, 1) := by decide +kernel
theorem dX0_observe_31 : decode cX0_observe 31 = .ok (.aload_n 0, 1) := by decide +kernel
theorem dX0_observe_32 : decode cX0_observe 32 = .ok (.iload_n 1, 1) := by decide +kernel
theorem dX0_observe_33 : decode cX0_observe 33 = .ok (.iload_n 2, 1) := by decide +kernel
theorem dX0_observe_34 : decode cX0_observe 34 = .ok (.invokevirtual 64, 3) := by decide +kernel
theorem dX0_observe_37 : decode cX0_observe 37 = .ok (.aload_n 0, 1) := by decide +kernel
theorem dX0_observe_38 : decode cX0_observe 38 = .ok (.getfield 38, 3) := by decide +kernel
theorem dX0_observe_41 : decode cX0_observe 41 = .ok (.ifCond .ge 8, 3) := by decide +kernel
theorem dX0_observe_44 : decode cX0_observe 44 = .ok (.bipush 63, 2) := by decide +kernel
theorem dX0_observe_46 : decode cX0_observe 46 = .ok (.goto 7, 3) := by decide +kernel
theorem dX0_observe_49 : decode cX0_observe 49 = .ok (.aload_n 0, 1) := by decide +kernel
theorem dX0_observe_50 : decode cX0_observe 50 = .ok (.getfield 38, 3) := by decide +kernel
theorem dX0_observe_53 : decode cX0_observe 53 = .ok (.istore_n 3, 1) := by decide +kernel
theorem dX0_observe_54 : decode cX0_observe 54 = .ok (.aload_n 0, 1) := by decide +kernel
theorem dX0_observe_55 : decode cX0_observe 55 = .ok (.iload_n 3, 1) := by decide +kernel
theorem dX0_observe_56 : decode cX0_observe 56 = .ok (.invokevirtual 68, 3) := by decide +kernel
theorem dX0_observe_59 : decode cX0_observe 59 = .ok (.istore 4, 2) := by decide +kernel
theorem dX0_observe_61 : decode cX0_observe 61 = .ok (.iconst 0, 1) := by decide +kernel
theorem dX0_observe_62 : decode cX0_observe 62 = .ok (.istore 5, 2) := by decide +kernel
theorem dX0_observe_64 : decode cX0_observe 64 = .ok (.iload 5, 2) := by decide +kernel
theorem dX0_observe_66 : decode cX0_observe 66 = .ok (.iconst 5, 1) := by decide +kernel
theorem dX0_observe_67 : decode cX0_observe 67 = .ok (.if_icmp .ge 50, 3) := by decide +kernel
theorem dX0_observe_70 : decode cX0_observe 70 = .ok (.aload_n 0, 1) := by decide +kernel
theorem dX0_observe_71 : decode cX0_observe 71 = .ok (.aload_n 0, 1) := by decide +kernel
theorem dX0_observe_72 : decode cX0_observe 72 = .ok (.getfield 72, 3) := by decide +kernel
theorem dX0_observe_75 : decode cX0_observe 75 = .ok (.iload 4, 2) := by decide +kernel
theorem dX0_observe_77 : decode cX0_observe 77 = .ok (.iload 5, 2) := by decide +kernel
theorem dX0_observe_79 : decode cX0_observe 79 = .ok (.ishr, 1) := by decide +kernel
theorem dX0_observe_80 : decode cX0_observe 80 = .ok (.iconst 1, 1) := by decide +kernel
theorem dX0_observe_81 : decode cX0_observe 81 = .ok (.iand, 1) := by decide +kernel
theorem dX0_observe_82 : decode cX0_observe 82 = .ok (.iconst 1, 1) := by decide +kernel
theorem dX0_observe_83 : decode cX0_observe 83 = .ok (.if_icmp .ne 13, 3) := by decide +kernel
theorem dX0_observe_86 : decode cX0_observe 86 = .ok (.aload_n 0, 1) := by decide +kernel
theorem dX0_observe_87 : decode cX0_observe 87 = .ok (.getfield 32, 3) := by decide +kernel
theorem dX0_observe_90 : decode cX0_observe 90 = .ok (.iload 5, 2) := by decide +kernel
theorem dX0_observe_92 : decode cX0_observe 92 = .ok (.laload, 1) := by decide +kernel
theorem dX0_observe_93 : decode cX0_observe 93 = .ok (.goto 14, 3) := by decide +kernel
theorem dX0_observe_96 : decode cX0_observe 96 = .ok (.aload_n 0, 1) := by decide +kernel
theorem dX0_observe_97 : decode cX0_observe 97 = .ok (.getfield 32, 3) := by decide +kernel
theorem dX0_observe_100 : decode cX0_observe 100 = .ok (.iload 5, 2) := by decide +kernel
theorem dX0_observe_102 : decode cX0_observe 102 = .ok (.laload, 1) := by decide +kernel
theorem dX0_observe_103 : decode cX0_observe 103 = .ok (.ldc2_w 76, 3) := by decide +kernel
theorem dX0_observe_106 : decode cX0_observe 106 = .ok (.lxor, 1) := by decide +kernel
theorem dX0_observe_107 : decode cX0_observe 107 = .ok (.land, 1) := by decide +kernel
theorem dX0_observe_108 : decode cX0_observe 108 = .ok (.putfield 72, 3) := by decide +kernel
theorem dX0_observe_111 : decode cX0_observe 111 = .ok (.iinc 5 1, 3) := by decide +kernel
theorem dX0_observe_114 : decode cX0_observe 114 = .ok (.goto (-50), 3) := by decide +kernel
theorem dX0_observe_117 : decode cX0_observe 117 = .ok (.aload_n 0, 1) := by decide +kernel
theorem dX0_observe_118 : decode cX0_observe 118 = .ok (.dup, 1) := by decide +kernel
theorem dX0_observe_119 : decode cX0_observe 119 = .ok (.getfield 61, 3) := by decide +kernel
theorem dX0_observe_122 : decode cX0_observe 122 = .ok (.iconst 1, 1) := by decide +kernel
theorem dX0_observe_123 : decode cX0_observe 123 = .ok (.iadd, 1) := by decide +kernel
theorem dX0_observe_124 : decode cX0_observe 124 = .ok (.putfield 61, 3) := by decide +kernel
theorem dX0_observe_127 : decode cX0_observe 127 = .ok (.iload 4, 2) := by decide +kernel
theorem dX0_observe_129 : decode cX0_observe 129 = .ok (.ireturn, 1) := by decide +kernel
end
section
set_option maxRecDepth 100000
abbrev cX0_isPattern : ByteArray := prog_1_method_23_code
def yX0_isPattern : MethodName := ⟨RX0, "isPattern", "(I)Z"⟩
theorem dX0_isPattern_0 : decode cX0_isPattern 0 = .ok (.iload_n 0, 1) := by decide +kernel
theorem dX0_isPattern_1 : decode cX0_isPattern 1 = .ok (.ifCond .lt 13, 3) := by decide +kernel
theorem dX0_isPattern_4 : decode cX0_isPattern 4 = .ok (.iload_n 0, 1) := by decide +kernel
theorem dX0_isPattern_5 : decode cX0_isPattern 5 = .ok (.bipush 127, 2) := by decide +kernel
theorem dX0_isPattern_7 : decode cX0_isPattern 7 = .ok (.if_icmp .gt 7, 3) := by decide +kernel
theorem dX0_isPattern_10 : decode cX0_isPattern 10 = .ok (.iconst 1, 1) := by decide +kernel
theorem dX0_isPattern_11 : decode cX0_isPattern 11 = .ok (.goto 4, 3) := by decide +kernel
theorem dX0_isPattern_14 : decode cX0_isPattern 14 = .ok (.iconst 0, 1) := by decide +kernel
theorem dX0_isPattern_15 : decode cX0_isPattern 15 = .ok (.ireturn, 1) := by decide +kernel
abbrev cX0_isCycles : ByteArray := prog_1_method_24_code
def yX0_isCycles : MethodName := ⟨RX0, "isCycles", "(I)Z"⟩
theorem dX0_isCycles_0 : decode cX0_isCycles 0 = .ok (.iload_n 0, 1) := by decide +kernel
theorem dX0_isCycles_1 : decode cX0_isCycles 1 = .ok (.iconst 1, 1) := by decide +kernel
theorem dX0_isCycles_2 : decode cX0_isCycles 2 = .ok (.if_icmp .lt 12, 3) := by decide +kernel
theorem dX0_isCycles_5 : decode cX0_isCycles 5 = .ok (.iload_n 0, 1) := by decide +kernel
theorem dX0_isCycles_6 : decode cX0_isCycles 6 = .ok (.iconst 4, 1) := by decide +kernel
theorem dX0_isCycles_7 : decode cX0_isCycles 7 = .ok (.if_icmp .gt 7, 3) := by decide +kernel
theorem dX0_isCycles_10 : decode cX0_isCycles 10 = .ok (.iconst 1, 1) := by decide +kernel
theorem dX0_isCycles_11 : decode cX0_isCycles 11 = .ok (.goto 4, 3) := by decide +kernel
theorem dX0_isCycles_14 : decode cX0_isCycles 14 = .ok (.iconst 0, 1) := by decide +kernel
theorem dX0_isCycles_15 : decode cX0_isCycles 15 = .ok (.ireturn, 1) := by decide +kernel
abbrev cX0_runAll : ByteArray := prog_1_method_30_code
def yX0_runAll : MethodName := ⟨RX0, "runAll", "(II)V"⟩
theorem dX0_runAll_0 : decode cX0_runAll 0 = .ok (.iconst 0, 1) := by decide +kernel
theorem dX0_runAll_1 : decode cX0_runAll 1 = .ok (.istore_n 3, 1) := by decide +kernel
theorem dX0_runAll_2 : decode cX0_runAll 2 = .ok (.iload_n 3, 1) := by decide +kernel
theorem dX0_runAll_3 : decode cX0_runAll 3 = .ok (.iconst 3, 1) := by decide +kernel
theorem dX0_runAll_4 : decode cX0_runAll 4 = .ok (.if_icmp .ge 33, 3) := by decide +kernel
theorem dX0_runAll_7 : decode cX0_runAll 7 = .ok (.aload_n 0, 1) := by decide +kernel
theorem dX0_runAll_8 : decode cX0_runAll 8 = .ok (.getfield 29, 3) := by decide +kernel
theorem dX0_runAll_11 : decode cX0_runAll 11 = .ok (.iload_n 3, 1) := by decide +kernel
theorem dX0_runAll_12 : decode cX0_runAll 12 = .ok (.iload_n 1, 1) := by decide +kernel
theorem dX0_runAll_13 : decode cX0_runAll 13 = .ok (.iconst 4, 1) := by decide +kernel
theorem dX0_runAll_14 : decode cX0_runAll 14 = .ok (.iload_n 3, 1) := by decide +kernel
theorem dX0_runAll_15 : decode cX0_runAll 15 = .ok (.iadd, 1) := by decide +kernel
theorem dX0_runAll_16 : decode cX0_runAll 16 = .ok (.ishr, 1) := by decide +kernel
theorem dX0_runAll_17 : decode cX0_runAll 17 = .ok (.iconst 1, 1) := by decide +kernel
theorem dX0_runAll_18 : decode cX0_runAll 18 = .ok (.iand, 1) := by decide +kernel
theorem dX0_runAll_19 : decode cX0_runAll 19 = .ok (.iconst 1, 1) := by decide +kernel
theorem dX0_runAll_20 : decode cX0_runAll 20 = .ok (.if_icmp .ne 9, 3) := by decide +kernel
theorem dX0_runAll_23 : decode cX0_runAll 23 = .ok (.ldc2_w 76, 3) := by decide +kernel
theorem dX0_runAll_26 : decode cX0_runAll 26 = .ok (.goto 4, 3) := by decide +kernel
theorem dX0_runAll_29 : decode cX0_runAll 29 = .ok (.lconst 0, 1) := by decide +kernel
theorem dX0_runAll_30 : decode cX0_runAll 30 = .ok (.lastore, 1) := by decide +kernel
theorem dX0_runAll_31 : decode cX0_runAll 31 = .ok (.iinc 3 1, 3) := by decide +kernel
theorem dX0_runAll_34 : decode cX0_runAll 34 = .ok (.goto (-32), 3) := by decide +kernel
theorem dX0_runAll_37 : decode cX0_runAll 37 = .ok (.iconst 0, 1) := by decide +kernel
theorem dX0_runAll_38 : decode cX0_runAll 38 = .ok (.istore_n 3, 1) := by decide +kernel
theorem dX0_runAll_39 : decode cX0_runAll 39 = .ok (.iload_n 3, 1) := by decide +kernel
theorem dX0_runAll_40 : decode cX0_runAll 40 = .ok (.iload_n 2, 1) := by decide +kernel
theorem dX0_runAll_41 : decode cX0_runAll 41 = .ok (.if_icmp .ge 48, 3) := by decide +kernel
theorem dX0_runAll_44 : decode cX0_runAll 44 = .ok (.aload_n 0, 1) := by decide +kernel
theorem dX0_runAll_45 : decode cX0_runAll 45 = .ok (.iload_n 1, 1) := by decide +kernel
theorem dX0_runAll_46 : decode cX0_runAll 46 = .ok (.invokevirtual 110, 3) := by decide +kernel
theorem dX0_runAll_49 : decode cX0_runAll 49 = .ok (.iconst 0, 1) := by decide +kernel
theorem dX0_runAll_50 : decode cX0_runAll 50 = .ok (.istore 4, 2) := by decide +kernel
theorem dX0_runAll_52 : decode cX0_runAll 52 = .ok (.iload 4, 2) := by decide +kernel
theorem dX0_runAll_54 : decode cX0_runAll 54 = .ok (.iconst 3, 1) := by decide +kernel
theorem dX0_runAll_55 : decode cX0_runAll 55 = .ok (.if_icmp .ge 28, 3) := by decide +kernel
theorem dX0_runAll_58 : decode cX0_runAll 58 = .ok (.aload_n 0, 1) := by decide +kernel
theorem dX0_runAll_59 : decode cX0_runAll 59 = .ok (.getfield 29, 3) := by decide +kernel
theorem dX0_runAll_62 : decode cX0_runAll 62 = .ok (.iload 4, 2) := by decide +kernel
theorem dX0_runAll_64 : decode cX0_runAll 64 = .ok (.aload_n 0, 1) := by decide +kernel
theorem dX0_runAll_65 : decode cX0_runAll 65 = .ok (.getfield 25, 3) := by decide +kernel
theorem dX0_runAll_68 : decode cX0_runAll 68 = .ok (.aload_n 0, 1) := by decide +kernel
theorem dX0_runAll_69 : decode cX0_runAll 69 = .ok (.getfield 19, 3) := by decide +kernel
theorem dX0_runAll_72 : decode cX0_runAll 72 = .ok (.iload 4, 2) := by decide +kernel
theorem dX0_runAll_74 : decode cX0_runAll 74 = .ok (.iaload, 1) := by decide +kernel
theorem dX0_runAll_75 : decode cX0_runAll 75 = .ok (.laload, 1) := by decide +kernel
theorem dX0_runAll_76 : decode cX0_runAll 76 = .ok (.lastore, 1) := by decide +kernel
theorem dX0_runAll_77 : decode cX0_runAll 77 = .ok (.iinc 4 1, 3) := by decide +kernel
theorem dX0_runAll_80 : decode cX0_runAll 80 = .ok (.goto (-28), 3) := by decide +kernel
theorem dX0_runAll_83 : decode cX0_runAll 83 = .ok (.iinc 3 1, 3) := by decide +kernel
theorem dX0_runAll_86 : decode cX0_runAll 86 = .ok (.goto (-47), 3) := by decide +kernel
theorem dX0_runAll_89 : decode cX0_runAll 89 = .ok (.iconst 0, 1) := by decide +kernel
theorem dX0_runAll_90 : decode cX0_runAll 90 = .ok (.istore_n 3, 1) := by decide +kernel
theorem dX0_runAll_91 : decode cX0_runAll 91 = .ok (.iload_n 3, 1) := by decide +kernel
theorem dX0_runAll_92 : decode cX0_runAll 92 = .ok (.iconst 3, 1) := by decide +kernel
theorem dX0_runAll_93 : decode cX0_runAll 93 = .ok (.if_icmp .ge 21, 3) := by decide +kernel
theorem dX0_runAll_96 : decode cX0_runAll 96 = .ok (.aload_n 0, 1) := by decide +kernel
theorem dX0_runAll_97 : decode cX0_runAll 97 = .ok (.getfield 32, 3) := by decide +kernel
theorem dX0_runAll_100 : decode cX0_runAll 100 = .ok (.iload_n 3, 1) := by decide +kernel
theorem dX0_runAll_101 : decode cX0_runAll 101 = .ok (.aload_n 0, 1) := by decide +kernel
theorem dX0_runAll_102 : decode cX0_runAll 102 = .ok (.getfield 29, 3) := by decide +kernel
theorem dX0_runAll_105 : decode cX0_runAll 105 = .ok (.iload_n 3, 1) := by decide +kernel
theorem dX0_runAll_106 : decode cX0_runAll 106 = .ok (.laload, 1) := by decide +kernel
theorem dX0_runAll_107 : decode cX0_runAll 107 = .ok (.lastore, 1) := by decide +kernel
theorem dX0_runAll_108 : decode cX0_runAll 108 = .ok (.iinc 3 1, 3) := by decide +kernel
theorem dX0_runAll_111 : decode cX0_runAll 111 = .ok (.goto (-20), 3) := by decide +kernel
theorem dX0_runAll_114 : decode cX0_runAll 114 = .ok (.aload_n 0, 1) := by decide +kernel
theorem dX0_runAll_115 : decode cX0_runAll 115 = .ok (.getfield 32, 3) := by decide +kernel
theorem dX0_runAll_118 : decode cX0_runAll 118 = .ok (.iconst 3, 1) := by decide +kernel
theorem dX0_runAll_119 : decode cX0_runAll 119 = .ok (.aload_n 0, 1) := by decide +kernel
theorem dX0_runAll_120 : decode cX0_runAll 120 = .ok (.getfield 25, 3) := by decide +kernel
theorem dX0_runAll_123 : decode cX0_runAll 123 = .ok (.aload_n 0, 1) := by decide +kernel
theorem dX0_runAll_124 : decode cX0_runAll 124 = .ok (.getfield 22, 3) := by decide +kernel
theorem dX0_runAll_127 : decode cX0_runAll 127 = .ok (.iconst 0, 1) := by decide +kernel
theorem dX0_runAll_128 : decode cX0_runAll 128 = .ok (.iaload, 1) := by decide +kernel
theorem dX0_runAll_129 : decode cX0_runAll 129 = .ok (.laload, 1) := by decide +kernel
theorem dX0_runAll_130 : decode cX0_runAll 130 = .ok (.lastore, 1) := by decide +kernel
theorem dX0_runAll_131 : decode cX0_runAll 131 = .ok (.aload_n 0, 1) := by decide +kernel
theorem dX0_runAll_132 : decode cX0_runAll 132 = .ok (.getfield 32, 3) := by decide +kernel
theorem dX0_runAll_135 : decode cX0_runAll 135 = .ok (.iconst 4, 1) := by decide +kernel
theorem dX0_runAll_136 : decode cX0_runAll 136 = .ok (.aload_n 0, 1) := by decide +kernel
theorem dX0_runAll_137 : decode cX0_runAll 137 = .ok (.getfield 25, 3) := by decide +kernel
theorem dX0_runAll_140 : decode cX0_runAll 140 = .ok (.aload_n 0, 1) := by decide +kernel
theorem dX0_runAll_141 : decode cX0_runAll 141 = .ok (.getfield 22, 3) := by decide +kernel
theorem dX0_runAll_144 : decode cX0_runAll 144 = .ok (.iconst 1, 1) := by decide +kernel
theorem dX0_runAll_145 : decode cX0_runAll 145 = .ok (.iaload, 1) := by decide +kernel
theorem dX0_runAll_146 : decode cX0_runAll 146 = .ok (.laload, 1) := by decide +kernel
theorem dX0_runAll_147 : decode cX0_runAll 147 = .ok (.lastore, 1) := by decide +kernel
theorem dX0_runAll_148 : decode cX0_runAll 148 = .ok (.return_, 1) := by decide +kernel
abbrev cX0_settle : ByteArray := prog_1_method_31_code
def yX0_settle : MethodName := ⟨RX0, "settle", "(I)V"⟩
theorem dX0_settle_0 : decode cX0_settle 0 = .ok (.iconst 0, 1) := by decide +kernel
theorem dX0_settle_1 : decode cX0_settle 1 = .ok (.istore_n 2, 1) := by decide +kernel
theorem dX0_settle_2 : decode cX0_settle 2 = .ok (.iload_n 2, 1) := by decide +kernel
theorem dX0_settle_3 : decode cX0_settle 3 = .ok (.iconst 4, 1) := by decide +kernel
theorem dX0_settle_4 : decode cX0_settle 4 = .ok (.if_icmp .ge 37, 3) := by decide +kernel
theorem dX0_settle_7 : decode cX0_settle 7 = .ok (.iload_n 1, 1) := by decide +kernel
theorem dX0_settle_8 : decode cX0_settle 8 = .ok (.iload_n 2, 1) := by decide +kernel
theorem dX0_settle_9 : decode cX0_settle 9 = .ok (.ishr, 1) := by decide +kernel
theorem dX0_settle_10 : decode cX0_settle 10 = .ok (.iconst 1, 1) := by decide +kernel
theorem dX0_settle_11 : decode cX0_settle 11 = .ok (.iand, 1) := by decide +kernel
theorem dX0_settle_12 : decode cX0_settle 12 = .ok (.iconst 1, 1) := by decide +kernel
theorem dX0_settle_13 : decode cX0_settle 13 = .ok (.if_icmp .ne 9, 3) := by decide +kernel
theorem dX0_settle_16 : decode cX0_settle 16 = .ok (.ldc2_w 76, 3) := by decide +kernel
theorem dX0_settle_19 : decode cX0_settle 19 = .ok (.goto 4, 3) := by decide +kernel
theorem dX0_settle_22 : decode cX0_settle 22 = .ok (.lconst 0, 1) := by decide +kernel
theorem dX0_settle_23 : decode cX0_settle 23 = .ok (.lstore_n 3, 1) := by decide +kernel
theorem dX0_settle_24 : decode cX0_settle 24 = .ok (.aload_n 0, 1) := by decide +kernel
theorem dX0_settle_25 : decode cX0_settle 25 = .ok (.getfield 25, 3) := by decide +kernel
theorem dX0_settle_28 : decode cX0_settle 28 = .ok (.iload_n 2, 1) := by decide +kernel
theorem dX0_settle_29 : decode cX0_settle 29 = .ok (.iload_n 2, 1) := by decide +kernel
theorem dX0_settle_30 : decode cX0_settle 30 = .ok (.lload_n 3, 1) := by decide +kernel
theorem dX0_settle_31 : decode cX0_settle 31 = .ok (.invokestatic 114, 3) := by decide +kernel
theorem dX0_settle_34 : decode cX0_settle 34 = .ok (.lastore, 1) := by decide +kernel
theorem dX0_settle_35 : decode cX0_settle 35 = .ok (.iinc 2 1, 3) := by decide +kernel
theorem dX0_settle_38 : decode cX0_settle 38 = .ok (.goto (-36), 3) := by decide +kernel
theorem dX0_settle_41 : decode cX0_settle 41 = .ok (.iconst 0, 1) := by decide +kernel
theorem dX0_settle_42 : decode cX0_settle 42 = .ok (.istore_n 2, 1) := by decide +kernel
theorem dX0_settle_43 : decode cX0_settle 43 = .ok (.iload_n 2, 1) := by decide +kernel
theorem dX0_settle_44 : decode cX0_settle 44 = .ok (.iconst 3, 1) := by decide +kernel
theorem dX0_settle_45 : decode cX0_settle 45 = .ok (.if_icmp .ge 29, 3) := by decide +kernel
theorem dX0_settle_48 : decode cX0_settle 48 = .ok (.aload_n 0, 1) := by decide +kernel
theorem dX0_settle_49 : decode cX0_settle 49 = .ok (.getfield 25, 3) := by decide +kernel
theorem dX0_settle_52 : decode cX0_settle 52 = .ok (.iconst 4, 1) := by decide +kernel
theorem dX0_settle_53 : decode cX0_settle 53 = .ok (.iload_n 2, 1) := by decide +kernel
theorem dX0_settle_54 : decode cX0_settle 54 = .ok (.iadd, 1) := by decide +kernel
theorem dX0_settle_55 : decode cX0_settle 55 = .ok (.iconst 4, 1) := by decide +kernel
theorem dX0_settle_56 : decode cX0_settle 56 = .ok (.iload_n 2, 1) := by decide +kernel
theorem dX0_settle_57 : decode cX0_settle 57 = .ok (.iadd, 1) := by decide +kernel
theorem dX0_settle_58 : decode cX0_settle 58 = .ok (.aload_n 0, 1) := by decide +kernel
theorem dX0_settle_59 : decode cX0_settle 59 = .ok (.getfield 29, 3) := by decide +kernel
theorem dX0_settle_62 : decode cX0_settle 62 = .ok (.iload_n 2, 1) := by decide +kernel
theorem dX0_settle_63 : decode cX0_settle 63 = .ok (.laload, 1) := by decide +kernel
theorem dX0_settle_64 : decode cX0_settle 64 = .ok (.invokestatic 114, 3) := by decide +kernel
theorem dX0_settle_67 : decode cX0_settle 67 = .ok (.lastore, 1) := by decide +kernel
theorem dX0_settle_68 : decode cX0_settle 68 = .ok (.iinc 2 1, 3) := by decide +kernel
theorem dX0_settle_71 : decode cX0_settle 71 = .ok (.goto (-28), 3) := by decide +kernel
theorem dX0_settle_74 : decode cX0_settle 74 = .ok (.iconst 0, 1) := by decide +kernel
theorem dX0_settle_75 : decode cX0_settle 75 = .ok (.istore_n 2, 1) := by decide +kernel
theorem dX0_settle_76 : decode cX0_settle 76 = .ok (.iload_n 2, 1) := by decide +kernel
theorem dX0_settle_77 : decode cX0_settle 77 = .ok (.aload_n 0, 1) := by decide +kernel
theorem dX0_settle_78 : decode cX0_settle 78 = .ok (.getfield 49, 3) := by decide +kernel
theorem dX0_settle_81 : decode cX0_settle 81 = .ok (.if_icmp .ge 58, 3) := by decide +kernel
theorem dX0_settle_84 : decode cX0_settle 84 = .ok (.aload_n 0, 1) := by decide +kernel
theorem dX0_settle_85 : decode cX0_settle 85 = .ok (.getfield 7, 3) := by decide +kernel
theorem dX0_settle_88 : decode cX0_settle 88 = .ok (.iload_n 2, 1) := by decide +kernel
theorem dX0_settle_89 : decode cX0_settle 89 = .ok (.iaload, 1) := by decide +kernel
theorem dX0_settle_90 : decode cX0_settle 90 = .ok (.aload_n 0, 1) := by decide +kernel
theorem dX0_settle_91 : decode cX0_settle 91 = .ok (.getfield 25, 3) := by decide +kernel
theorem dX0_settle_94 : decode cX0_settle 94 = .ok (.aload_n 0, 1) := by decide +kernel
theorem dX0_settle_95 : decode cX0_settle 95 = .ok (.getfield 13, 3) := by decide +kernel
theorem dX0_settle_98 : decode cX0_settle 98 = .ok (.iload_n 2, 1) := by decide +kernel
theorem dX0_settle_99 : decode cX0_settle 99 = .ok (.iaload, 1) := by decide +kernel
theorem dX0_settle_100 : decode cX0_settle 100 = .ok (.laload, 1) := by decide +kernel
theorem dX0_settle_101 : decode cX0_settle 101 = .ok (.aload_n 0, 1) := by decide +kernel
theorem dX0_settle_102 : decode cX0_settle 102 = .ok (.getfield 25, 3) := by decide +kernel
theorem dX0_settle_105 : decode cX0_settle 105 = .ok (.aload_n 0, 1) := by decide +kernel
theorem dX0_settle_106 : decode cX0_settle 106 = .ok (.getfield 16, 3) := by decide +kernel
theorem dX0_settle_109 : decode cX0_settle 109 = .ok (.iload_n 2, 1) := by decide +kernel
theorem dX0_settle_110 : decode cX0_settle 110 = .ok (.iaload, 1) := by decide +kernel
theorem dX0_settle_111 : decode cX0_settle 111 = .ok (.laload, 1) := by decide +kernel
theorem dX0_settle_112 : decode cX0_settle 112 = .ok (.invokestatic 118, 3) := by decide +kernel
theorem dX0_settle_115 : decode cX0_settle 115 = .ok (.lstore_n 3, 1) := by decide +kernel
theorem dX0_settle_116 : decode cX0_settle 116 = .ok (.aload_n 0, 1) := by decide +kernel
theorem dX0_settle_117 : decode cX0_settle 117 = .ok (.getfield 25, 3) := by decide +kernel
theorem dX0_settle_120 : decode cX0_settle 120 = .ok (.bipush 7, 2) := by decide +kernel
theorem dX0_settle_122 : decode cX0_settle 122 = .ok (.iload_n 2, 1) := by decide +kernel
theorem dX0_settle_123 : decode cX0_settle 123 = .ok (.iadd, 1) := by decide +kernel
theorem dX0_settle_124 : decode cX0_settle 124 = .ok (.bipush 7, 2) := by decide +kernel
theorem dX0_settle_126 : decode cX0_settle 126 = .ok (.iload_n 2, 1) := by decide +kernel
theorem dX0_settle_127 : decode cX0_settle 127 = .ok (.iadd, 1) := by decide +kernel
theorem dX0_settle_128 : decode cX0_settle 128 = .ok (.lload_n 3, 1) := by decide +kernel
theorem dX0_settle_129 : decode cX0_settle 129 = .ok (.invokestatic 114, 3) := by decide +kernel
theorem dX0_settle_132 : decode cX0_settle 132 = .ok (.lastore, 1) := by decide +kernel
theorem dX0_settle_133 : decode cX0_settle 133 = .ok (.iinc 2 1, 3) := by decide +kernel
theorem dX0_settle_136 : decode cX0_settle 136 = .ok (.goto (-60), 3) := by decide +kernel
theorem dX0_settle_139 : decode cX0_settle 139 = .ok (.return_, 1) := by decide +kernel
abbrev cX0_stuck : ByteArray := prog_1_method_29_code
def yX0_stuck : MethodName := ⟨RX0, "stuck", "(IJ)J"⟩
theorem dX0_stuck_0 : decode cX0_stuck 0 = .ok (.lload_n 1, 1) := by decide +kernel
theorem dX0_stuck_1 : decode cX0_stuck 1 = .ok (.lconst 1, 1) := by decide +kernel
theorem dX0_stuck_2 : decode cX0_stuck 2 = .ok (.iconst 2, 1) := by decide +kernel
theorem dX0_stuck_3 : decode cX0_stuck 3 = .ok (.iload_n 0, 1) := by decide +kernel
theorem dX0_stuck_4 : decode cX0_stuck 4 = .ok (.imul, 1) := by decide +kernel
theorem dX0_stuck_5 : decode cX0_stuck 5 = .ok (.lshl, 1) := by decide +kernel
theorem dX0_stuck_6 : decode cX0_stuck 6 = .ok (.ldc2_w 76, 3) := by decide +kernel
theorem dX0_stuck_9 : decode cX0_stuck 9 = .ok (.lxor, 1) := by decide +kernel
theorem dX0_stuck_10 : decode cX0_stuck 10 = .ok (.land, 1) := by decide +kernel
theorem dX0_stuck_11 : decode cX0_stuck 11 = .ok (.lconst 1, 1) := by decide +kernel
theorem dX0_stuck_12 : decode cX0_stuck 12 = .ok (.iconst 2, 1) := by decide +kernel
theorem dX0_stuck_13 : decode cX0_stuck 13 = .ok (.iload_n 0, 1) := by decide +kernel
theorem dX0_stuck_14 : decode cX0_stuck 14 = .ok (.imul, 1) := by decide +kernel
theorem dX0_stuck_15 : decode cX0_stuck 15 = .ok (.iconst 1, 1) := by decide +kernel
theorem dX0_stuck_16 : decode cX0_stuck 16 = .ok (.iadd, 1) := by decide +kernel
theorem dX0_stuck_17 : decode cX0_stuck 17 = .ok (.lshl, 1) := by decide +kernel
theorem dX0_stuck_18 : decode cX0_stuck 18 = .ok (.lor, 1) := by decide +kernel
theorem dX0_stuck_19 : decode cX0_stuck 19 = .ok (.lreturn, 1) := by decide +kernel
abbrev cX0_combine : ByteArray := prog_1_method_32_code
def yX0_combine : MethodName := ⟨RX0, "combine", "(IJJ)J"⟩
theorem dX0_combine_0 : decode cX0_combine 0 = .ok (.iload_n 0, 1) := by decide +kernel
theorem dX0_combine_1 : decode cX0_combine 1 = .ok (.ifCond .ne 7, 3) := by decide +kernel
theorem dX0_combine_4 : decode cX0_combine 4 = .ok (.lload_n 1, 1) := by decide +kernel
theorem dX0_combine_5 : decode cX0_combine 5 = .ok (.lload_n 3, 1) := by decide +kernel
theorem dX0_combine_6 : decode cX0_combine 6 = .ok (.land, 1) := by decide +kernel
theorem dX0_combine_7 : decode cX0_combine 7 = .ok (.lreturn, 1) := by decide +kernel
theorem dX0_combine_8 : decode cX0_combine 8 = .ok (.iload_n 0, 1) := by decide +kernel
theorem dX0_combine_9 : decode cX0_combine 9 = .ok (.iconst 1, 1) := by decide +kernel
theorem dX0_combine_10 : decode cX0_combine 10 = .ok (.if_icmp .ne 7, 3) := by decide +kernel
theorem dX0_combine_13 : decode cX0_combine 13 = .ok (.lload_n 1, 1) := by decide +kernel
theorem dX0_combine_14 : decode cX0_combine 14 = .ok (.lload_n 3, 1) := by decide +kernel
theorem dX0_combine_15 : decode cX0_combine 15 = .ok (.lor, 1) := by decide +kernel
theorem dX0_combine_16 : decode cX0_combine 16 = .ok (.lreturn, 1) := by decide +kernel
theorem dX0_combine_17 : decode cX0_combine 17 = .ok (.iload_n 0, 1) := by decide +kernel
theorem dX0_combine_18 : decode cX0_combine 18 = .ok (.iconst 2, 1) := by decide +kernel
theorem dX0_combine_19 : decode cX0_combine 19 = .ok (.if_icmp .ne 7, 3) := by decide +kernel
theorem dX0_combine_22 : decode cX0_combine 22 = .ok (.lload_n 1, 1) := by decide +kernel
theorem dX0_combine_23 : decode cX0_combine 23 = .ok (.lload_n 3, 1) := by decide +kernel
theorem dX0_combine_24 : decode cX0_combine 24 = .ok (.lxor, 1) := by decide +kernel
theorem dX0_combine_25 : decode cX0_combine 25 = .ok (.lreturn, 1) := by decide +kernel
theorem dX0_combine_26 : decode cX0_combine 26 = .ok (.iload_n 0, 1) := by decide +kernel
theorem dX0_combine_27 : decode cX0_combine 27 = .ok (.iconst 3, 1) := by decide +kernel
theorem dX0_combine_28 : decode cX0_combine 28 = .ok (.if_icmp .ne 11, 3) := by decide +kernel
theorem dX0_combine_31 : decode cX0_combine 31 = .ok (.lload_n 1, 1) := by decide +kernel
theorem dX0_combine_32 : decode cX0_combine 32 = .ok (.lload_n 3, 1) := by decide +kernel
theorem dX0_combine_33 : decode cX0_combine 33 = .ok (.land, 1) := by decide +kernel
theorem dX0_combine_34 : decode cX0_combine 34 = .ok (.ldc2_w 76, 3) := by decide +kernel
theorem dX0_combine_37 : decode cX0_combine 37 = .ok (.lxor, 1) := by decide +kernel
theorem dX0_combine_38 : decode cX0_combine 38 = .ok (.lreturn, 1) := by decide +kernel
theorem dX0_combine_39 : decode cX0_combine 39 = .ok (.iload_n 0, 1) := by decide +kernel
theorem dX0_combine_40 : decode cX0_combine 40 = .ok (.iconst 4, 1) := by decide +kernel
theorem dX0_combine_41 : decode cX0_combine 41 = .ok (.if_icmp .ne 13, 3) := by decide +kernel
theorem dX0_combine_44 : decode cX0_combine 44 = .ok (.lload_n 1, 1) := by decide +kernel
theorem dX0_combine_45 : decode cX0_combine 45 = .ok (.lload_n 3, 1) := by decide +kernel
theorem dX0_combine_46 : decode cX0_combine 46 = .ok (.lor, 1) := by decide +kernel
theorem dX0_combine_47 : decode cX0_combine 47 = .ok (.ldc2_w 76, 3) := by decide +kernel
theorem dX0_combine_50 : decode cX0_combine 50 = .ok (.lxor, 1) := by decide +kernel
theorem dX0_combine_51 : decode cX0_combine 51 = .ok (.goto 8, 3) := by decide +kernel
theorem dX0_combine_54 : decode cX0_combine 54 = .ok (.lload_n 1, 1) := by decide +kernel
theorem dX0_combine_55 : decode cX0_combine 55 = .ok (.ldc2_w 76, 3) := by decide +kernel
theorem dX0_combine_58 : decode cX0_combine 58 = .ok (.lxor, 1) := by decide +kernel
theorem dX0_combine_59 : decode cX0_combine 59 = .ok (.lreturn, 1) := by decide +kernel
end
section
set_option maxRecDepth 100000
abbrev cX0_answerOf : ByteArray := prog_1_method_33_code
def yX0_answerOf : MethodName := ⟨RX0, "answerOf", "(I)I"⟩
theorem dX0_answerOf_0 : decode cX0_answerOf 0 = .ok (.iconst 0, 1) := by decide +kernel
theorem dX0_answerOf_1 : decode cX0_answerOf 1 = .ok (.istore_n 2, 1) := by decide +kernel
theorem dX0_answerOf_2 : decode cX0_answerOf 2 = .ok (.iconst 0, 1) := by decide +kernel
theorem dX0_answerOf_3 : decode cX0_answerOf 3 = .ok (.istore_n 3, 1) := by decide +kernel
theorem dX0_answerOf_4 : decode cX0_answerOf 4 = .ok (.iload_n 3, 1) := by decide +kernel
theorem dX0_answerOf_5 : decode cX0_answerOf 5 = .ok (.iconst 5, 1) := by decide +kernel
theorem dX0_answerOf_6 : decode cX0_answerOf 6 = .ok (.if_icmp .ge 25, 3) := by decide +kernel
theorem dX0_answerOf_9 : decode cX0_answerOf 9 = .ok (.iload_n 2, 1) := by decide +kernel
theorem dX0_answerOf_10 : decode cX0_answerOf 10 = .ok (.aload_n 0, 1) := by decide +kernel
theorem dX0_answerOf_11 : decode cX0_answerOf 11 = .ok (.getfield 32, 3) := by decide +kernel
theorem dX0_answerOf_14 : decode cX0_answerOf 14 = .ok (.iload_n 3, 1) := by decide +kernel
theorem dX0_answerOf_15 : decode cX0_answerOf 15 = .ok (.laload, 1) := by decide +kernel
theorem dX0_answerOf_16 : decode cX0_answerOf 16 = .ok (.iload_n 1, 1) := by decide +kernel
theorem dX0_answerOf_17 : decode cX0_answerOf 17 = .ok (.lushr, 1) := by decide +kernel
theorem dX0_answerOf_18 : decode cX0_answerOf 18 = .ok (.lconst 1, 1) := by decide +kernel
theorem dX0_answerOf_19 : decode cX0_answerOf 19 = .ok (.land, 1) := by decide +kernel
theorem dX0_answerOf_20 : decode cX0_answerOf 20 = .ok (.l2i, 1) := by decide +kernel
theorem dX0_answerOf_21 : decode cX0_answerOf 21 = .ok (.iload_n 3, 1) := by decide +kernel
theorem dX0_answerOf_22 : decode cX0_answerOf 22 = .ok (.ishl, 1) := by decide +kernel
theorem dX0_answerOf_23 : decode cX0_answerOf 23 = .ok (.iadd, 1) := by decide +kernel
theorem dX0_answerOf_24 : decode cX0_answerOf 24 = .ok (.istore_n 2, 1) := by decide +kernel
theorem dX0_answerOf_25 : decode cX0_answerOf 25 = .ok (.iinc 3 1, 3) := by decide +kernel
theorem dX0_answerOf_28 : decode cX0_answerOf 28 = .ok (.goto (-24), 3) := by decide +kernel
theorem dX0_answerOf_31 : decode cX0_answerOf 31 = .ok (.iload_n 2, 1) := by decide +kernel
theorem dX0_answerOf_32 : decode cX0_answerOf 32 = .ok (.ireturn, 1) := by decide +kernel
abbrev cX0_forget : ByteArray := prog_1_method_8_code
def yX0_forget : MethodName := ⟨RX0, "forget", "()I"⟩
theorem dX0_forget_0 : decode cX0_forget 0 = .ok (.aload_n 0, 1) := by decide +kernel
theorem dX0_forget_1 : decode cX0_forget 1 = .ok (.getfield 61, 3) := by decide +kernel
theorem dX0_forget_4 : decode cX0_forget 4 = .ok (.istore_n 1, 1) := by decide +kernel
theorem dX0_forget_5 : decode cX0_forget 5 = .ok (.aload_n 0, 1) := by decide +kernel
theorem dX0_forget_6 : decode cX0_forget 6 = .ok (.iconst 0, 1) := by decide +kernel
theorem dX0_forget_7 : decode cX0_forget 7 = .ok (.putfield 61, 3) := by decide +kernel
theorem dX0_forget_10 : decode cX0_forget 10 = .ok (.aload_n 0, 1) := by decide +kernel
theorem dX0_forget_11 : decode cX0_forget 11 = .ok (.ldc2_w 76, 3) := by decide +kernel
theorem dX0_forget_14 : decode cX0_forget 14 = .ok (.putfield 72, 3) := by decide +kernel
theorem dX0_forget_17 : decode cX0_forget 17 = .ok (.iload_n 1, 1) := by decide +kernel
theorem dX0_forget_18 : decode cX0_forget 18 = .ok (.ireturn, 1) := by decide +kernel
abbrev cX0_observations : ByteArray := prog_1_method_9_code
def yX0_observations : MethodName := ⟨RX0, "observations", "()I"⟩
theorem dX0_observations_0 : decode cX0_observations 0 = .ok (.aload_n 0, 1) := by decide +kernel
theorem dX0_observations_1 : decode cX0_observations 1 = .ok (.getfield 61, 3) := by decide +kernel
theorem dX0_observations_4 : decode cX0_observations 4 = .ok (.ireturn, 1) := by decide +kernel
abbrev cX0_response : ByteArray := prog_1_method_10_code
def yX0_response : MethodName := ⟨RX0, "response", "(II)I"⟩
theorem dX0_response_0 : decode cX0_response 0 = .ok (.iload_n 1, 1) := by decide +kernel
theorem dX0_response_1 : decode cX0_response 1 = .ok (.invokestatic 55, 3) := by decide +kernel
theorem dX0_response_4 : decode cX0_response 4 = .ok (.ifCond .ne 5, 3) := by decide +kernel
theorem dX0_response_7 : decode cX0_response 7 = .ok (.iconst (-1), 1) := by decide +kernel
theorem dX0_response_8 : decode cX0_response 8 = .ok (.ireturn, 1) := by decide +kernel
theorem dX0_response_9 : decode cX0_response 9 = .ok (.iload_n 2, 1) := by decide +kernel
theorem dX0_response_10 : decode cX0_response 10 = .ok (.invokestatic 58, 3) := by decide +kernel
theorem dX0_response_13 : decode cX0_response 13 = .ok (.ifCond .ne 6, 3) := by decide +kernel
theorem dX0_response_16 : decode cX0_response 16 = .ok (.bipush (-2), 2) := by decide +kernel
theorem dX0_response_18 : decode cX0_response 18 = .ok (.ireturn, 1) := by decide +kernel
theorem dX0_response_19 : decode cX0_response 19 = .ok (.aload_n 0, 1) := by decide +kernel
theorem dX0_response_20 : decode cX0_response 20 = .ok (.iload_n 1, 1) := by decide +kernel
theorem dX0_response_21 : decode cX0_response 21 = .ok (.iload_n 2, 1) := by decide +kernel
theorem dX0_response_22 : decode cX0_response 22 = .ok (.invokevirtual 64, 3) := by decide +kernel
theorem dX0_response_25 : decode cX0_response 25 = .ok (.aload_n 0, 1) := by decide +kernel
theorem dX0_response_26 : decode cX0_response 26 = .ok (.bipush 63, 2) := by decide +kernel
theorem dX0_response_28 : decode cX0_response 28 = .ok (.invokevirtual 68, 3) := by decide +kernel
theorem dX0_response_31 : decode cX0_response 31 = .ok (.ireturn, 1) := by decide +kernel
abbrev cX0_responseWith : ByteArray := prog_1_method_11_code
def yX0_responseWith : MethodName := ⟨RX0, "responseWith", "(III)I"⟩
theorem dX0_responseWith_0 : decode cX0_responseWith 0 = .ok (.aload_n 0, 1) := by decide +kernel
theorem dX0_responseWith_1 : decode cX0_responseWith 1 = .ok (.iload_n 1, 1) := by decide +kernel
theorem dX0_responseWith_2 : decode cX0_responseWith 2 = .ok (.invokevirtual 52, 3) := by decide +kernel
theorem dX0_responseWith_5 : decode cX0_responseWith 5 = .ok (.ifCond .ne 5, 3) := by decide +kernel
theorem dX0_responseWith_8 : decode cX0_responseWith 8 = .ok (.iconst (-1), 1) := by decide +kernel
theorem dX0_responseWith_9 : decode cX0_responseWith 9 = .ok (.ireturn, 1) := by decide +kernel
theorem dX0_responseWith_10 : decode cX0_responseWith 10 = .ok (.iload_n 2, 1) := by decide +kernel
theorem dX0_responseWith_11 : decode cX0_responseWith 11 = .ok (.invokestatic 55, 3) := by decide +kernel
theorem dX0_responseWith_14 : decode cX0_responseWith 14 = .ok (.ifCond .ne 6, 3) := by decide +kernel
theorem dX0_responseWith_17 : decode cX0_responseWith 17 = .ok (.bipush (-2), 2) := by decide +kernel
theorem dX0_responseWith_19 : decode cX0_responseWith 19 = .ok (.ireturn, 1) := by decide +kernel
theorem dX0_responseWith_20 : decode cX0_responseWith 20 = .ok (.iload_n 3, 1) := by decide +kernel
theorem dX0_responseWith_21 : decode cX0_responseWith 21 = .ok (.invokestatic 58, 3) := by decide +kernel
theorem dX0_responseWith_24 : decode cX0_responseWith 24 = .ok (.ifCond .ne 6, 3) := by decide +kernel
theorem dX0_responseWith_27 : decode cX0_responseWith 27 = .ok (.bipush (-3), 2) := by decide +kernel
theorem dX0_responseWith_29 : decode cX0_responseWith 29 = .ok (.ireturn, 1) := by decide +kernel
theorem dX0_responseWith_30 : decode cX0_responseWith 30 = .ok (.aload_n 0, 1) := by decide +kernel
theorem dX0_responseWith_31 : decode cX0_responseWith 31 = .ok (.iload_n 2, 1) := by decide +kernel
theorem dX0_responseWith_32 : decode cX0_responseWith 32 = .ok (.iload_n 3, 1) := by decide +kernel
theorem dX0_responseWith_33 : decode cX0_responseWith 33 = .ok (.invokevirtual 64, 3) := by decide +kernel
theorem dX0_responseWith_36 : decode cX0_responseWith 36 = .ok (.aload_n 0, 1) := by decide +kernel
theorem dX0_responseWith_37 : decode cX0_responseWith 37 = .ok (.iload_n 1, 1) := by decide +kernel
theorem dX0_responseWith_38 : decode cX0_responseWith 38 = .ok (.invokevirtual 68, 3) := by decide +kernel
theorem dX0_responseWith_41 : decode cX0_responseWith 41 = .ok (.ireturn, 1) := by decide +kernel
abbrev cX0_candidates : ByteArray := prog_1_method_12_code
def yX0_candidates : MethodName := ⟨RX0, "candidates", "()I"⟩
theorem dX0_candidates_0 : decode cX0_candidates 0 = .ok (.aload_n 0, 1) := by decide +kernel
theorem dX0_candidates_1 : decode cX0_candidates 1 = .ok (.getfield 72, 3) := by decide +kernel
theorem dX0_candidates_4 : decode cX0_candidates 4 = .ok (.aload_n 0, 1) := by decide +kernel
theorem dX0_candidates_5 : decode cX0_candidates 5 = .ok (.invokevirtual 78, 3) := by decide +kernel
theorem dX0_candidates_8 : decode cX0_candidates 8 = .ok (.land, 1) := by decide +kernel
theorem dX0_candidates_9 : decode cX0_candidates 9 = .ok (.invokestatic 82, 3) := by decide +kernel
theorem dX0_candidates_12 : decode cX0_candidates 12 = .ok (.ireturn, 1) := by decide +kernel
abbrev cX0_faults : ByteArray := prog_1_method_26_code
def yX0_faults : MethodName := ⟨RX0, "faults", "()J"⟩
theorem dX0_faults_0 : decode cX0_faults 0 = .ok (.lconst 1, 1) := by decide +kernel
theorem dX0_faults_1 : decode cX0_faults 1 = .ok (.iconst 2, 1) := by decide +kernel
theorem dX0_faults_2 : decode cX0_faults 2 = .ok (.bipush 7, 2) := by decide +kernel
theorem dX0_faults_4 : decode cX0_faults 4 = .ok (.aload_n 0, 1) := by decide +kernel
theorem dX0_faults_5 : decode cX0_faults 5 = .ok (.getfield 49, 3) := by decide +kernel
theorem dX0_faults_8 : decode cX0_faults 8 = .ok (.iadd, 1) := by decide +kernel
theorem dX0_faults_9 : decode cX0_faults 9 = .ok (.imul, 1) := by decide +kernel
theorem dX0_faults_10 : decode cX0_faults 10 = .ok (.lshl, 1) := by decide +kernel
theorem dX0_faults_11 : decode cX0_faults 11 = .ok (.lconst 1, 1) := by decide +kernel
theorem dX0_faults_12 : decode cX0_faults 12 = .ok (.lsub, 1) := by decide +kernel
theorem dX0_faults_13 : decode cX0_faults 13 = .ok (.lreturn, 1) := by decide +kernel
abbrev cX0_ones : ByteArray := prog_1_method_27_code
def yX0_ones : MethodName := ⟨RX0, "ones", "(J)I"⟩
theorem dX0_ones_0 : decode cX0_ones 0 = .ok (.lload_n 0, 1) := by decide +kernel
theorem dX0_ones_1 : decode cX0_ones 1 = .ok (.lload_n 0, 1) := by decide +kernel
theorem dX0_ones_2 : decode cX0_ones 2 = .ok (.iconst 1, 1) := by decide +kernel
theorem dX0_ones_3 : decode cX0_ones 3 = .ok (.lushr, 1) := by decide +kernel
theorem dX0_ones_4 : decode cX0_ones 4 = .ok (.ldc2_w 102, 3) := by decide +kernel
theorem dX0_ones_7 : decode cX0_ones 7 = .ok (.land, 1) := by decide +kernel
theorem dX0_ones_8 : decode cX0_ones 8 = .ok (.lsub, 1) := by decide +kernel
theorem dX0_ones_9 : decode cX0_ones 9 = .ok (.lstore_n 2, 1) := by decide +kernel
theorem dX0_ones_10 : decode cX0_ones 10 = .ok (.lload_n 2, 1) := by decide +kernel
theorem dX0_ones_11 : decode cX0_ones 11 = .ok (.ldc2_w 104, 3) := by decide +kernel
theorem dX0_ones_14 : decode cX0_ones 14 = .ok (.land, 1) := by decide +kernel
theorem dX0_ones_15 : decode cX0_ones 15 = .ok (.lload_n 2, 1) := by decide +kernel
theorem dX0_ones_16 : decode cX0_ones 16 = .ok (.iconst 2, 1) := by decide +kernel
theorem dX0_ones_17 : decode cX0_ones 17 = .ok (.lushr, 1) := by decide +kernel
theorem dX0_ones_18 : decode cX0_ones 18 = .ok (.ldc2_w 104, 3) := by decide +kernel
theorem dX0_ones_21 : decode cX0_ones 21 = .ok (.land, 1) := by decide +kernel
theorem dX0_ones_22 : decode cX0_ones 22 = .ok (.ladd, 1) := by decide +kernel
theorem dX0_ones_23 : decode cX0_ones 23 = .ok (.lstore_n 2, 1) := by decide +kernel
theorem dX0_ones_24 : decode cX0_ones 24 = .ok (.lload_n 2, 1) := by decide +kernel
theorem dX0_ones_25 : decode cX0_ones 25 = .ok (.lload_n 2, 1) := by decide +kernel
theorem dX0_ones_26 : decode cX0_ones 26 = .ok (.iconst 4, 1) := by decide +kernel
theorem dX0_ones_27 : decode cX0_ones 27 = .ok (.lushr, 1) := by decide +kernel
theorem dX0_ones_28 : decode cX0_ones 28 = .ok (.ladd, 1) := by decide +kernel
theorem dX0_ones_29 : decode cX0_ones 29 = .ok (.ldc2_w 106, 3) := by decide +kernel
theorem dX0_ones_32 : decode cX0_ones 32 = .ok (.land, 1) := by decide +kernel
theorem dX0_ones_33 : decode cX0_ones 33 = .ok (.lstore_n 2, 1) := by decide +kernel
theorem dX0_ones_34 : decode cX0_ones 34 = .ok (.lload_n 2, 1) := by decide +kernel
theorem dX0_ones_35 : decode cX0_ones 35 = .ok (.ldc2_w 108, 3) := by decide +kernel
theorem dX0_ones_38 : decode cX0_ones 38 = .ok (.lmul, 1) := by decide +kernel
theorem dX0_ones_39 : decode cX0_ones 39 = .ok (.bipush 56, 2) := by decide +kernel
theorem dX0_ones_41 : decode cX0_ones 41 = .ok (.lushr, 1) := by decide +kernel
theorem dX0_ones_42 : decode cX0_ones 42 = .ok (.l2i, 1) := by decide +kernel
theorem dX0_ones_43 : decode cX0_ones 43 = .ok (.ireturn, 1) := by decide +kernel
abbrev cX0_candidate : ByteArray := prog_1_method_13_code
def yX0_candidate : MethodName := ⟨RX0, "candidate", "(I)I"⟩
theorem dX0_candidate_0 : decode cX0_candidate 0 = .ok (.iload_n 1, 1) := by decide +kernel
theorem dX0_candidate_1 : decode cX0_candidate 1 = .ok (.istore_n 2, 1) := by decide +kernel
theorem dX0_candidate_2 : decode cX0_candidate 2 = .ok (.iconst 2, 1) := by decide +kernel
theorem dX0_candidate_3 : decode cX0_candidate 3 = .ok (.bipush 7, 2) := by decide +kernel
theorem dX0_candidate_5 : decode cX0_candidate 5 = .ok (.aload_n 0, 1) := by decide +kernel
theorem dX0_candidate_6 : decode cX0_candidate 6 = .ok (.getfield 49, 3) := by decide +kernel
theorem dX0_candidate_9 : decode cX0_candidate 9 = .ok (.iadd, 1) := by decide +kernel
theorem dX0_candidate_10 : decode cX0_candidate 10 = .ok (.imul, 1) := by decide +kernel
theorem dX0_candidate_11 : decode cX0_candidate 11 = .ok (.istore_n 3, 1) := by decide +kernel
theorem dX0_candidate_12 : decode cX0_candidate 12 = .ok (.iconst 0, 1) := by decide +kernel
theorem dX0_candidate_13 : decode cX0_candidate 13 = .ok (.istore 4, 2) := by decide +kernel
theorem dX0_candidate_15 : decode cX0_candidate 15 = .ok (.iload 4, 2) := by decide +kernel
theorem dX0_candidate_17 : decode cX0_candidate 17 = .ok (.iload_n 3, 1) := by decide +kernel
theorem dX0_candidate_18 : decode cX0_candidate 18 = .ok (.if_icmp .ge 33, 3) := by decide +kernel
theorem dX0_candidate_21 : decode cX0_candidate 21 = .ok (.aload_n 0, 1) := by decide +kernel
theorem dX0_candidate_22 : decode cX0_candidate 22 = .ok (.getfield 72, 3) := by decide +kernel
theorem dX0_candidate_25 : decode cX0_candidate 25 = .ok (.iload 4, 2) := by decide +kernel
theorem dX0_candidate_27 : decode cX0_candidate 27 = .ok (.lushr, 1) := by decide +kernel
theorem dX0_candidate_28 : decode cX0_candidate 28 = .ok (.lconst 1, 1) := by decide +kernel
theorem dX0_candidate_29 : decode cX0_candidate 29 = .ok (.land, 1) := by decide +kernel
theorem dX0_candidate_30 : decode cX0_candidate 30 = .ok (.lconst 1, 1) := by decide +kernel
theorem dX0_candidate_31 : decode cX0_candidate 31 = .ok (.lcmp, 1) := by decide +kernel
theorem dX0_candidate_32 : decode cX0_candidate 32 = .ok (.ifCond .ne 13, 3) := by decide +kernel
theorem dX0_candidate_35 : decode cX0_candidate 35 = .ok (.iload_n 2, 1) := by decide +kernel
theorem dX0_candidate_36 : decode cX0_candidate 36 = .ok (.ifCond .ne 6, 3) := by decide +kernel
theorem dX0_candidate_39 : decode cX0_candidate 39 = .ok (.iload 4, 2) := by decide +kernel
theorem dX0_candidate_41 : decode cX0_candidate 41 = .ok (.ireturn, 1) := by decide +kernel
theorem dX0_candidate_42 : decode cX0_candidate 42 = .ok (.iinc 2 (-1), 3) := by decide +kernel
theorem dX0_candidate_45 : decode cX0_candidate 45 = .ok (.iinc 4 1, 3) := by decide +kernel
theorem dX0_candidate_48 : decode cX0_candidate 48 = .ok (.goto (-33), 3) := by decide +kernel
theorem dX0_candidate_51 : decode cX0_candidate 51 = .ok (.iconst (-1), 1) := by decide +kernel
theorem dX0_candidate_52 : decode cX0_candidate 52 = .ok (.ireturn, 1) := by decide +kernel
abbrev cX0_healthy : ByteArray := prog_1_method_14_code
def yX0_healthy : MethodName := ⟨RX0, "healthy", "()I"⟩
theorem dX0_healthy_0 : decode cX0_healthy 0 = .ok (.aload_n 0, 1) := by decide +kernel
theorem dX0_healthy_1 : decode cX0_healthy 1 = .ok (.getfield 72, 3) := by decide +kernel
theorem dX0_healthy_4 : decode cX0_healthy 4 = .ok (.lconst 0, 1) := by decide +kernel
theorem dX0_healthy_5 : decode cX0_healthy 5 = .ok (.lcmp, 1) := by decide +kernel
theorem dX0_healthy_6 : decode cX0_healthy 6 = .ok (.ifCond .ge 7, 3) := by decide +kernel
theorem dX0_healthy_9 : decode cX0_healthy 9 = .ok (.iconst 1, 1) := by decide +kernel
theorem dX0_healthy_10 : decode cX0_healthy 10 = .ok (.goto 4, 3) := by decide +kernel
theorem dX0_healthy_13 : decode cX0_healthy 13 = .ok (.iconst 0, 1) := by decide +kernel
theorem dX0_healthy_14 : decode cX0_healthy 14 = .ok (.ireturn, 1) := by decide +kernel
abbrev cX0_nextPattern : ByteArray := prog_1_method_15_code
def yX0_nextPattern : MethodName := ⟨RX0, "nextPattern", "()I"⟩
theorem dX0_nextPattern_0 : decode cX0_nextPattern 0 = .ok (.aload_n 0, 1) := by decide +kernel
theorem dX0_nextPattern_1 : decode cX0_nextPattern 1 = .ok (.getfield 72, 3) := by decide +kernel
theorem dX0_nextPattern_4 : decode cX0_nextPattern 4 = .ok (.aload_n 0, 1) := by decide +kernel
theorem dX0_nextPattern_5 : decode cX0_nextPattern 5 = .ok (.invokevirtual 78, 3) := by decide +kernel
theorem dX0_nextPattern_8 : decode cX0_nextPattern 8 = .ok (.land, 1) := by decide +kernel
theorem dX0_nextPattern_9 : decode cX0_nextPattern 9 = .ok (.lstore_n 1, 1) := by decide +kernel
theorem dX0_nextPattern_10 : decode cX0_nextPattern 10 = .ok (.iconst 0, 1) := by decide +kernel
theorem dX0_nextPattern_11 : decode cX0_nextPattern 11 = .ok (.istore_n 3, 1) := by decide +kernel
theorem dX0_nextPattern_12 : decode cX0_nextPattern 12 = .ok (.iload_n 3, 1) := by decide +kernel
theorem dX0_nextPattern_13 : decode cX0_nextPattern 13 = .ok (.sipush 128, 3) := by decide +kernel
theorem dX0_nextPattern_16 : decode cX0_nextPattern 16 = .ok (.if_icmp .ge 57, 3) := by decide +kernel
theorem dX0_nextPattern_19 : decode cX0_nextPattern 19 = .ok (.aload_n 0, 1) := by decide +kernel
theorem dX0_nextPattern_20 : decode cX0_nextPattern 20 = .ok (.iload_n 3, 1) := by decide +kernel
theorem dX0_nextPattern_21 : decode cX0_nextPattern 21 = .ok (.iconst 1, 1) := by decide +kernel
theorem dX0_nextPattern_22 : decode cX0_nextPattern 22 = .ok (.invokevirtual 64, 3) := by decide +kernel
theorem dX0_nextPattern_25 : decode cX0_nextPattern 25 = .ok (.iconst 0, 1) := by decide +kernel
theorem dX0_nextPattern_26 : decode cX0_nextPattern 26 = .ok (.istore 4, 2) := by decide +kernel
theorem dX0_nextPattern_28 : decode cX0_nextPattern 28 = .ok (.iload 4, 2) := by decide +kernel
theorem dX0_nextPattern_30 : decode cX0_nextPattern 30 = .ok (.iconst 5, 1) := by decide +kernel
theorem dX0_nextPattern_31 : decode cX0_nextPattern 31 = .ok (.if_icmp .ge 36, 3) := by decide +kernel
theorem dX0_nextPattern_34 : decode cX0_nextPattern 34 = .ok (.aload_n 0, 1) := by decide +kernel
theorem dX0_nextPattern_35 : decode cX0_nextPattern 35 = .ok (.getfield 32, 3) := by decide +kernel
theorem dX0_nextPattern_38 : decode cX0_nextPattern 38 = .ok (.iload 4, 2) := by decide +kernel
theorem dX0_nextPattern_40 : decode cX0_nextPattern 40 = .ok (.laload, 1) := by decide +kernel
theorem dX0_nextPattern_41 : decode cX0_nextPattern 41 = .ok (.lload_n 1, 1) := by decide +kernel
theorem dX0_nextPattern_42 : decode cX0_nextPattern 42 = .ok (.land, 1) := by decide +kernel
theorem dX0_nextPattern_43 : decode cX0_nextPattern 43 = .ok (.lstore 5, 2) := by decide +kernel
theorem dX0_nextPattern_45 : decode cX0_nextPattern 45 = .ok (.lload 5, 2) := by decide +kernel
theorem dX0_nextPattern_47 : decode cX0_nextPattern 47 = .ok (.lconst 0, 1) := by decide +kernel
theorem dX0_nextPattern_48 : decode cX0_nextPattern 48 = .ok (.lcmp, 1) := by decide +kernel
theorem dX0_nextPattern_49 : decode cX0_nextPattern 49 = .ok (.ifCond .eq 12, 3) := by decide +kernel
theorem dX0_nextPattern_52 : decode cX0_nextPattern 52 = .ok (.lload 5, 2) := by decide +kernel
theorem dX0_nextPattern_54 : decode cX0_nextPattern 54 = .ok (.lload_n 1, 1) := by decide +kernel
theorem dX0_nextPattern_55 : decode cX0_nextPattern 55 = .ok (.lcmp, 1) := by decide +kernel
theorem dX0_nextPattern_56 : decode cX0_nextPattern 56 = .ok (.ifCond .eq 5, 3) := by decide +kernel
theorem dX0_nextPattern_59 : decode cX0_nextPattern 59 = .ok (.iload_n 3, 1) := by decide +kernel
theorem dX0_nextPattern_60 : decode cX0_nextPattern 60 = .ok (.ireturn, 1) := by decide +kernel
theorem dX0_nextPattern_61 : decode cX0_nextPattern 61 = .ok (.iinc 4 1, 3) := by decide +kernel
theorem dX0_nextPattern_64 : decode cX0_nextPattern 64 = .ok (.goto (-36), 3) := by decide +kernel
theorem dX0_nextPattern_67 : decode cX0_nextPattern 67 = .ok (.iinc 3 1, 3) := by decide +kernel
theorem dX0_nextPattern_70 : decode cX0_nextPattern 70 = .ok (.goto (-58), 3) := by decide +kernel
theorem dX0_nextPattern_73 : decode cX0_nextPattern 73 = .ok (.iconst (-1), 1) := by decide +kernel
theorem dX0_nextPattern_74 : decode cX0_nextPattern 74 = .ok (.ireturn, 1) := by decide +kernel
abbrev cX0_detected : ByteArray := prog_1_method_16_code
def yX0_detected : MethodName := ⟨RX0, "detected", "(II)I"⟩
theorem dX0_detected_0 : decode cX0_detected 0 = .ok (.iload_n 1, 1) := by decide +kernel
theorem dX0_detected_1 : decode cX0_detected 1 = .ok (.invokestatic 55, 3) := by decide +kernel
theorem dX0_detected_4 : decode cX0_detected 4 = .ok (.ifCond .ne 5, 3) := by decide +kernel
theorem dX0_detected_7 : decode cX0_detected 7 = .ok (.iconst (-1), 1) := by decide +kernel
theorem dX0_detected_8 : decode cX0_detected 8 = .ok (.ireturn, 1) := by decide +kernel
theorem dX0_detected_9 : decode cX0_detected 9 = .ok (.iload_n 2, 1) := by decide +kernel
theorem dX0_detected_10 : decode cX0_detected 10 = .ok (.invokestatic 58, 3) := by decide +kernel
theorem dX0_detected_13 : decode cX0_detected 13 = .ok (.ifCond .ne 6, 3) := by decide +kernel
theorem dX0_detected_16 : decode cX0_detected 16 = .ok (.bipush (-2), 2) := by decide +kernel
theorem dX0_detected_18 : decode cX0_detected 18 = .ok (.ireturn, 1) := by decide +kernel
theorem dX0_detected_19 : decode cX0_detected 19 = .ok (.aload_n 0, 1) := by decide +kernel
theorem dX0_detected_20 : decode cX0_detected 20 = .ok (.iload_n 1, 1) := by decide +kernel
theorem dX0_detected_21 : decode cX0_detected 21 = .ok (.iload_n 2, 1) := by decide +kernel
theorem dX0_detected_22 : decode cX0_detected 22 = .ok (.invokevirtual 64, 3) := by decide +kernel
theorem dX0_detected_25 : decode cX0_detected 25 = .ok (.lconst 0, 1) := by decide +kernel
theorem dX0_detected_26 : decode cX0_detected 26 = .ok (.lstore_n 3, 1) := by decide +kernel
theorem dX0_detected_27 : decode cX0_detected 27 = .ok (.iconst 0, 1) := by decide +kernel
theorem dX0_detected_28 : decode cX0_detected 28 = .ok (.istore 5, 2) := by decide +kernel
theorem dX0_detected_30 : decode cX0_detected 30 = .ok (.iload 5, 2) := by decide +kernel
theorem dX0_detected_32 : decode cX0_detected 32 = .ok (.iconst 5, 1) := by decide +kernel
theorem dX0_detected_33 : decode cX0_detected 33 = .ok (.if_icmp .ge 45, 3) := by decide +kernel
theorem dX0_detected_36 : decode cX0_detected 36 = .ok (.lload_n 3, 1) := by decide +kernel
theorem dX0_detected_37 : decode cX0_detected 37 = .ok (.aload_n 0, 1) := by decide +kernel
theorem dX0_detected_38 : decode cX0_detected 38 = .ok (.getfield 32, 3) := by decide +kernel
theorem dX0_detected_41 : decode cX0_detected 41 = .ok (.iload 5, 2) := by decide +kernel
theorem dX0_detected_43 : decode cX0_detected 43 = .ok (.laload, 1) := by decide +kernel
theorem dX0_detected_44 : decode cX0_detected 44 = .ok (.lconst 0, 1) := by decide +kernel
theorem dX0_detected_45 : decode cX0_detected 45 = .ok (.lcmp, 1) := by decide +kernel
theorem dX0_detected_46 : decode cX0_detected 46 = .ok (.ifCond .ge 17, 3) := by decide +kernel
theorem dX0_detected_49 : decode cX0_detected 49 = .ok (.aload_n 0, 1) := by decide +kernel
theorem dX0_detected_50 : decode cX0_detected 50 = .ok (.getfield 32, 3) := by decide +kernel
theorem dX0_detected_53 : decode cX0_detected 53 = .ok (.iload 5, 2) := by decide +kernel
theorem dX0_detected_55 : decode cX0_detected 55 = .ok (.laload, 1) := by decide +kernel
theorem dX0_detected_56 : decode cX0_detected 56 = .ok (.ldc2_w 76, 3) := by decide +kernel
theorem dX0_detected_59 : decode cX0_detected 59 = .ok (.lxor, 1) := by decide +kernel
theorem dX0_detected_60 : decode cX0_detected 60 = .ok (.goto 10, 3) := by decide +kernel
theorem dX0_detected_63 : decode cX0_detected 63 = .ok (.aload_n 0, 1) := by decide +kernel
theorem dX0_detected_64 : decode cX0_detected 64 = .ok (.getfield 32, 3) := by decide +kernel
theorem dX0_detected_67 : decode cX0_detected 67 = .ok (.iload 5, 2) := by decide +kernel
theorem dX0_detected_69 : decode cX0_detected 69 = .ok (.laload, 1) := by decide +kernel
theorem dX0_detected_70 : decode cX0_detected 70 = .ok (.lor, 1) := by decide +kernel
theorem dX0_detected_71 : decode cX0_detected 71 = .ok (.lstore_n 3, 1) := by decide +kernel
theorem dX0_detected_72 : decode cX0_detected 72 = .ok (.iinc 5 1, 3) := by decide +kernel
theorem dX0_detected_75 : decode cX0_detected 75 = .ok (.goto (-45), 3) := by decide +kernel
theorem dX0_detected_78 : decode cX0_detected 78 = .ok (.lload_n 3, 1) := by decide +kernel
theorem dX0_detected_79 : decode cX0_detected 79 = .ok (.aload_n 0, 1) := by decide +kernel
theorem dX0_detected_80 : decode cX0_detected 80 = .ok (.invokevirtual 78, 3) := by decide +kernel
theorem dX0_detected_83 : decode cX0_detected 83 = .ok (.land, 1) := by decide +kernel
theorem dX0_detected_84 : decode cX0_detected 84 = .ok (.invokestatic 82, 3) := by decide +kernel
theorem dX0_detected_87 : decode cX0_detected 87 = .ok (.ireturn, 1) := by decide +kernel
end
section
set_option maxRecDepth 100000
abbrev cX0_hidden : ByteArray := prog_1_method_17_code
def yX0_hidden : MethodName := ⟨RX0, "hidden", "()I"⟩
theorem dX0_hidden_0 : decode cX0_hidden 0 = .ok (.aload_n 0, 1) := by decide +kernel
theorem dX0_hidden_1 : decode cX0_hidden 1 = .ok (.invokevirtual 86, 3) := by decide +kernel
theorem dX0_hidden_4 : decode cX0_hidden 4 = .ok (.aload_n 0, 1) := by decide +kernel
theorem dX0_hidden_5 : decode cX0_hidden 5 = .ok (.getfield 89, 3) := by decide +kernel
theorem dX0_hidden_8 : decode cX0_hidden 8 = .ok (.aload_n 0, 1) := by decide +kernel
theorem dX0_hidden_9 : decode cX0_hidden 9 = .ok (.invokevirtual 78, 3) := by decide +kernel
theorem dX0_hidden_12 : decode cX0_hidden 12 = .ok (.land, 1) := by decide +kernel
theorem dX0_hidden_13 : decode cX0_hidden 13 = .ok (.invokestatic 82, 3) := by decide +kernel
theorem dX0_hidden_16 : decode cX0_hidden 16 = .ok (.ireturn, 1) := by decide +kernel
abbrev cX0_group : ByteArray := prog_1_method_34_code
def yX0_group : MethodName := ⟨RX0, "group", "()V"⟩
theorem dX0_group_0 : decode cX0_group 0 = .ok (.aload_n 0, 1) := by decide +kernel
theorem dX0_group_1 : decode cX0_group 1 = .ok (.getfield 98, 3) := by decide +kernel
theorem dX0_group_4 : decode cX0_group 4 = .ok (.ifCond .eq 4, 3) := by decide +kernel
theorem dX0_group_7 : decode cX0_group 7 = .ok (.return_, 1) := by decide +kernel
theorem dX0_group_8 : decode cX0_group 8 = .ok (.aload_n 0, 1) := by decide +kernel
theorem dX0_group_9 : decode cX0_group 9 = .ok (.iconst 1, 1) := by decide +kernel
theorem dX0_group_10 : decode cX0_group 10 = .ok (.putfield 98, 3) := by decide +kernel
theorem dX0_group_13 : decode cX0_group 13 = .ok (.aload_n 0, 1) := by decide +kernel
theorem dX0_group_14 : decode cX0_group 14 = .ok (.ldc2_w 76, 3) := by decide +kernel
theorem dX0_group_17 : decode cX0_group 17 = .ok (.putfield 89, 3) := by decide +kernel
theorem dX0_group_20 : decode cX0_group 20 = .ok (.iconst 0, 1) := by decide +kernel
theorem dX0_group_21 : decode cX0_group 21 = .ok (.istore_n 1, 1) := by decide +kernel
theorem dX0_group_22 : decode cX0_group 22 = .ok (.iload_n 1, 1) := by decide +kernel
theorem dX0_group_23 : decode cX0_group 23 = .ok (.bipush 42, 2) := by decide +kernel
theorem dX0_group_25 : decode cX0_group 25 = .ok (.if_icmp .ge 19, 3) := by decide +kernel
theorem dX0_group_28 : decode cX0_group 28 = .ok (.aload_n 0, 1) := by decide +kernel
theorem dX0_group_29 : decode cX0_group 29 = .ok (.getfield 35, 3) := by decide +kernel
theorem dX0_group_32 : decode cX0_group 32 = .ok (.iload_n 1, 1) := by decide +kernel
theorem dX0_group_33 : decode cX0_group 33 = .ok (.aload_n 0, 1) := by decide +kernel
theorem dX0_group_34 : decode cX0_group 34 = .ok (.invokevirtual 78, 3) := by decide +kernel
theorem dX0_group_37 : decode cX0_group 37 = .ok (.lastore, 1) := by decide +kernel
theorem dX0_group_38 : decode cX0_group 38 = .ok (.iinc 1 1, 3) := by decide +kernel
theorem dX0_group_41 : decode cX0_group 41 = .ok (.goto (-19), 3) := by decide +kernel
theorem dX0_group_44 : decode cX0_group 44 = .ok (.iconst 0, 1) := by decide +kernel
theorem dX0_group_45 : decode cX0_group 45 = .ok (.istore_n 1, 1) := by decide +kernel
theorem dX0_group_46 : decode cX0_group 46 = .ok (.iload_n 1, 1) := by decide +kernel
theorem dX0_group_47 : decode cX0_group 47 = .ok (.sipush 128, 3) := by decide +kernel
theorem dX0_group_50 : decode cX0_group 50 = .ok (.if_icmp .ge 38, 3) := by decide +kernel
theorem dX0_group_53 : decode cX0_group 53 = .ok (.aload_n 0, 1) := by decide +kernel
theorem dX0_group_54 : decode cX0_group 54 = .ok (.iload_n 1, 1) := by decide +kernel
theorem dX0_group_55 : decode cX0_group 55 = .ok (.iconst 1, 1) := by decide +kernel
theorem dX0_group_56 : decode cX0_group 56 = .ok (.invokevirtual 64, 3) := by decide +kernel
theorem dX0_group_59 : decode cX0_group 59 = .ok (.iconst 0, 1) := by decide +kernel
theorem dX0_group_60 : decode cX0_group 60 = .ok (.istore_n 2, 1) := by decide +kernel
theorem dX0_group_61 : decode cX0_group 61 = .ok (.iload_n 2, 1) := by decide +kernel
theorem dX0_group_62 : decode cX0_group 62 = .ok (.iconst 5, 1) := by decide +kernel
theorem dX0_group_63 : decode cX0_group 63 = .ok (.if_icmp .ge 19, 3) := by decide +kernel
theorem dX0_group_66 : decode cX0_group 66 = .ok (.aload_n 0, 1) := by decide +kernel
theorem dX0_group_67 : decode cX0_group 67 = .ok (.aload_n 0, 1) := by decide +kernel
theorem dX0_group_68 : decode cX0_group 68 = .ok (.getfield 32, 3) := by decide +kernel
theorem dX0_group_71 : decode cX0_group 71 = .ok (.iload_n 2, 1) := by decide +kernel
theorem dX0_group_72 : decode cX0_group 72 = .ok (.laload, 1) := by decide +kernel
theorem dX0_group_73 : decode cX0_group 73 = .ok (.invokevirtual 122, 3) := by decide +kernel
theorem dX0_group_76 : decode cX0_group 76 = .ok (.iinc 2 1, 3) := by decide +kernel
theorem dX0_group_79 : decode cX0_group 79 = .ok (.goto (-18), 3) := by decide +kernel
theorem dX0_group_82 : decode cX0_group 82 = .ok (.iinc 1 1, 3) := by decide +kernel
theorem dX0_group_85 : decode cX0_group 85 = .ok (.goto (-39), 3) := by decide +kernel
theorem dX0_group_88 : decode cX0_group 88 = .ok (.return_, 1) := by decide +kernel
abbrev cX0_split : ByteArray := prog_1_method_35_code
def yX0_split : MethodName := ⟨RX0, "split", "(J)V"⟩
theorem dX0_split_0 : decode cX0_split 0 = .ok (.iconst 0, 1) := by decide +kernel
theorem dX0_split_1 : decode cX0_split 1 = .ok (.istore_n 3, 1) := by decide +kernel
theorem dX0_split_2 : decode cX0_split 2 = .ok (.iload_n 3, 1) := by decide +kernel
theorem dX0_split_3 : decode cX0_split 3 = .ok (.iconst 2, 1) := by decide +kernel
theorem dX0_split_4 : decode cX0_split 4 = .ok (.bipush 7, 2) := by decide +kernel
theorem dX0_split_6 : decode cX0_split 6 = .ok (.aload_n 0, 1) := by decide +kernel
theorem dX0_split_7 : decode cX0_split 7 = .ok (.getfield 49, 3) := by decide +kernel
theorem dX0_split_10 : decode cX0_split 10 = .ok (.iadd, 1) := by decide +kernel
theorem dX0_split_11 : decode cX0_split 11 = .ok (.imul, 1) := by decide +kernel
theorem dX0_split_12 : decode cX0_split 12 = .ok (.if_icmp .ge 41, 3) := by decide +kernel
theorem dX0_split_15 : decode cX0_split 15 = .ok (.aload_n 0, 1) := by decide +kernel
theorem dX0_split_16 : decode cX0_split 16 = .ok (.getfield 35, 3) := by decide +kernel
theorem dX0_split_19 : decode cX0_split 19 = .ok (.iload_n 3, 1) := by decide +kernel
theorem dX0_split_20 : decode cX0_split 20 = .ok (.aload_n 0, 1) := by decide +kernel
theorem dX0_split_21 : decode cX0_split 21 = .ok (.getfield 35, 3) := by decide +kernel
theorem dX0_split_24 : decode cX0_split 24 = .ok (.iload_n 3, 1) := by decide +kernel
theorem dX0_split_25 : decode cX0_split 25 = .ok (.laload, 1) := by decide +kernel
theorem dX0_split_26 : decode cX0_split 26 = .ok (.lload_n 1, 1) := by decide +kernel
theorem dX0_split_27 : decode cX0_split 27 = .ok (.iload_n 3, 1) := by decide +kernel
theorem dX0_split_28 : decode cX0_split 28 = .ok (.lushr, 1) := by decide +kernel
theorem dX0_split_29 : decode cX0_split 29 = .ok (.lconst 1, 1) := by decide +kernel
theorem dX0_split_30 : decode cX0_split 30 = .ok (.land, 1) := by decide +kernel
theorem dX0_split_31 : decode cX0_split 31 = .ok (.lconst 1, 1) := by decide +kernel
theorem dX0_split_32 : decode cX0_split 32 = .ok (.lcmp, 1) := by decide +kernel
theorem dX0_split_33 : decode cX0_split 33 = .ok (.ifCond .ne 7, 3) := by decide +kernel
theorem dX0_split_36 : decode cX0_split 36 = .ok (.lload_n 1, 1) := by decide +kernel
theorem dX0_split_37 : decode cX0_split 37 = .ok (.goto 8, 3) := by decide +kernel
theorem dX0_split_40 : decode cX0_split 40 = .ok (.lload_n 1, 1) := by decide +kernel
theorem dX0_split_41 : decode cX0_split 41 = .ok (.ldc2_w 76, 3) := by decide +kernel
theorem dX0_split_44 : decode cX0_split 44 = .ok (.lxor, 1) := by decide +kernel
theorem dX0_split_45 : decode cX0_split 45 = .ok (.land, 1) := by decide +kernel
theorem dX0_split_46 : decode cX0_split 46 = .ok (.lastore, 1) := by decide +kernel
theorem dX0_split_47 : decode cX0_split 47 = .ok (.iinc 3 1, 3) := by decide +kernel
theorem dX0_split_50 : decode cX0_split 50 = .ok (.goto (-48), 3) := by decide +kernel
theorem dX0_split_53 : decode cX0_split 53 = .ok (.aload_n 0, 1) := by decide +kernel
theorem dX0_split_54 : decode cX0_split 54 = .ok (.aload_n 0, 1) := by decide +kernel
theorem dX0_split_55 : decode cX0_split 55 = .ok (.getfield 89, 3) := by decide +kernel
theorem dX0_split_58 : decode cX0_split 58 = .ok (.lload_n 1, 1) := by decide +kernel
theorem dX0_split_59 : decode cX0_split 59 = .ok (.lconst 0, 1) := by decide +kernel
theorem dX0_split_60 : decode cX0_split 60 = .ok (.lcmp, 1) := by decide +kernel
theorem dX0_split_61 : decode cX0_split 61 = .ok (.ifCond .ge 7, 3) := by decide +kernel
theorem dX0_split_64 : decode cX0_split 64 = .ok (.lload_n 1, 1) := by decide +kernel
theorem dX0_split_65 : decode cX0_split 65 = .ok (.goto 8, 3) := by decide +kernel
theorem dX0_split_68 : decode cX0_split 68 = .ok (.lload_n 1, 1) := by decide +kernel
theorem dX0_split_69 : decode cX0_split 69 = .ok (.ldc2_w 76, 3) := by decide +kernel
theorem dX0_split_72 : decode cX0_split 72 = .ok (.lxor, 1) := by decide +kernel
theorem dX0_split_73 : decode cX0_split 73 = .ok (.land, 1) := by decide +kernel
theorem dX0_split_74 : decode cX0_split 74 = .ok (.putfield 89, 3) := by decide +kernel
theorem dX0_split_77 : decode cX0_split 77 = .ok (.return_, 1) := by decide +kernel
abbrev cX0_leader : ByteArray := prog_1_method_18_code
def yX0_leader : MethodName := ⟨RX0, "leader", "(I)I"⟩
theorem dX0_leader_0 : decode cX0_leader 0 = .ok (.aload_n 0, 1) := by decide +kernel
theorem dX0_leader_1 : decode cX0_leader 1 = .ok (.iload_n 1, 1) := by decide +kernel
theorem dX0_leader_2 : decode cX0_leader 2 = .ok (.invokevirtual 52, 3) := by decide +kernel
theorem dX0_leader_5 : decode cX0_leader 5 = .ok (.ifCond .ne 5, 3) := by decide +kernel
theorem dX0_leader_8 : decode cX0_leader 8 = .ok (.iconst (-1), 1) := by decide +kernel
theorem dX0_leader_9 : decode cX0_leader 9 = .ok (.ireturn, 1) := by decide +kernel
theorem dX0_leader_10 : decode cX0_leader 10 = .ok (.aload_n 0, 1) := by decide +kernel
theorem dX0_leader_11 : decode cX0_leader 11 = .ok (.invokevirtual 86, 3) := by decide +kernel
theorem dX0_leader_14 : decode cX0_leader 14 = .ok (.aload_n 0, 1) := by decide +kernel
theorem dX0_leader_15 : decode cX0_leader 15 = .ok (.getfield 35, 3) := by decide +kernel
theorem dX0_leader_18 : decode cX0_leader 18 = .ok (.iload_n 1, 1) := by decide +kernel
theorem dX0_leader_19 : decode cX0_leader 19 = .ok (.laload, 1) := by decide +kernel
theorem dX0_leader_20 : decode cX0_leader 20 = .ok (.invokestatic 92, 3) := by decide +kernel
theorem dX0_leader_23 : decode cX0_leader 23 = .ok (.ireturn, 1) := by decide +kernel
abbrev cX0_lowest : ByteArray := prog_1_method_28_code
def yX0_lowest : MethodName := ⟨RX0, "lowest", "(J)I"⟩
theorem dX0_lowest_0 : decode cX0_lowest 0 = .ok (.lload_n 0, 1) := by decide +kernel
theorem dX0_lowest_1 : decode cX0_lowest 1 = .ok (.lload_n 0, 1) := by decide +kernel
theorem dX0_lowest_2 : decode cX0_lowest 2 = .ok (.lneg, 1) := by decide +kernel
theorem dX0_lowest_3 : decode cX0_lowest 3 = .ok (.land, 1) := by decide +kernel
theorem dX0_lowest_4 : decode cX0_lowest 4 = .ok (.lstore_n 2, 1) := by decide +kernel
theorem dX0_lowest_5 : decode cX0_lowest 5 = .ok (.lload_n 2, 1) := by decide +kernel
theorem dX0_lowest_6 : decode cX0_lowest 6 = .ok (.lconst 1, 1) := by decide +kernel
theorem dX0_lowest_7 : decode cX0_lowest 7 = .ok (.lsub, 1) := by decide +kernel
theorem dX0_lowest_8 : decode cX0_lowest 8 = .ok (.invokestatic 82, 3) := by decide +kernel
theorem dX0_lowest_11 : decode cX0_lowest 11 = .ok (.ireturn, 1) := by decide +kernel
abbrev cX0_groups : ByteArray := prog_1_method_19_code
def yX0_groups : MethodName := ⟨RX0, "groups", "()I"⟩
theorem dX0_groups_0 : decode cX0_groups 0 = .ok (.aload_n 0, 1) := by decide +kernel
theorem dX0_groups_1 : decode cX0_groups 1 = .ok (.ldc2_w 76, 3) := by decide +kernel
theorem dX0_groups_4 : decode cX0_groups 4 = .ok (.invokevirtual 95, 3) := by decide +kernel
theorem dX0_groups_7 : decode cX0_groups 7 = .ok (.ireturn, 1) := by decide +kernel
abbrev cX0_groupsWith : ByteArray := prog_1_method_36_code
def yX0_groupsWith : MethodName := ⟨RX0, "groupsWith", "(J)I"⟩
theorem dX0_groupsWith_0 : decode cX0_groupsWith 0 = .ok (.aload_n 0, 1) := by decide +kernel
theorem dX0_groupsWith_1 : decode cX0_groupsWith 1 = .ok (.invokevirtual 86, 3) := by decide +kernel
theorem dX0_groupsWith_4 : decode cX0_groupsWith 4 = .ok (.iconst 0, 1) := by decide +kernel
theorem dX0_groupsWith_5 : decode cX0_groupsWith 5 = .ok (.istore_n 3, 1) := by decide +kernel
theorem dX0_groupsWith_6 : decode cX0_groupsWith 6 = .ok (.iconst 0, 1) := by decide +kernel
theorem dX0_groupsWith_7 : decode cX0_groupsWith 7 = .ok (.istore 4, 2) := by decide +kernel
theorem dX0_groupsWith_9 : decode cX0_groupsWith 9 = .ok (.iload 4, 2) := by decide +kernel
theorem dX0_groupsWith_11 : decode cX0_groupsWith 11 = .ok (.iconst 2, 1) := by decide +kernel
theorem dX0_groupsWith_12 : decode cX0_groupsWith 12 = .ok (.bipush 7, 2) := by decide +kernel
theorem dX0_groupsWith_14 : decode cX0_groupsWith 14 = .ok (.aload_n 0, 1) := by decide +kernel
theorem dX0_groupsWith_15 : decode cX0_groupsWith 15 = .ok (.getfield 49, 3) := by decide +kernel
theorem dX0_groupsWith_18 : decode cX0_groupsWith 18 = .ok (.iadd, 1) := by decide +kernel
theorem dX0_groupsWith_19 : decode cX0_groupsWith 19 = .ok (.imul, 1) := by decide +kernel
theorem dX0_groupsWith_20 : decode cX0_groupsWith 20 = .ok (.if_icmp .ge 41, 3) := by decide +kernel
theorem dX0_groupsWith_23 : decode cX0_groupsWith 23 = .ok (.aload_n 0, 1) := by decide +kernel
theorem dX0_groupsWith_24 : decode cX0_groupsWith 24 = .ok (.getfield 35, 3) := by decide +kernel
theorem dX0_groupsWith_27 : decode cX0_groupsWith 27 = .ok (.iload 4, 2) := by decide +kernel
theorem dX0_groupsWith_29 : decode cX0_groupsWith 29 = .ok (.laload, 1) := by decide +kernel
theorem dX0_groupsWith_30 : decode cX0_groupsWith 30 = .ok (.invokestatic 92, 3) := by decide +kernel
theorem dX0_groupsWith_33 : decode cX0_groupsWith 33 = .ok (.iload 4, 2) := by decide +kernel
theorem dX0_groupsWith_35 : decode cX0_groupsWith 35 = .ok (.if_icmp .ne 20, 3) := by decide +kernel
theorem dX0_groupsWith_38 : decode cX0_groupsWith 38 = .ok (.aload_n 0, 1) := by decide +kernel
theorem dX0_groupsWith_39 : decode cX0_groupsWith 39 = .ok (.getfield 35, 3) := by decide +kernel
theorem dX0_groupsWith_42 : decode cX0_groupsWith 42 = .ok (.iload 4, 2) := by decide +kernel
theorem dX0_groupsWith_44 : decode cX0_groupsWith 44 = .ok (.laload, 1) := by decide +kernel
theorem dX0_groupsWith_45 : decode cX0_groupsWith 45 = .ok (.lload_n 1, 1) := by decide +kernel
theorem dX0_groupsWith_46 : decode cX0_groupsWith 46 = .ok (.land, 1) := by decide +kernel
theorem dX0_groupsWith_47 : decode cX0_groupsWith 47 = .ok (.lconst 0, 1) := by decide +kernel
theorem dX0_groupsWith_48 : decode cX0_groupsWith 48 = .ok (.lcmp, 1) := by decide +kernel
theorem dX0_groupsWith_49 : decode cX0_groupsWith 49 = .ok (.ifCond .eq 6, 3) := by decide +kernel
theorem dX0_groupsWith_52 : decode cX0_groupsWith 52 = .ok (.iinc 3 1, 3) := by decide +kernel
theorem dX0_groupsWith_55 : decode cX0_groupsWith 55 = .ok (.iinc 4 1, 3) := by decide +kernel
theorem dX0_groupsWith_58 : decode cX0_groupsWith 58 = .ok (.goto (-49), 3) := by decide +kernel
theorem dX0_groupsWith_61 : decode cX0_groupsWith 61 = .ok (.iload_n 3, 1) := by decide +kernel
theorem dX0_groupsWith_62 : decode cX0_groupsWith 62 = .ok (.ireturn, 1) := by decide +kernel
abbrev cX0_candidateGroups : ByteArray := prog_1_method_20_code
def yX0_candidateGroups : MethodName := ⟨RX0, "candidateGroups", "()I"⟩
theorem dX0_candidateGroups_0 : decode cX0_candidateGroups 0 = .ok (.aload_n 0, 1) := by decide +kernel
theorem dX0_candidateGroups_1 : decode cX0_candidateGroups 1 = .ok (.aload_n 0, 1) := by decide +kernel
theorem dX0_candidateGroups_2 : decode cX0_candidateGroups 2 = .ok (.getfield 72, 3) := by decide +kernel
theorem dX0_candidateGroups_5 : decode cX0_candidateGroups 5 = .ok (.invokevirtual 95, 3) := by decide +kernel
theorem dX0_candidateGroups_8 : decode cX0_candidateGroups 8 = .ok (.ireturn, 1) := by decide +kernel
end
section
set_option maxRecDepth 100000
theorem q23 : (Jvm.Cond.initialized "ScanDiagnose") ∈ lw_all := lw_g (lw_at lw_m1 1 rfl) rfl
theorem q26 : (Jvm.Cond.instantiable "ScanDiagnose" (15 : Nat)) ∈ lw_all := lw_g (lw_at lw_m1 4 rfl) rfl
theorem q28 : (Jvm.Cond.instanceMethod ({ cls := "ScanDiagnose", name := "<init>", desc := "()V" } : Jvm.MethodName)) ∈ lw_all := lw_g (lw_at lw_m1 6 rfl) rfl
theorem q29 : (Jvm.Cond.code ({ cls := "ScanDiagnose", name := "<init>", desc := "()V" } : Jvm.MethodName) prog_1_method_1_code (2 : Nat) (Option.none : Option Jvm.ClassFile.FieldType)) ∈ lw_all := lw_g (lw_at lw_m1 7 rfl) rfl
theorem q30 : (Jvm.Cond.methodLink "ScanDiagnose" (1 : Nat) ({ cls := "java/lang/Object", name := "<init>", desc := "()V" } : Jvm.MethodName)) ∈ lw_all := lw_g (lw_at lw_m1 8 rfl) rfl
theorem q33 : (Jvm.Cond.methodLink "ScanDiagnose" (42 : Nat) ({ cls := "ScanDiagnose", name := "drop", desc := "()V" } : Jvm.MethodName)) ∈ lw_all := lw_g (lw_at lw_m1 11 rfl) rfl
theorem q34 : (Jvm.Cond.privateMethod ({ cls := "ScanDiagnose", name := "drop", desc := "()V" } : Jvm.MethodName)) ∈ lw_tbl := lw_at lw_m1 12 rfl
theorem q35 : (Jvm.Cond.instanceMethod ({ cls := "ScanDiagnose", name := "drop", desc := "()V" } : Jvm.MethodName)) ∈ lw_all := lw_g (lw_at lw_m1 13 rfl) rfl
theorem q36 : (Jvm.Cond.code ({ cls := "ScanDiagnose", name := "drop", desc := "()V" } : Jvm.MethodName) prog_1_method_25_code (1 : Nat) (Option.none : Option Jvm.ClassFile.FieldType)) ∈ lw_all := lw_g (lw_at lw_m1 14 rfl) rfl
theorem q37 : (Jvm.Cond.constantLong "ScanDiagnose" (76 : Nat) (-1 : Int64)) ∈ lw_all := lw_g (lw_at lw_m1 15 rfl) rfl
theorem q38 : (Jvm.Cond.fieldLink "ScanDiagnose" (7 : Nat) "ScanDiagnose" "kinds" "[I") ∈ lw_all := lw_g (lw_at lw_m1 16 rfl) rfl
theorem q39 : (Jvm.Cond.fieldLink "ScanDiagnose" (13 : Nat) "ScanDiagnose" "firsts" "[I") ∈ lw_all := lw_g (lw_at lw_m1 17 rfl) rfl
theorem q40 : (Jvm.Cond.fieldLink "ScanDiagnose" (16 : Nat) "ScanDiagnose" "seconds" "[I") ∈ lw_all := lw_g (lw_at lw_m1 18 rfl) rfl
theorem q41 : (Jvm.Cond.fieldLink "ScanDiagnose" (19 : Nat) "ScanDiagnose" "feeds" "[I") ∈ lw_all := lw_g (lw_at lw_m1 19 rfl) rfl
theorem q42 : (Jvm.Cond.fieldLink "ScanDiagnose" (22 : Nat) "ScanDiagnose" "outputs" "[I") ∈ lw_all := lw_g (lw_at lw_m1 20 rfl) rfl
theorem q43 : (Jvm.Cond.fieldLink "ScanDiagnose" (25 : Nat) "ScanDiagnose" "words" "[J") ∈ lw_all := lw_g (lw_at lw_m1 21 rfl) rfl
theorem q44 : (Jvm.Cond.fieldLink "ScanDiagnose" (29 : Nat) "ScanDiagnose" "states" "[J") ∈ lw_all := lw_g (lw_at lw_m1 22 rfl) rfl
theorem q45 : (Jvm.Cond.fieldLink "ScanDiagnose" (32 : Nat) "ScanDiagnose" "answers" "[J") ∈ lw_all := lw_g (lw_at lw_m1 23 rfl) rfl
theorem q46 : (Jvm.Cond.fieldLink "ScanDiagnose" (35 : Nat) "ScanDiagnose" "like" "[J") ∈ lw_all := lw_g (lw_at lw_m1 24 rfl) rfl
theorem q47 : (Jvm.Cond.fieldLink "ScanDiagnose" (49 : Nat) "ScanDiagnose" "gates" "I") ∈ lw_all := lw_g (lw_at lw_m1 25 rfl) rfl
theorem q48 : (Jvm.Cond.fieldLink "ScanDiagnose" (38 : Nat) "ScanDiagnose" "device" "I") ∈ lw_all := lw_g (lw_at lw_m1 26 rfl) rfl
theorem q49 : (Jvm.Cond.fieldLink "ScanDiagnose" (61 : Nat) "ScanDiagnose" "noted" "I") ∈ lw_all := lw_g (lw_at lw_m1 27 rfl) rfl
theorem q50 : (Jvm.Cond.fieldLink "ScanDiagnose" (72 : Nat) "ScanDiagnose" "left" "J") ∈ lw_all := lw_g (lw_at lw_m1 28 rfl) rfl
theorem q51 : (Jvm.Cond.fieldLink "ScanDiagnose" (89 : Nat) "ScanDiagnose" "likeHealthy" "J") ∈ lw_all := lw_g (lw_at lw_m1 29 rfl) rfl
theorem q52 : (Jvm.Cond.fieldLink "ScanDiagnose" (98 : Nat) "ScanDiagnose" "grouped" "Z") ∈ lw_all := lw_g (lw_at lw_m1 30 rfl) rfl
theorem q53 : (Jvm.Cond.laysFinal "ScanDiagnose" "ScanDiagnose" "kinds" "[I") ∈ lw_all := lw_g (lw_at lw_m1 31 rfl) rfl
theorem q54 : (Jvm.Cond.soleField "ScanDiagnose" "kinds") ∈ lw_all := lw_g (lw_at lw_m1 32 rfl) rfl
theorem q55 : (Jvm.Cond.laysFinal "ScanDiagnose" "ScanDiagnose" "firsts" "[I") ∈ lw_all := lw_g (lw_at lw_m1 33 rfl) rfl
theorem q56 : (Jvm.Cond.soleField "ScanDiagnose" "firsts") ∈ lw_all := lw_g (lw_at lw_m1 34 rfl) rfl
theorem q57 : (Jvm.Cond.laysFinal "ScanDiagnose" "ScanDiagnose" "seconds" "[I") ∈ lw_all := lw_g (lw_at lw_m1 35 rfl) rfl
theorem q58 : (Jvm.Cond.soleField "ScanDiagnose" "seconds") ∈ lw_all := lw_g (lw_at lw_m1 36 rfl) rfl
theorem q59 : (Jvm.Cond.laysFinal "ScanDiagnose" "ScanDiagnose" "feeds" "[I") ∈ lw_all := lw_g (lw_at lw_m1 37 rfl) rfl
theorem q60 : (Jvm.Cond.soleField "ScanDiagnose" "feeds") ∈ lw_all := lw_g (lw_at lw_m1 38 rfl) rfl
theorem q61 : (Jvm.Cond.laysFinal "ScanDiagnose" "ScanDiagnose" "outputs" "[I") ∈ lw_all := lw_g (lw_at lw_m1 39 rfl) rfl
theorem q62 : (Jvm.Cond.soleField "ScanDiagnose" "outputs") ∈ lw_all := lw_g (lw_at lw_m1 40 rfl) rfl
theorem q63 : (Jvm.Cond.laysFinal "ScanDiagnose" "ScanDiagnose" "words" "[J") ∈ lw_all := lw_g (lw_at lw_m1 41 rfl) rfl
theorem q64 : (Jvm.Cond.soleField "ScanDiagnose" "words") ∈ lw_all := lw_g (lw_at lw_m1 42 rfl) rfl
theorem q65 : (Jvm.Cond.laysFinal "ScanDiagnose" "ScanDiagnose" "states" "[J") ∈ lw_all := lw_g (lw_at lw_m1 43 rfl) rfl
theorem q66 : (Jvm.Cond.soleField "ScanDiagnose" "states") ∈ lw_all := lw_g (lw_at lw_m1 44 rfl) rfl
theorem q67 : (Jvm.Cond.laysFinal "ScanDiagnose" "ScanDiagnose" "answers" "[J") ∈ lw_all := lw_g (lw_at lw_m1 45 rfl) rfl
theorem q68 : (Jvm.Cond.soleField "ScanDiagnose" "answers") ∈ lw_all := lw_g (lw_at lw_m1 46 rfl) rfl
theorem q69 : (Jvm.Cond.laysFinal "ScanDiagnose" "ScanDiagnose" "like" "[J") ∈ lw_all := lw_g (lw_at lw_m1 47 rfl) rfl
theorem q70 : (Jvm.Cond.soleField "ScanDiagnose" "like") ∈ lw_all := lw_g (lw_at lw_m1 48 rfl) rfl
theorem q71 : (Jvm.Cond.lays "ScanDiagnose" "ScanDiagnose" "gates" "I") ∈ lw_all := lw_g (lw_at lw_m1 49 rfl) rfl
theorem q72 : (Jvm.Cond.soleField "ScanDiagnose" "gates") ∈ lw_all := lw_g (lw_at lw_m1 50 rfl) rfl
theorem q73 : (Jvm.Cond.lays "ScanDiagnose" "ScanDiagnose" "device" "I") ∈ lw_all := lw_g (lw_at lw_m1 51 rfl) rfl
theorem q74 : (Jvm.Cond.soleField "ScanDiagnose" "device") ∈ lw_all := lw_g (lw_at lw_m1 52 rfl) rfl
theorem q75 : (Jvm.Cond.lays "ScanDiagnose" "ScanDiagnose" "noted" "I") ∈ lw_all := lw_g (lw_at lw_m1 53 rfl) rfl
theorem q76 : (Jvm.Cond.soleField "ScanDiagnose" "noted") ∈ lw_all := lw_g (lw_at lw_m1 54 rfl) rfl
theorem q77 : (Jvm.Cond.lays "ScanDiagnose" "ScanDiagnose" "left" "J") ∈ lw_all := lw_g (lw_at lw_m1 55 rfl) rfl
theorem q78 : (Jvm.Cond.soleField "ScanDiagnose" "left") ∈ lw_all := lw_g (lw_at lw_m1 56 rfl) rfl
theorem q79 : (Jvm.Cond.lays "ScanDiagnose" "ScanDiagnose" "likeHealthy" "J") ∈ lw_all := lw_g (lw_at lw_m1 57 rfl) rfl
theorem q80 : (Jvm.Cond.soleField "ScanDiagnose" "likeHealthy") ∈ lw_all := lw_g (lw_at lw_m1 58 rfl) rfl
theorem q81 : (Jvm.Cond.lays "ScanDiagnose" "ScanDiagnose" "grouped" "Z") ∈ lw_all := lw_g (lw_at lw_m1 59 rfl) rfl
theorem q82 : (Jvm.Cond.soleField "ScanDiagnose" "grouped") ∈ lw_all := lw_g (lw_at lw_m1 60 rfl) rfl
theorem q83 : (Jvm.Cond.superclass "ScanDiagnose" "java/lang/Object") ∈ lw_all := lw_g (lw_at lw_m1 61 rfl) rfl
theorem q87 : (Jvm.Cond.instanceMethod ({ cls := "ScanDiagnose", name := "gate", desc := "(III)I" } : Jvm.MethodName)) ∈ lw_all := lw_g (lw_at lw_m1 65 rfl) rfl
theorem q88 : (Jvm.Cond.selects "ScanDiagnose" ({ cls := "ScanDiagnose", name := "gate", desc := "(III)I" } : Jvm.MethodName) ({ cls := "ScanDiagnose", name := "gate", desc := "(III)I" } : Jvm.MethodName)) ∈ lw_all := lw_g (lw_at lw_m1 66 rfl) rfl
theorem q89 : (Jvm.Cond.code ({ cls := "ScanDiagnose", name := "gate", desc := "(III)I" } : Jvm.MethodName) prog_1_method_2_code (4 : Nat) (Option.some Jvm.ClassFile.FieldType.int)) ∈ lw_all := lw_g (lw_at lw_m1 67 rfl) rfl
theorem q90 : (Jvm.Cond.methodLink "ScanDiagnose" (45 : Nat) ({ cls := "ScanDiagnose", name := "isLine", desc := "(I)Z" } : Jvm.MethodName)) ∈ lw_all := lw_g (lw_at lw_m1 68 rfl) rfl
theorem q91 : (Jvm.Cond.privateMethod ({ cls := "ScanDiagnose", name := "isLine", desc := "(I)Z" } : Jvm.MethodName)) ∈ lw_tbl := lw_at lw_m1 69 rfl
theorem q92 : (Jvm.Cond.instanceMethod ({ cls := "ScanDiagnose", name := "isLine", desc := "(I)Z" } : Jvm.MethodName)) ∈ lw_all := lw_g (lw_at lw_m1 70 rfl) rfl
theorem q93 : (Jvm.Cond.code ({ cls := "ScanDiagnose", name := "isLine", desc := "(I)Z" } : Jvm.MethodName) prog_1_method_21_code (2 : Nat) (Option.some Jvm.ClassFile.FieldType.boolean)) ∈ lw_all := lw_g (lw_at lw_m1 71 rfl) rfl
theorem q95 : (Jvm.Cond.instanceMethod ({ cls := "ScanDiagnose", name := "feed", desc := "(II)I" } : Jvm.MethodName)) ∈ lw_all := lw_g (lw_at lw_m1 73 rfl) rfl
theorem q96 : (Jvm.Cond.selects "ScanDiagnose" ({ cls := "ScanDiagnose", name := "feed", desc := "(II)I" } : Jvm.MethodName) ({ cls := "ScanDiagnose", name := "feed", desc := "(II)I" } : Jvm.MethodName)) ∈ lw_all := lw_g (lw_at lw_m1 74 rfl) rfl
theorem q97 : (Jvm.Cond.code ({ cls := "ScanDiagnose", name := "feed", desc := "(II)I" } : Jvm.MethodName) prog_1_method_3_code (4 : Nat) (Option.some Jvm.ClassFile.FieldType.int)) ∈ lw_all := lw_g (lw_at lw_m1 75 rfl) rfl
theorem q99 : (Jvm.Cond.instanceMethod ({ cls := "ScanDiagnose", name := "output", desc := "(II)I" } : Jvm.MethodName)) ∈ lw_all := lw_g (lw_at lw_m1 77 rfl) rfl
theorem q100 : (Jvm.Cond.selects "ScanDiagnose" ({ cls := "ScanDiagnose", name := "output", desc := "(II)I" } : Jvm.MethodName) ({ cls := "ScanDiagnose", name := "output", desc := "(II)I" } : Jvm.MethodName)) ∈ lw_all := lw_g (lw_at lw_m1 78 rfl) rfl
theorem q101 : (Jvm.Cond.code ({ cls := "ScanDiagnose", name := "output", desc := "(II)I" } : Jvm.MethodName) prog_1_method_4_code (4 : Nat) (Option.some Jvm.ClassFile.FieldType.int)) ∈ lw_all := lw_g (lw_at lw_m1 79 rfl) rfl
theorem q103 : (Jvm.Cond.instanceMethod ({ cls := "ScanDiagnose", name := "lines", desc := "()I" } : Jvm.MethodName)) ∈ lw_all := lw_g (lw_at lw_m1 81 rfl) rfl
theorem q104 : (Jvm.Cond.selects "ScanDiagnose" ({ cls := "ScanDiagnose", name := "lines", desc := "()I" } : Jvm.MethodName) ({ cls := "ScanDiagnose", name := "lines", desc := "()I" } : Jvm.MethodName)) ∈ lw_all := lw_g (lw_at lw_m1 82 rfl) rfl
theorem q105 : (Jvm.Cond.code ({ cls := "ScanDiagnose", name := "lines", desc := "()I" } : Jvm.MethodName) prog_1_method_5_code (1 : Nat) (Option.some Jvm.ClassFile.FieldType.int)) ∈ lw_all := lw_g (lw_at lw_m1 83 rfl) rfl
theorem q107 : (Jvm.Cond.instanceMethod ({ cls := "ScanDiagnose", name := "inject", desc := "(I)I" } : Jvm.MethodName)) ∈ lw_all := lw_g (lw_at lw_m1 85 rfl) rfl
theorem q108 : (Jvm.Cond.selects "ScanDiagnose" ({ cls := "ScanDiagnose", name := "inject", desc := "(I)I" } : Jvm.MethodName) ({ cls := "ScanDiagnose", name := "inject", desc := "(I)I" } : Jvm.MethodName)) ∈ lw_all := lw_g (lw_at lw_m1 86 rfl) rfl
theorem q109 : (Jvm.Cond.code ({ cls := "ScanDiagnose", name := "inject", desc := "(I)I" } : Jvm.MethodName) prog_1_method_6_code (2 : Nat) (Option.some Jvm.ClassFile.FieldType.int)) ∈ lw_all := lw_g (lw_at lw_m1 87 rfl) rfl
theorem q110 : (Jvm.Cond.methodLink "ScanDiagnose" (52 : Nat) ({ cls := "ScanDiagnose", name := "isFault", desc := "(I)Z" } : Jvm.MethodName)) ∈ lw_all := lw_g (lw_at lw_m1 88 rfl) rfl
theorem q111 : (Jvm.Cond.privateMethod ({ cls := "ScanDiagnose", name := "isFault", desc := "(I)Z" } : Jvm.MethodName)) ∈ lw_tbl := lw_at lw_m1 89 rfl
theorem q112 : (Jvm.Cond.instanceMethod ({ cls := "ScanDiagnose", name := "isFault", desc := "(I)Z" } : Jvm.MethodName)) ∈ lw_all := lw_g (lw_at lw_m1 90 rfl) rfl
theorem q113 : (Jvm.Cond.code ({ cls := "ScanDiagnose", name := "isFault", desc := "(I)Z" } : Jvm.MethodName) prog_1_method_22_code (2 : Nat) (Option.some Jvm.ClassFile.FieldType.boolean)) ∈ lw_all := lw_g (lw_at lw_m1 91 rfl) rfl
theorem q115 : (Jvm.Cond.instanceMethod ({ cls := "ScanDiagnose", name := "observe", desc := "(II)I" } : Jvm.MethodName)) ∈ lw_all := lw_g (lw_at lw_m1 93 rfl) rfl
theorem q116 : (Jvm.Cond.selects "ScanDiagnose" ({ cls := "ScanDiagnose", name := "observe", desc := "(II)I" } : Jvm.MethodName) ({ cls := "ScanDiagnose", name := "observe", desc := "(II)I" } : Jvm.MethodName)) ∈ lw_all := lw_g (lw_at lw_m1 94 rfl) rfl
theorem q117 : (Jvm.Cond.code ({ cls := "ScanDiagnose", name := "observe", desc := "(II)I" } : Jvm.MethodName) prog_1_method_7_code (6 : Nat) (Option.some Jvm.ClassFile.FieldType.int)) ∈ lw_all := lw_g (lw_at lw_m1 95 rfl) rfl
theorem q118 : (Jvm.Cond.methodLink "ScanDiagnose" (55 : Nat) ({ cls := "ScanDiagnose", name := "isPattern", desc := "(I)Z" } : Jvm.MethodName)) ∈ lw_all := lw_g (lw_at lw_m1 96 rfl) rfl
theorem q119 : (Jvm.Cond.static ({ cls := "ScanDiagnose", name := "isPattern", desc := "(I)Z" } : Jvm.MethodName)) ∈ lw_all := lw_g (lw_at lw_m1 97 rfl) rfl
theorem q120 : (Jvm.Cond.code ({ cls := "ScanDiagnose", name := "isPattern", desc := "(I)Z" } : Jvm.MethodName) prog_1_method_23_code (1 : Nat) (Option.some Jvm.ClassFile.FieldType.boolean)) ∈ lw_all := lw_g (lw_at lw_m1 98 rfl) rfl
theorem q121 : (Jvm.Cond.methodLink "ScanDiagnose" (58 : Nat) ({ cls := "ScanDiagnose", name := "isCycles", desc := "(I)Z" } : Jvm.MethodName)) ∈ lw_all := lw_g (lw_at lw_m1 99 rfl) rfl
theorem q122 : (Jvm.Cond.static ({ cls := "ScanDiagnose", name := "isCycles", desc := "(I)Z" } : Jvm.MethodName)) ∈ lw_all := lw_g (lw_at lw_m1 100 rfl) rfl
theorem q123 : (Jvm.Cond.code ({ cls := "ScanDiagnose", name := "isCycles", desc := "(I)Z" } : Jvm.MethodName) prog_1_method_24_code (1 : Nat) (Option.some Jvm.ClassFile.FieldType.boolean)) ∈ lw_all := lw_g (lw_at lw_m1 101 rfl) rfl
theorem q124 : (Jvm.Cond.methodLink "ScanDiagnose" (64 : Nat) ({ cls := "ScanDiagnose", name := "runAll", desc := "(II)V" } : Jvm.MethodName)) ∈ lw_all := lw_g (lw_at lw_m1 102 rfl) rfl
theorem q125 : (Jvm.Cond.privateMethod ({ cls := "ScanDiagnose", name := "runAll", desc := "(II)V" } : Jvm.MethodName)) ∈ lw_tbl := lw_at lw_m1 103 rfl
theorem q126 : (Jvm.Cond.instanceMethod ({ cls := "ScanDiagnose", name := "runAll", desc := "(II)V" } : Jvm.MethodName)) ∈ lw_all := lw_g (lw_at lw_m1 104 rfl) rfl
theorem q127 : (Jvm.Cond.code ({ cls := "ScanDiagnose", name := "runAll", desc := "(II)V" } : Jvm.MethodName) prog_1_method_30_code (5 : Nat) (Option.none : Option Jvm.ClassFile.FieldType)) ∈ lw_all := lw_g (lw_at lw_m1 105 rfl) rfl
theorem q128 : (Jvm.Cond.methodLink "ScanDiagnose" (110 : Nat) ({ cls := "ScanDiagnose", name := "settle", desc := "(I)V" } : Jvm.MethodName)) ∈ lw_all := lw_g (lw_at lw_m1 106 rfl) rfl
theorem q129 : (Jvm.Cond.privateMethod ({ cls := "ScanDiagnose", name := "settle", desc := "(I)V" } : Jvm.MethodName)) ∈ lw_tbl := lw_at lw_m1 107 rfl
theorem q130 : (Jvm.Cond.instanceMethod ({ cls := "ScanDiagnose", name := "settle", desc := "(I)V" } : Jvm.MethodName)) ∈ lw_all := lw_g (lw_at lw_m1 108 rfl) rfl
theorem q131 : (Jvm.Cond.code ({ cls := "ScanDiagnose", name := "settle", desc := "(I)V" } : Jvm.MethodName) prog_1_method_31_code (5 : Nat) (Option.none : Option Jvm.ClassFile.FieldType)) ∈ lw_all := lw_g (lw_at lw_m1 109 rfl) rfl
theorem q132 : (Jvm.Cond.methodLink "ScanDiagnose" (114 : Nat) ({ cls := "ScanDiagnose", name := "stuck", desc := "(IJ)J" } : Jvm.MethodName)) ∈ lw_all := lw_g (lw_at lw_m1 110 rfl) rfl
theorem q133 : (Jvm.Cond.static ({ cls := "ScanDiagnose", name := "stuck", desc := "(IJ)J" } : Jvm.MethodName)) ∈ lw_all := lw_g (lw_at lw_m1 111 rfl) rfl
theorem q134 : (Jvm.Cond.code ({ cls := "ScanDiagnose", name := "stuck", desc := "(IJ)J" } : Jvm.MethodName) prog_1_method_29_code (3 : Nat) (Option.some Jvm.ClassFile.FieldType.long)) ∈ lw_all := lw_g (lw_at lw_m1 112 rfl) rfl
theorem q135 : (Jvm.Cond.methodLink "ScanDiagnose" (118 : Nat) ({ cls := "ScanDiagnose", name := "combine", desc := "(IJJ)J" } : Jvm.MethodName)) ∈ lw_all := lw_g (lw_at lw_m1 113 rfl) rfl
theorem q136 : (Jvm.Cond.static ({ cls := "ScanDiagnose", name := "combine", desc := "(IJJ)J" } : Jvm.MethodName)) ∈ lw_all := lw_g (lw_at lw_m1 114 rfl) rfl
theorem q137 : (Jvm.Cond.code ({ cls := "ScanDiagnose", name := "combine", desc := "(IJJ)J" } : Jvm.MethodName) prog_1_method_32_code (5 : Nat) (Option.some Jvm.ClassFile.FieldType.long)) ∈ lw_all := lw_g (lw_at lw_m1 115 rfl) rfl
theorem q138 : (Jvm.Cond.methodLink "ScanDiagnose" (68 : Nat) ({ cls := "ScanDiagnose", name := "answerOf", desc := "(I)I" } : Jvm.MethodName)) ∈ lw_all := lw_g (lw_at lw_m1 116 rfl) rfl
theorem q139 : (Jvm.Cond.privateMethod ({ cls := "ScanDiagnose", name := "answerOf", desc := "(I)I" } : Jvm.MethodName)) ∈ lw_tbl := lw_at lw_m1 117 rfl
theorem q140 : (Jvm.Cond.instanceMethod ({ cls := "ScanDiagnose", name := "answerOf", desc := "(I)I" } : Jvm.MethodName)) ∈ lw_all := lw_g (lw_at lw_m1 118 rfl) rfl
theorem q141 : (Jvm.Cond.code ({ cls := "ScanDiagnose", name := "answerOf", desc := "(I)I" } : Jvm.MethodName) prog_1_method_33_code (4 : Nat) (Option.some Jvm.ClassFile.FieldType.int)) ∈ lw_all := lw_g (lw_at lw_m1 119 rfl) rfl
theorem q143 : (Jvm.Cond.instanceMethod ({ cls := "ScanDiagnose", name := "forget", desc := "()I" } : Jvm.MethodName)) ∈ lw_all := lw_g (lw_at lw_m1 121 rfl) rfl
theorem q144 : (Jvm.Cond.selects "ScanDiagnose" ({ cls := "ScanDiagnose", name := "forget", desc := "()I" } : Jvm.MethodName) ({ cls := "ScanDiagnose", name := "forget", desc := "()I" } : Jvm.MethodName)) ∈ lw_all := lw_g (lw_at lw_m1 122 rfl) rfl
theorem q145 : (Jvm.Cond.code ({ cls := "ScanDiagnose", name := "forget", desc := "()I" } : Jvm.MethodName) prog_1_method_8_code (2 : Nat) (Option.some Jvm.ClassFile.FieldType.int)) ∈ lw_all := lw_g (lw_at lw_m1 123 rfl) rfl
theorem q147 : (Jvm.Cond.instanceMethod ({ cls := "ScanDiagnose", name := "observations", desc := "()I" } : Jvm.MethodName)) ∈ lw_all := lw_g (lw_at lw_m1 125 rfl) rfl
theorem q148 : (Jvm.Cond.selects "ScanDiagnose" ({ cls := "ScanDiagnose", name := "observations", desc := "()I" } : Jvm.MethodName) ({ cls := "ScanDiagnose", name := "observations", desc := "()I" } : Jvm.MethodName)) ∈ lw_all := lw_g (lw_at lw_m1 126 rfl) rfl
theorem q149 : (Jvm.Cond.code ({ cls := "ScanDiagnose", name := "observations", desc := "()I" } : Jvm.MethodName) prog_1_method_9_code (1 : Nat) (Option.some Jvm.ClassFile.FieldType.int)) ∈ lw_all := lw_g (lw_at lw_m1 127 rfl) rfl
theorem q151 : (Jvm.Cond.instanceMethod ({ cls := "ScanDiagnose", name := "response", desc := "(II)I" } : Jvm.MethodName)) ∈ lw_all := lw_g (lw_at lw_m1 129 rfl) rfl
theorem q152 : (Jvm.Cond.selects "ScanDiagnose" ({ cls := "ScanDiagnose", name := "response", desc := "(II)I" } : Jvm.MethodName) ({ cls := "ScanDiagnose", name := "response", desc := "(II)I" } : Jvm.MethodName)) ∈ lw_all := lw_g (lw_at lw_m1 130 rfl) rfl
theorem q153 : (Jvm.Cond.code ({ cls := "ScanDiagnose", name := "response", desc := "(II)I" } : Jvm.MethodName) prog_1_method_10_code (3 : Nat) (Option.some Jvm.ClassFile.FieldType.int)) ∈ lw_all := lw_g (lw_at lw_m1 131 rfl) rfl
theorem q155 : (Jvm.Cond.instanceMethod ({ cls := "ScanDiagnose", name := "responseWith", desc := "(III)I" } : Jvm.MethodName)) ∈ lw_all := lw_g (lw_at lw_m1 133 rfl) rfl
theorem q156 : (Jvm.Cond.selects "ScanDiagnose" ({ cls := "ScanDiagnose", name := "responseWith", desc := "(III)I" } : Jvm.MethodName) ({ cls := "ScanDiagnose", name := "responseWith", desc := "(III)I" } : Jvm.MethodName)) ∈ lw_all := lw_g (lw_at lw_m1 134 rfl) rfl
theorem q157 : (Jvm.Cond.code ({ cls := "ScanDiagnose", name := "responseWith", desc := "(III)I" } : Jvm.MethodName) prog_1_method_11_code (4 : Nat) (Option.some Jvm.ClassFile.FieldType.int)) ∈ lw_all := lw_g (lw_at lw_m1 135 rfl) rfl
theorem q159 : (Jvm.Cond.instanceMethod ({ cls := "ScanDiagnose", name := "candidates", desc := "()I" } : Jvm.MethodName)) ∈ lw_all := lw_g (lw_at lw_m1 137 rfl) rfl
theorem q160 : (Jvm.Cond.selects "ScanDiagnose" ({ cls := "ScanDiagnose", name := "candidates", desc := "()I" } : Jvm.MethodName) ({ cls := "ScanDiagnose", name := "candidates", desc := "()I" } : Jvm.MethodName)) ∈ lw_all := lw_g (lw_at lw_m1 138 rfl) rfl
theorem q161 : (Jvm.Cond.code ({ cls := "ScanDiagnose", name := "candidates", desc := "()I" } : Jvm.MethodName) prog_1_method_12_code (1 : Nat) (Option.some Jvm.ClassFile.FieldType.int)) ∈ lw_all := lw_g (lw_at lw_m1 139 rfl) rfl
theorem q162 : (Jvm.Cond.methodLink "ScanDiagnose" (78 : Nat) ({ cls := "ScanDiagnose", name := "faults", desc := "()J" } : Jvm.MethodName)) ∈ lw_all := lw_g (lw_at lw_m1 140 rfl) rfl
theorem q163 : (Jvm.Cond.privateMethod ({ cls := "ScanDiagnose", name := "faults", desc := "()J" } : Jvm.MethodName)) ∈ lw_tbl := lw_at lw_m1 141 rfl
theorem q164 : (Jvm.Cond.instanceMethod ({ cls := "ScanDiagnose", name := "faults", desc := "()J" } : Jvm.MethodName)) ∈ lw_all := lw_g (lw_at lw_m1 142 rfl) rfl
theorem q165 : (Jvm.Cond.code ({ cls := "ScanDiagnose", name := "faults", desc := "()J" } : Jvm.MethodName) prog_1_method_26_code (1 : Nat) (Option.some Jvm.ClassFile.FieldType.long)) ∈ lw_all := lw_g (lw_at lw_m1 143 rfl) rfl
theorem q166 : (Jvm.Cond.methodLink "ScanDiagnose" (82 : Nat) ({ cls := "ScanDiagnose", name := "ones", desc := "(J)I" } : Jvm.MethodName)) ∈ lw_all := lw_g (lw_at lw_m1 144 rfl) rfl
theorem q167 : (Jvm.Cond.static ({ cls := "ScanDiagnose", name := "ones", desc := "(J)I" } : Jvm.MethodName)) ∈ lw_all := lw_g (lw_at lw_m1 145 rfl) rfl
theorem q168 : (Jvm.Cond.code ({ cls := "ScanDiagnose", name := "ones", desc := "(J)I" } : Jvm.MethodName) prog_1_method_27_code (4 : Nat) (Option.some Jvm.ClassFile.FieldType.int)) ∈ lw_all := lw_g (lw_at lw_m1 146 rfl) rfl
theorem q169 : (Jvm.Cond.constantLong "ScanDiagnose" (102 : Nat) (6148914691236517205 : Int64)) ∈ lw_all := lw_g (lw_at lw_m1 147 rfl) rfl
theorem q170 : (Jvm.Cond.constantLong "ScanDiagnose" (104 : Nat) (3689348814741910323 : Int64)) ∈ lw_all := lw_g (lw_at lw_m1 148 rfl) rfl
theorem q171 : (Jvm.Cond.constantLong "ScanDiagnose" (106 : Nat) (1085102592571150095 : Int64)) ∈ lw_all := lw_g (lw_at lw_m1 149 rfl) rfl
theorem q172 : (Jvm.Cond.constantLong "ScanDiagnose" (108 : Nat) (72340172838076673 : Int64)) ∈ lw_all := lw_g (lw_at lw_m1 150 rfl) rfl
theorem q174 : (Jvm.Cond.instanceMethod ({ cls := "ScanDiagnose", name := "candidate", desc := "(I)I" } : Jvm.MethodName)) ∈ lw_all := lw_g (lw_at lw_m1 152 rfl) rfl
theorem q175 : (Jvm.Cond.selects "ScanDiagnose" ({ cls := "ScanDiagnose", name := "candidate", desc := "(I)I" } : Jvm.MethodName) ({ cls := "ScanDiagnose", name := "candidate", desc := "(I)I" } : Jvm.MethodName)) ∈ lw_all := lw_g (lw_at lw_m1 153 rfl) rfl
theorem q176 : (Jvm.Cond.code ({ cls := "ScanDiagnose", name := "candidate", desc := "(I)I" } : Jvm.MethodName) prog_1_method_13_code (5 : Nat) (Option.some Jvm.ClassFile.FieldType.int)) ∈ lw_all := lw_g (lw_at lw_m1 154 rfl) rfl
theorem q178 : (Jvm.Cond.instanceMethod ({ cls := "ScanDiagnose", name := "healthy", desc := "()I" } : Jvm.MethodName)) ∈ lw_all := lw_g (lw_at lw_m1 156 rfl) rfl
theorem q179 : (Jvm.Cond.selects "ScanDiagnose" ({ cls := "ScanDiagnose", name := "healthy", desc := "()I" } : Jvm.MethodName) ({ cls := "ScanDiagnose", name := "healthy", desc := "()I" } : Jvm.MethodName)) ∈ lw_all := lw_g (lw_at lw_m1 157 rfl) rfl
theorem q180 : (Jvm.Cond.code ({ cls := "ScanDiagnose", name := "healthy", desc := "()I" } : Jvm.MethodName) prog_1_method_14_code (1 : Nat) (Option.some Jvm.ClassFile.FieldType.int)) ∈ lw_all := lw_g (lw_at lw_m1 158 rfl) rfl
theorem q182 : (Jvm.Cond.instanceMethod ({ cls := "ScanDiagnose", name := "nextPattern", desc := "()I" } : Jvm.MethodName)) ∈ lw_all := lw_g (lw_at lw_m1 160 rfl) rfl
theorem q183 : (Jvm.Cond.selects "ScanDiagnose" ({ cls := "ScanDiagnose", name := "nextPattern", desc := "()I" } : Jvm.MethodName) ({ cls := "ScanDiagnose", name := "nextPattern", desc := "()I" } : Jvm.MethodName)) ∈ lw_all := lw_g (lw_at lw_m1 161 rfl) rfl
theorem q184 : (Jvm.Cond.code ({ cls := "ScanDiagnose", name := "nextPattern", desc := "()I" } : Jvm.MethodName) prog_1_method_15_code (7 : Nat) (Option.some Jvm.ClassFile.FieldType.int)) ∈ lw_all := lw_g (lw_at lw_m1 162 rfl) rfl
theorem q186 : (Jvm.Cond.instanceMethod ({ cls := "ScanDiagnose", name := "detected", desc := "(II)I" } : Jvm.MethodName)) ∈ lw_all := lw_g (lw_at lw_m1 164 rfl) rfl
theorem q187 : (Jvm.Cond.selects "ScanDiagnose" ({ cls := "ScanDiagnose", name := "detected", desc := "(II)I" } : Jvm.MethodName) ({ cls := "ScanDiagnose", name := "detected", desc := "(II)I" } : Jvm.MethodName)) ∈ lw_all := lw_g (lw_at lw_m1 165 rfl) rfl
theorem q188 : (Jvm.Cond.code ({ cls := "ScanDiagnose", name := "detected", desc := "(II)I" } : Jvm.MethodName) prog_1_method_16_code (6 : Nat) (Option.some Jvm.ClassFile.FieldType.int)) ∈ lw_all := lw_g (lw_at lw_m1 166 rfl) rfl
theorem q190 : (Jvm.Cond.instanceMethod ({ cls := "ScanDiagnose", name := "hidden", desc := "()I" } : Jvm.MethodName)) ∈ lw_all := lw_g (lw_at lw_m1 168 rfl) rfl
theorem q191 : (Jvm.Cond.selects "ScanDiagnose" ({ cls := "ScanDiagnose", name := "hidden", desc := "()I" } : Jvm.MethodName) ({ cls := "ScanDiagnose", name := "hidden", desc := "()I" } : Jvm.MethodName)) ∈ lw_all := lw_g (lw_at lw_m1 169 rfl) rfl
theorem q192 : (Jvm.Cond.code ({ cls := "ScanDiagnose", name := "hidden", desc := "()I" } : Jvm.MethodName) prog_1_method_17_code (1 : Nat) (Option.some Jvm.ClassFile.FieldType.int)) ∈ lw_all := lw_g (lw_at lw_m1 170 rfl) rfl
theorem q193 : (Jvm.Cond.methodLink "ScanDiagnose" (86 : Nat) ({ cls := "ScanDiagnose", name := "group", desc := "()V" } : Jvm.MethodName)) ∈ lw_all := lw_g (lw_at lw_m1 171 rfl) rfl
theorem q194 : (Jvm.Cond.privateMethod ({ cls := "ScanDiagnose", name := "group", desc := "()V" } : Jvm.MethodName)) ∈ lw_tbl := lw_at lw_m1 172 rfl
theorem q195 : (Jvm.Cond.instanceMethod ({ cls := "ScanDiagnose", name := "group", desc := "()V" } : Jvm.MethodName)) ∈ lw_all := lw_g (lw_at lw_m1 173 rfl) rfl
theorem q196 : (Jvm.Cond.code ({ cls := "ScanDiagnose", name := "group", desc := "()V" } : Jvm.MethodName) prog_1_method_34_code (3 : Nat) (Option.none : Option Jvm.ClassFile.FieldType)) ∈ lw_all := lw_g (lw_at lw_m1 174 rfl) rfl
theorem q197 : (Jvm.Cond.methodLink "ScanDiagnose" (122 : Nat) ({ cls := "ScanDiagnose", name := "split", desc := "(J)V" } : Jvm.MethodName)) ∈ lw_all := lw_g (lw_at lw_m1 175 rfl) rfl
theorem q198 : (Jvm.Cond.privateMethod ({ cls := "ScanDiagnose", name := "split", desc := "(J)V" } : Jvm.MethodName)) ∈ lw_tbl := lw_at lw_m1 176 rfl
theorem q199 : (Jvm.Cond.instanceMethod ({ cls := "ScanDiagnose", name := "split", desc := "(J)V" } : Jvm.MethodName)) ∈ lw_all := lw_g (lw_at lw_m1 177 rfl) rfl
theorem q200 : (Jvm.Cond.code ({ cls := "ScanDiagnose", name := "split", desc := "(J)V" } : Jvm.MethodName) prog_1_method_35_code (4 : Nat) (Option.none : Option Jvm.ClassFile.FieldType)) ∈ lw_all := lw_g (lw_at lw_m1 178 rfl) rfl
theorem q202 : (Jvm.Cond.instanceMethod ({ cls := "ScanDiagnose", name := "leader", desc := "(I)I" } : Jvm.MethodName)) ∈ lw_all := lw_g (lw_at lw_m1 180 rfl) rfl
theorem q203 : (Jvm.Cond.selects "ScanDiagnose" ({ cls := "ScanDiagnose", name := "leader", desc := "(I)I" } : Jvm.MethodName) ({ cls := "ScanDiagnose", name := "leader", desc := "(I)I" } : Jvm.MethodName)) ∈ lw_all := lw_g (lw_at lw_m1 181 rfl) rfl
theorem q204 : (Jvm.Cond.code ({ cls := "ScanDiagnose", name := "leader", desc := "(I)I" } : Jvm.MethodName) prog_1_method_18_code (2 : Nat) (Option.some Jvm.ClassFile.FieldType.int)) ∈ lw_all := lw_g (lw_at lw_m1 182 rfl) rfl
theorem q205 : (Jvm.Cond.methodLink "ScanDiagnose" (92 : Nat) ({ cls := "ScanDiagnose", name := "lowest", desc := "(J)I" } : Jvm.MethodName)) ∈ lw_all := lw_g (lw_at lw_m1 183 rfl) rfl
theorem q206 : (Jvm.Cond.static ({ cls := "ScanDiagnose", name := "lowest", desc := "(J)I" } : Jvm.MethodName)) ∈ lw_all := lw_g (lw_at lw_m1 184 rfl) rfl
theorem q207 : (Jvm.Cond.code ({ cls := "ScanDiagnose", name := "lowest", desc := "(J)I" } : Jvm.MethodName) prog_1_method_28_code (4 : Nat) (Option.some Jvm.ClassFile.FieldType.int)) ∈ lw_all := lw_g (lw_at lw_m1 185 rfl) rfl
theorem q209 : (Jvm.Cond.instanceMethod ({ cls := "ScanDiagnose", name := "groups", desc := "()I" } : Jvm.MethodName)) ∈ lw_all := lw_g (lw_at lw_m1 187 rfl) rfl
theorem q210 : (Jvm.Cond.selects "ScanDiagnose" ({ cls := "ScanDiagnose", name := "groups", desc := "()I" } : Jvm.MethodName) ({ cls := "ScanDiagnose", name := "groups", desc := "()I" } : Jvm.MethodName)) ∈ lw_all := lw_g (lw_at lw_m1 188 rfl) rfl
theorem q211 : (Jvm.Cond.code ({ cls := "ScanDiagnose", name := "groups", desc := "()I" } : Jvm.MethodName) prog_1_method_19_code (1 : Nat) (Option.some Jvm.ClassFile.FieldType.int)) ∈ lw_all := lw_g (lw_at lw_m1 189 rfl) rfl
theorem q212 : (Jvm.Cond.methodLink "ScanDiagnose" (95 : Nat) ({ cls := "ScanDiagnose", name := "groupsWith", desc := "(J)I" } : Jvm.MethodName)) ∈ lw_all := lw_g (lw_at lw_m1 190 rfl) rfl
theorem q213 : (Jvm.Cond.privateMethod ({ cls := "ScanDiagnose", name := "groupsWith", desc := "(J)I" } : Jvm.MethodName)) ∈ lw_tbl := lw_at lw_m1 191 rfl
theorem q214 : (Jvm.Cond.instanceMethod ({ cls := "ScanDiagnose", name := "groupsWith", desc := "(J)I" } : Jvm.MethodName)) ∈ lw_all := lw_g (lw_at lw_m1 192 rfl) rfl
theorem q215 : (Jvm.Cond.code ({ cls := "ScanDiagnose", name := "groupsWith", desc := "(J)I" } : Jvm.MethodName) prog_1_method_36_code (5 : Nat) (Option.some Jvm.ClassFile.FieldType.int)) ∈ lw_all := lw_g (lw_at lw_m1 193 rfl) rfl
theorem q217 : (Jvm.Cond.instanceMethod ({ cls := "ScanDiagnose", name := "candidateGroups", desc := "()I" } : Jvm.MethodName)) ∈ lw_all := lw_g (lw_at lw_m1 195 rfl) rfl
theorem q218 : (Jvm.Cond.selects "ScanDiagnose" ({ cls := "ScanDiagnose", name := "candidateGroups", desc := "()I" } : Jvm.MethodName) ({ cls := "ScanDiagnose", name := "candidateGroups", desc := "()I" } : Jvm.MethodName)) ∈ lw_all := lw_g (lw_at lw_m1 196 rfl) rfl
theorem q219 : (Jvm.Cond.code ({ cls := "ScanDiagnose", name := "candidateGroups", desc := "()I" } : Jvm.MethodName) prog_1_method_20_code (1 : Nat) (Option.some Jvm.ClassFile.FieldType.int)) ∈ lw_all := lw_g (lw_at lw_m1 197 rfl) rfl
theorem in_X0 : ∀ w ∈ wsX00, w ∈ lw_all := lw_in wsX00 [53, 55, 57, 59, 61, 63, 65, 67, 69, 71, 73, 75, 77, 79, 81] (by decide +kernel) (by decide +kernel)
end
section
set_option maxRecDepth 100000
/-! ScanDiagnoseModel -/
def RX1 : String := "ScanDiagnoseModel"
def TX1 : u_T := fun k => match k with
  | 0 => ("ScanDiagnoseModel", "gates", "I", false)
  | 1 => ("ScanDiagnoseModel", "kind", "[I", false)
  | 2 => ("ScanDiagnoseModel", "first", "[I", false)
  | 3 => ("ScanDiagnoseModel", "second", "[I", false)
  | 4 => ("ScanDiagnoseModel", "feeds", "[I", false)
  | 5 => ("ScanDiagnoseModel", "outputs", "[I", false)
  | 6 => ("ScanDiagnoseModel", "device", "I", false)
  | 7 => ("ScanDiagnoseModel", "noted", "I", false)
  | 8 => ("ScanDiagnoseModel", "pattern", "[I", false)
  | 9 => ("ScanDiagnoseModel", "cycles", "[I", false)
  | 10 => ("ScanDiagnoseModel", "answer", "[I", false)
  | _ => ("ScanDiagnoseModel", "value", "[I", false)
def tyX1 : Nat → FieldType := fun k => match k with
  | 0 => .int
  | 1 => .array .int
  | 2 => .array .int
  | 3 => .array .int
  | 4 => .array .int
  | 5 => .array .int
  | 6 => .int
  | 7 => .int
  | 8 => .array .int
  | 9 => .array .int
  | 10 => .array .int
  | _ => .array .int
abbrev wsX10 : List Cond := u_ws RX1 TX1 12
theorem nmX1 : ∀ a, a < 12 → ∀ b, b < 12 → a ≠ b → (TX1 a).2.1 ≠ (TX1 b).2.1 := by decide +kernel
theorem tyX1_ok : ∀ k, k < 12 → parseFieldDescriptor (TX1 k).2.2.1 = some (tyX1 k) := by decide +kernel
abbrev cX1_init : ByteArray := prog_3_method_1_code
def yX1_init : MethodName := ⟨RX1, "<init>", "()V"⟩
theorem dX1_init_0 : decode cX1_init 0 = .ok (.aload_n 0, 1) := by decide +kernel
theorem dX1_init_1 : decode cX1_init 1 = .ok (.invokespecial 1, 3) := by decide +kernel
theorem dX1_init_4 : decode cX1_init 4 = .ok (.aload_n 0, 1) := by decide +kernel
theorem dX1_init_5 : decode cX1_init 5 = .ok (.bipush 14, 2) := by decide +kernel
theorem dX1_init_7 : decode cX1_init 7 = .ok (.newarray .int, 2) := by decide +kernel
theorem dX1_init_9 : decode cX1_init 9 = .ok (.putfield 7, 3) := by decide +kernel
theorem dX1_init_12 : decode cX1_init 12 = .ok (.aload_n 0, 1) := by decide +kernel
theorem dX1_init_13 : decode cX1_init 13 = .ok (.bipush 14, 2) := by decide +kernel
theorem dX1_init_15 : decode cX1_init 15 = .ok (.newarray .int, 2) := by decide +kernel
theorem dX1_init_17 : decode cX1_init 17 = .ok (.putfield 13, 3) := by decide +kernel
theorem dX1_init_20 : decode cX1_init 20 = .ok (.aload_n 0, 1) := by decide +kernel
theorem dX1_init_21 : decode cX1_init 21 = .ok (.bipush 14, 2) := by decide +kernel
theorem dX1_init_23 : decode cX1_init 23 = .ok (.newarray .int, 2) := by decide +kernel
theorem dX1_init_25 : decode cX1_init 25 = .ok (.putfield 16, 3) := by decide +kernel
theorem dX1_init_28 : decode cX1_init 28 = .ok (.aload_n 0, 1) := by decide +kernel
theorem dX1_init_29 : decode cX1_init 29 = .ok (.iconst 3, 1) := by decide +kernel
theorem dX1_init_30 : decode cX1_init 30 = .ok (.newarray .int, 2) := by decide +kernel
theorem dX1_init_32 : decode cX1_init 32 = .ok (.putfield 19, 3) := by decide +kernel
theorem dX1_init_35 : decode cX1_init 35 = .ok (.aload_n 0, 1) := by decide +kernel
theorem dX1_init_36 : decode cX1_init 36 = .ok (.iconst 2, 1) := by decide +kernel
theorem dX1_init_37 : decode cX1_init 37 = .ok (.newarray .int, 2) := by decide +kernel
theorem dX1_init_39 : decode cX1_init 39 = .ok (.putfield 22, 3) := by decide +kernel
theorem dX1_init_42 : decode cX1_init 42 = .ok (.aload_n 0, 1) := by decide +kernel
theorem dX1_init_43 : decode cX1_init 43 = .ok (.iconst (-1), 1) := by decide +kernel
theorem dX1_init_44 : decode cX1_init 44 = .ok (.putfield 25, 3) := by decide +kernel
theorem dX1_init_47 : decode cX1_init 47 = .ok (.aload_n 0, 1) := by decide +kernel
theorem dX1_init_48 : decode cX1_init 48 = .ok (.bipush 20, 2) := by decide +kernel
theorem dX1_init_50 : decode cX1_init 50 = .ok (.newarray .int, 2) := by decide +kernel
theorem dX1_init_52 : decode cX1_init 52 = .ok (.putfield 29, 3) := by decide +kernel
theorem dX1_init_55 : decode cX1_init 55 = .ok (.aload_n 0, 1) := by decide +kernel
theorem dX1_init_56 : decode cX1_init 56 = .ok (.bipush 20, 2) := by decide +kernel
theorem dX1_init_58 : decode cX1_init 58 = .ok (.newarray .int, 2) := by decide +kernel
theorem dX1_init_60 : decode cX1_init 60 = .ok (.putfield 32, 3) := by decide +kernel
theorem dX1_init_63 : decode cX1_init 63 = .ok (.aload_n 0, 1) := by decide +kernel
theorem dX1_init_64 : decode cX1_init 64 = .ok (.bipush 20, 2) := by decide +kernel
theorem dX1_init_66 : decode cX1_init 66 = .ok (.newarray .int, 2) := by decide +kernel
theorem dX1_init_68 : decode cX1_init 68 = .ok (.putfield 35, 3) := by decide +kernel
theorem dX1_init_71 : decode cX1_init 71 = .ok (.aload_n 0, 1) := by decide +kernel
theorem dX1_init_72 : decode cX1_init 72 = .ok (.bipush 21, 2) := by decide +kernel
theorem dX1_init_74 : decode cX1_init 74 = .ok (.newarray .int, 2) := by decide +kernel
theorem dX1_init_76 : decode cX1_init 76 = .ok (.putfield 38, 3) := by decide +kernel
theorem dX1_init_79 : decode cX1_init 79 = .ok (.iconst 0, 1) := by decide +kernel
theorem dX1_init_80 : decode cX1_init 80 = .ok (.istore_n 1, 1) := by decide +kernel
theorem dX1_init_81 : decode cX1_init 81 = .ok (.iload_n 1, 1) := by decide +kernel
theorem dX1_init_82 : decode cX1_init 82 = .ok (.iconst 3, 1) := by decide +kernel
theorem dX1_init_83 : decode cX1_init 83 = .ok (.if_icmp .ge 18, 3) := by decide +kernel
theorem dX1_init_86 : decode cX1_init 86 = .ok (.aload_n 0, 1) := by decide +kernel
theorem dX1_init_87 : decode cX1_init 87 = .ok (.getfield 19, 3) := by decide +kernel
theorem dX1_init_90 : decode cX1_init 90 = .ok (.iload_n 1, 1) := by decide +kernel
theorem dX1_init_91 : decode cX1_init 91 = .ok (.iconst 4, 1) := by decide +kernel
theorem dX1_init_92 : decode cX1_init 92 = .ok (.iload_n 1, 1) := by decide +kernel
theorem dX1_init_93 : decode cX1_init 93 = .ok (.iadd, 1) := by decide +kernel
theorem dX1_init_94 : decode cX1_init 94 = .ok (.iastore, 1) := by decide +kernel
theorem dX1_init_95 : decode cX1_init 95 = .ok (.iinc 1 1, 3) := by decide +kernel
theorem dX1_init_98 : decode cX1_init 98 = .ok (.goto (-17), 3) := by decide +kernel
theorem dX1_init_101 : decode cX1_init 101 = .ok (.return_, 1) := by decide +kernel
abbrev cX1_gate : ByteArray := prog_3_method_7_code
def yX1_gate : MethodName := ⟨RX1, "gate", "(III)I"⟩
theorem dX1_gate_0 : decode cX1_gate 0 = .ok (.iload_n 1, 1) := by decide +kernel
theorem dX1_gate_1 : decode cX1_gate 1 = .ok (.ifCond .lt 8, 3) := by decide +kernel
theorem dX1_gate_4 : decode cX1_gate 4 = .ok (.iload_n 1, 1) := by decide +kernel
theorem dX1_gate_5 : decode cX1_gate 5 = .ok (.iconst 5, 1) := by decide +kernel
theorem dX1_gate_6 : decode cX1_gate 6 = .ok (.if_icmp .le 5, 3) := by decide +kernel
theorem dX1_gate_9 : decode cX1_gate 9 = .ok (.iconst (-1), 1) := by decide +kernel
theorem dX1_gate_10 : decode cX1_gate 10 = .ok (.ireturn, 1) := by decide +kernel
theorem dX1_gate_11 : decode cX1_gate 11 = .ok (.aload_n 0, 1) := by decide +kernel
theorem dX1_gate_12 : decode cX1_gate 12 = .ok (.iload_n 2, 1) := by decide +kernel
theorem dX1_gate_13 : decode cX1_gate 13 = .ok (.invokevirtual 48, 3) := by decide +kernel
theorem dX1_gate_16 : decode cX1_gate 16 = .ok (.ifCond .ne 16, 3) := by decide +kernel
theorem dX1_gate_19 : decode cX1_gate 19 = .ok (.iload_n 1, 1) := by decide +kernel
theorem dX1_gate_20 : decode cX1_gate 20 = .ok (.iconst 5, 1) := by decide +kernel
theorem dX1_gate_21 : decode cX1_gate 21 = .ok (.if_icmp .eq 14, 3) := by decide +kernel
theorem dX1_gate_24 : decode cX1_gate 24 = .ok (.aload_n 0, 1) := by decide +kernel
theorem dX1_gate_25 : decode cX1_gate 25 = .ok (.iload_n 3, 1) := by decide +kernel
theorem dX1_gate_26 : decode cX1_gate 26 = .ok (.invokevirtual 48, 3) := by decide +kernel
theorem dX1_gate_29 : decode cX1_gate 29 = .ok (.ifCond .eq 6, 3) := by decide +kernel
theorem dX1_gate_32 : decode cX1_gate 32 = .ok (.bipush (-2), 2) := by decide +kernel
theorem dX1_gate_34 : decode cX1_gate 34 = .ok (.ireturn, 1) := by decide +kernel
theorem dX1_gate_35 : decode cX1_gate 35 = .ok (.aload_n 0, 1) := by decide +kernel
theorem dX1_gate_36 : decode cX1_gate 36 = .ok (.getfield 41, 3) := by decide +kernel
theorem dX1_gate_39 : decode cX1_gate 39 = .ok (.istore 4, 2) := by decide +kernel
theorem dX1_gate_41 : decode cX1_gate 41 = .ok (.iload 4, 2) := by decide +kernel
theorem dX1_gate_43 : decode cX1_gate 43 = .ok (.bipush 14, 2) := by decide +kernel
theorem dX1_gate_45 : decode cX1_gate 45 = .ok (.if_icmp .lt 6, 3) := by decide +kernel
theorem dX1_gate_48 : decode cX1_gate 48 = .ok (.bipush (-3), 2) := by decide +kernel
theorem dX1_gate_50 : decode cX1_gate 50 = .ok (.ireturn, 1) := by decide +kernel
theorem dX1_gate_51 : decode cX1_gate 51 = .ok (.aload_n 0, 1) := by decide +kernel
theorem dX1_gate_52 : decode cX1_gate 52 = .ok (.getfield 7, 3) := by decide +kernel
theorem dX1_gate_55 : decode cX1_gate 55 = .ok (.iload 4, 2) := by decide +kernel
theorem dX1_gate_57 : decode cX1_gate 57 = .ok (.iload_n 1, 1) := by decide +kernel
theorem dX1_gate_58 : decode cX1_gate 58 = .ok (.iastore, 1) := by decide +kernel
theorem dX1_gate_59 : decode cX1_gate 59 = .ok (.aload_n 0, 1) := by decide +kernel
theorem dX1_gate_60 : decode cX1_gate 60 = .ok (.getfield 13, 3) := by decide +kernel
theorem dX1_gate_63 : decode cX1_gate 63 = .ok (.iload 4, 2) := by decide +kernel
theorem dX1_gate_65 : decode cX1_gate 65 = .ok (.iload_n 2, 1) := by decide +kernel
theorem dX1_gate_66 : decode cX1_gate 66 = .ok (.iastore, 1) := by decide +kernel
theorem dX1_gate_67 : decode cX1_gate 67 = .ok (.aload_n 0, 1) := by decide +kernel
theorem dX1_gate_68 : decode cX1_gate 68 = .ok (.getfield 16, 3) := by decide +kernel
theorem dX1_gate_71 : decode cX1_gate 71 = .ok (.iload 4, 2) := by decide +kernel
theorem dX1_gate_73 : decode cX1_gate 73 = .ok (.iload_n 1, 1) := by decide +kernel
theorem dX1_gate_74 : decode cX1_gate 74 = .ok (.iconst 5, 1) := by decide +kernel
theorem dX1_gate_75 : decode cX1_gate 75 = .ok (.if_icmp .ne 7, 3) := by decide +kernel
theorem dX1_gate_78 : decode cX1_gate 78 = .ok (.iload_n 2, 1) := by decide +kernel
theorem dX1_gate_79 : decode cX1_gate 79 = .ok (.goto 4, 3) := by decide +kernel
theorem dX1_gate_82 : decode cX1_gate 82 = .ok (.iload_n 3, 1) := by decide +kernel
theorem dX1_gate_83 : decode cX1_gate 83 = .ok (.iastore, 1) := by decide +kernel
theorem dX1_gate_84 : decode cX1_gate 84 = .ok (.aload_n 0, 1) := by decide +kernel
theorem dX1_gate_85 : decode cX1_gate 85 = .ok (.iload 4, 2) := by decide +kernel
theorem dX1_gate_87 : decode cX1_gate 87 = .ok (.iconst 1, 1) := by decide +kernel
theorem dX1_gate_88 : decode cX1_gate 88 = .ok (.iadd, 1) := by decide +kernel
theorem dX1_gate_89 : decode cX1_gate 89 = .ok (.putfield 41, 3) := by decide +kernel
theorem dX1_gate_92 : decode cX1_gate 92 = .ok (.aload_n 0, 1) := by decide +kernel
theorem dX1_gate_93 : decode cX1_gate 93 = .ok (.iconst 0, 1) := by decide +kernel
theorem dX1_gate_94 : decode cX1_gate 94 = .ok (.putfield 52, 3) := by decide +kernel
theorem dX1_gate_97 : decode cX1_gate 97 = .ok (.bipush 7, 2) := by decide +kernel
theorem dX1_gate_99 : decode cX1_gate 99 = .ok (.iload 4, 2) := by decide +kernel
theorem dX1_gate_101 : decode cX1_gate 101 = .ok (.iadd, 1) := by decide +kernel
theorem dX1_gate_102 : decode cX1_gate 102 = .ok (.ireturn, 1) := by decide +kernel
abbrev cX1_badLine : ByteArray := prog_3_method_3_code
def yX1_badLine : MethodName := ⟨RX1, "badLine", "(I)Z"⟩
theorem dX1_badLine_0 : decode cX1_badLine 0 = .ok (.iload_n 1, 1) := by decide +kernel
theorem dX1_badLine_1 : decode cX1_badLine 1 = .ok (.ifCond .lt 17, 3) := by decide +kernel
theorem dX1_badLine_4 : decode cX1_badLine 4 = .ok (.iload_n 1, 1) := by decide +kernel
theorem dX1_badLine_5 : decode cX1_badLine 5 = .ok (.aload_n 0, 1) := by decide +kernel
theorem dX1_badLine_6 : decode cX1_badLine 6 = .ok (.invokevirtual 44, 3) := by decide +kernel
theorem dX1_badLine_9 : decode cX1_badLine 9 = .ok (.if_icmp .ge 9, 3) := by decide +kernel
theorem dX1_badLine_12 : decode cX1_badLine 12 = .ok (.iload_n 1, 1) := by decide +kernel
theorem dX1_badLine_13 : decode cX1_badLine 13 = .ok (.bipush 20, 2) := by decide +kernel
theorem dX1_badLine_15 : decode cX1_badLine 15 = .ok (.if_icmp .le 7, 3) := by decide +kernel
theorem dX1_badLine_18 : decode cX1_badLine 18 = .ok (.iconst 1, 1) := by decide +kernel
theorem dX1_badLine_19 : decode cX1_badLine 19 = .ok (.goto 4, 3) := by decide +kernel
theorem dX1_badLine_22 : decode cX1_badLine 22 = .ok (.iconst 0, 1) := by decide +kernel
theorem dX1_badLine_23 : decode cX1_badLine 23 = .ok (.ireturn, 1) := by decide +kernel
abbrev cX1_lineCount : ByteArray := prog_3_method_2_code
def yX1_lineCount : MethodName := ⟨RX1, "lineCount", "()I"⟩
theorem dX1_lineCount_0 : decode cX1_lineCount 0 = .ok (.bipush 7, 2) := by decide +kernel
theorem dX1_lineCount_2 : decode cX1_lineCount 2 = .ok (.aload_n 0, 1) := by decide +kernel
theorem dX1_lineCount_3 : decode cX1_lineCount 3 = .ok (.getfield 41, 3) := by decide +kernel
theorem dX1_lineCount_6 : decode cX1_lineCount 6 = .ok (.iadd, 1) := by decide +kernel
theorem dX1_lineCount_7 : decode cX1_lineCount 7 = .ok (.ireturn, 1) := by decide +kernel
abbrev cX1_feed : ByteArray := prog_3_method_8_code
def yX1_feed : MethodName := ⟨RX1, "feed", "(II)I"⟩
theorem dX1_feed_0 : decode cX1_feed 0 = .ok (.iload_n 1, 1) := by decide +kernel
theorem dX1_feed_1 : decode cX1_feed 1 = .ok (.ifCond .lt 8, 3) := by decide +kernel
theorem dX1_feed_4 : decode cX1_feed 4 = .ok (.iload_n 1, 1) := by decide +kernel
theorem dX1_feed_5 : decode cX1_feed 5 = .ok (.iconst 2, 1) := by decide +kernel
theorem dX1_feed_6 : decode cX1_feed 6 = .ok (.if_icmp .le 5, 3) := by decide +kernel
theorem dX1_feed_9 : decode cX1_feed 9 = .ok (.iconst (-1), 1) := by decide +kernel
theorem dX1_feed_10 : decode cX1_feed 10 = .ok (.ireturn, 1) := by decide +kernel
theorem dX1_feed_11 : decode cX1_feed 11 = .ok (.aload_n 0, 1) := by decide +kernel
theorem dX1_feed_12 : decode cX1_feed 12 = .ok (.iload_n 2, 1) := by decide +kernel
theorem dX1_feed_13 : decode cX1_feed 13 = .ok (.invokevirtual 48, 3) := by decide +kernel
theorem dX1_feed_16 : decode cX1_feed 16 = .ok (.ifCond .eq 6, 3) := by decide +kernel
theorem dX1_feed_19 : decode cX1_feed 19 = .ok (.bipush (-2), 2) := by decide +kernel
theorem dX1_feed_21 : decode cX1_feed 21 = .ok (.ireturn, 1) := by decide +kernel
theorem dX1_feed_22 : decode cX1_feed 22 = .ok (.aload_n 0, 1) := by decide +kernel
theorem dX1_feed_23 : decode cX1_feed 23 = .ok (.getfield 19, 3) := by decide +kernel
theorem dX1_feed_26 : decode cX1_feed 26 = .ok (.iload_n 1, 1) := by decide +kernel
theorem dX1_feed_27 : decode cX1_feed 27 = .ok (.iaload, 1) := by decide +kernel
theorem dX1_feed_28 : decode cX1_feed 28 = .ok (.istore_n 3, 1) := by decide +kernel
theorem dX1_feed_29 : decode cX1_feed 29 = .ok (.aload_n 0, 1) := by decide +kernel
theorem dX1_feed_30 : decode cX1_feed 30 = .ok (.getfield 19, 3) := by decide +kernel
theorem dX1_feed_33 : decode cX1_feed 33 = .ok (.iload_n 1, 1) := by decide +kernel
theorem dX1_feed_34 : decode cX1_feed 34 = .ok (.iload_n 2, 1) := by decide +kernel
theorem dX1_feed_35 : decode cX1_feed 35 = .ok (.iastore, 1) := by decide +kernel
theorem dX1_feed_36 : decode cX1_feed 36 = .ok (.aload_n 0, 1) := by decide +kernel
theorem dX1_feed_37 : decode cX1_feed 37 = .ok (.iconst 0, 1) := by decide +kernel
theorem dX1_feed_38 : decode cX1_feed 38 = .ok (.putfield 52, 3) := by decide +kernel
theorem dX1_feed_41 : decode cX1_feed 41 = .ok (.iload_n 3, 1) := by decide +kernel
theorem dX1_feed_42 : decode cX1_feed 42 = .ok (.ireturn, 1) := by decide +kernel
abbrev cX1_output : ByteArray := prog_3_method_9_code
def yX1_output : MethodName := ⟨RX1, "output", "(II)I"⟩
theorem dX1_output_0 : decode cX1_output 0 = .ok (.iload_n 1, 1) := by decide +kernel
theorem dX1_output_1 : decode cX1_output 1 = .ok (.ifCond .lt 8, 3) := by decide +kernel
theorem dX1_output_4 : decode cX1_output 4 = .ok (.iload_n 1, 1) := by decide +kernel
theorem dX1_output_5 : decode cX1_output 5 = .ok (.iconst 1, 1) := by decide +kernel
theorem dX1_output_6 : decode cX1_output 6 = .ok (.if_icmp .le 5, 3) := by decide +kernel
theorem dX1_output_9 : decode cX1_output 9 = .ok (.iconst (-1), 1) := by decide +kernel
theorem dX1_output_10 : decode cX1_output 10 = .ok (.ireturn, 1) := by decide +kernel
theorem dX1_output_11 : decode cX1_output 11 = .ok (.aload_n 0, 1) := by decide +kernel
theorem dX1_output_12 : decode cX1_output 12 = .ok (.iload_n 2, 1) := by decide +kernel
theorem dX1_output_13 : decode cX1_output 13 = .ok (.invokevirtual 48, 3) := by decide +kernel
theorem dX1_output_16 : decode cX1_output 16 = .ok (.ifCond .eq 6, 3) := by decide +kernel
theorem dX1_output_19 : decode cX1_output 19 = .ok (.bipush (-2), 2) := by decide +kernel
theorem dX1_output_21 : decode cX1_output 21 = .ok (.ireturn, 1) := by decide +kernel
theorem dX1_output_22 : decode cX1_output 22 = .ok (.aload_n 0, 1) := by decide +kernel
theorem dX1_output_23 : decode cX1_output 23 = .ok (.getfield 22, 3) := by decide +kernel
theorem dX1_output_26 : decode cX1_output 26 = .ok (.iload_n 1, 1) := by decide +kernel
theorem dX1_output_27 : decode cX1_output 27 = .ok (.iaload, 1) := by decide +kernel
theorem dX1_output_28 : decode cX1_output 28 = .ok (.istore_n 3, 1) := by decide +kernel
theorem dX1_output_29 : decode cX1_output 29 = .ok (.aload_n 0, 1) := by decide +kernel
theorem dX1_output_30 : decode cX1_output 30 = .ok (.getfield 22, 3) := by decide +kernel
theorem dX1_output_33 : decode cX1_output 33 = .ok (.iload_n 1, 1) := by decide +kernel
theorem dX1_output_34 : decode cX1_output 34 = .ok (.iload_n 2, 1) := by decide +kernel
theorem dX1_output_35 : decode cX1_output 35 = .ok (.iastore, 1) := by decide +kernel
theorem dX1_output_36 : decode cX1_output 36 = .ok (.aload_n 0, 1) := by decide +kernel
theorem dX1_output_37 : decode cX1_output 37 = .ok (.iconst 0, 1) := by decide +kernel
theorem dX1_output_38 : decode cX1_output 38 = .ok (.putfield 52, 3) := by decide +kernel
theorem dX1_output_41 : decode cX1_output 41 = .ok (.iload_n 3, 1) := by decide +kernel
theorem dX1_output_42 : decode cX1_output 42 = .ok (.ireturn, 1) := by decide +kernel
abbrev cX1_lines : ByteArray := prog_3_method_10_code
def yX1_lines : MethodName := ⟨RX1, "lines", "()I"⟩
theorem dX1_lines_0 : decode cX1_lines 0 = .ok (.aload_n 0, 1) := by decide +kernel
theorem dX1_lines_1 : decode cX1_lines 1 = .ok (.invokevirtual 44, 3) := by decide +kernel
theorem dX1_lines_4 : decode cX1_lines 4 = .ok (.ireturn, 1) := by decide +kernel
abbrev cX1_inject : ByteArray := prog_3_method_14_code
def yX1_inject : MethodName := ⟨RX1, "inject", "(I)I"⟩
theorem dX1_inject_0 : decode cX1_inject 0 = .ok (.iload_n 1, 1) := by decide +kernel
theorem dX1_inject_1 : decode cX1_inject 1 = .ok (.iconst (-1), 1) := by decide +kernel
theorem dX1_inject_2 : decode cX1_inject 2 = .ok (.if_icmp .eq 13, 3) := by decide +kernel
theorem dX1_inject_5 : decode cX1_inject 5 = .ok (.aload_n 0, 1) := by decide +kernel
theorem dX1_inject_6 : decode cX1_inject 6 = .ok (.iload_n 1, 1) := by decide +kernel
theorem dX1_inject_7 : decode cX1_inject 7 = .ok (.invokevirtual 63, 3) := by decide +kernel
theorem dX1_inject_10 : decode cX1_inject 10 = .ok (.ifCond .eq 5, 3) := by decide +kernel
theorem dX1_inject_13 : decode cX1_inject 13 = .ok (.iconst (-1), 1) := by decide +kernel
theorem dX1_inject_14 : decode cX1_inject 14 = .ok (.ireturn, 1) := by decide +kernel
theorem dX1_inject_15 : decode cX1_inject 15 = .ok (.aload_n 0, 1) := by decide +kernel
theorem dX1_inject_16 : decode cX1_inject 16 = .ok (.iload_n 1, 1) := by decide +kernel
theorem dX1_inject_17 : decode cX1_inject 17 = .ok (.putfield 25, 3) := by decide +kernel
theorem dX1_inject_20 : decode cX1_inject 20 = .ok (.aload_n 0, 1) := by decide +kernel
theorem dX1_inject_21 : decode cX1_inject 21 = .ok (.iconst 0, 1) := by decide +kernel
theorem dX1_inject_22 : decode cX1_inject 22 = .ok (.putfield 52, 3) := by decide +kernel
theorem dX1_inject_25 : decode cX1_inject 25 = .ok (.iconst 0, 1) := by decide +kernel
theorem dX1_inject_26 : decode cX1_inject 26 = .ok (.ireturn, 1) := by decide +kernel
abbrev cX1_badFault : ByteArray := prog_3_method_4_code
def yX1_badFault : MethodName := ⟨RX1, "badFault", "(I)Z"⟩
theorem dX1_badFault_0 : decode cX1_badFault 0 = .ok (.iload_n 1, 1) := by decide +kernel
theorem dX1_badFault_1 : decode cX1_badFault 1 = .ok (.ifCond .lt 13, 3) := by decide +kernel
theorem dX1_badFault_4 : decode cX1_badFault 4 = .ok (.iload_n 1, 1) := by decide +kernel
theorem dX1_badFault_5 : decode cX1_badFault 5 = .ok (.iconst 2, 1) := by decide +kernel
theorem dX1_badFault_6 : decode cX1_badFault 6 = .ok (.aload_n 0, 1) := by decide +kernel
theorem dX1_badFault_7 : decode cX1_badFault 7 = .ok (.invokevirtual 44, 3) := by decide +kernel
theorem dX1_badFault_10 : decode cX1_badFault 10 = .ok (.imul, 1) := by decide +kernel
theorem dX1_badFault_11 : decode cX1_badFault 11 = .ok (.if_icmp .lt 7, 3) := by decide +kernel
theorem dX1_badFault_14 : decode cX1_badFault 14 = .ok (.iconst 1, 1) := by decide +kernel
theorem dX1_badFault_15 : decode cX1_badFault 15 = .ok (.goto 4, 3) := by decide +kernel
theorem dX1_badFault_18 : decode cX1_badFault 18 = .ok (.iconst 0, 1) := by decide +kernel
theorem dX1_badFault_19 : decode cX1_badFault 19 = .ok (.ireturn, 1) := by decide +kernel
abbrev cX1_observe : ByteArray := prog_3_method_15_code
def yX1_observe : MethodName := ⟨RX1, "observe", "(II)I"⟩
theorem dX1_observe_0 : decode cX1_observe 0 = .ok (.aload_n 0, 1) := by decide +kernel
theorem dX1_observe_1 : decode cX1_observe 1 = .ok (.iload_n 1, 1) := by decide +kernel
theorem dX1_observe_2 : decode cX1_observe 2 = .ok (.invokevirtual 66, 3) := by decide +kernel
theorem dX1_observe_5 : decode cX1_observe 5 = .ok (.ifCond .eq 5, 3) := by decide +kernel
theorem dX1_observe_8 : decode cX1_observe 8 = .ok (.iconst (-1), 1) := by decide +kernel
theorem dX1_observe_9 : decode cX1_observe 9 = .ok (.ireturn, 1) := by decide +kernel
theorem dX1_observe_10 : decode cX1_observe 10 = .ok (.aload_n 0, 1) := by decide +kernel
theorem dX1_observe_11 : decode cX1_observe 11 = .ok (.iload_n 2, 1) := by decide +kernel
theorem dX1_observe_12 : decode cX1_observe 12 = .ok (.invokevirtual 69, 3) := by decide +kernel
theorem dX1_observe_15 : decode cX1_observe 15 = .ok (.ifCond .eq 6, 3) := by decide +kernel
theorem dX1_observe_18 : decode cX1_observe 18 = .ok (.bipush (-2), 2) := by decide +kernel
theorem dX1_observe_20 : decode cX1_observe 20 = .ok (.ireturn, 1) := by decide +kernel
theorem dX1_observe_21 : decode cX1_observe 21 = .ok (.aload_n 0, 1) := by decide +kernel
theorem dX1_observe_22 : decode cX1_observe 22 = .ok (.getfield 52, 3) := by decide +kernel
theorem dX1_observe_25 : decode cX1_observe 25 = .ok (.istore_n 3, 1) := by decide +kernel
theorem dX1_observe_26 : decode cX1_observe 26 = .ok (.iload_n 3, 1) := by decide +kernel
theorem dX1_observe_27 : decode cX1_observe 27 = .ok (.bipush 20, 2) := by decide +kernel
theorem dX1_observe_29 : decode cX1_observe 29 = .ok (.if_icmp .lt 6, 3) := by decide +kernel
theorem dX1_observe_32 : decode cX1_observe 32 = .ok (.bipush (-3), 2) := by decide +kernel
theorem dX1_observe_34 : decode cX1_observe 34 = .ok (.ireturn, 1) := by decide +kernel
theorem dX1_observe_35 : decode cX1_observe 35 = .ok (.aload_n 0, 1) := by decide +kernel
theorem dX1_observe_36 : decode cX1_observe 36 = .ok (.getfield 29, 3) := by decide +kernel
theorem dX1_observe_39 : decode cX1_observe 39 = .ok (.iload_n 3, 1) := by decide +kernel
theorem dX1_observe_40 : decode cX1_observe 40 = .ok (.iload_n 1, 1) := by decide +kernel
theorem dX1_observe_41 : decode cX1_observe 41 = .ok (.iastore, 1) := by decide +kernel
theorem dX1_observe_42 : decode cX1_observe 42 = .ok (.aload_n 0, 1) := by decide +kernel
theorem dX1_observe_43 : decode cX1_observe 43 = .ok (.getfield 32, 3) := by decide +kernel
theorem dX1_observe_46 : decode cX1_observe 46 = .ok (.iload_n 3, 1) := by decide +kernel
theorem dX1_observe_47 : decode cX1_observe 47 = .ok (.iload_n 2, 1) := by decide +kernel
theorem dX1_observe_48 : decode cX1_observe 48 = .ok (.iastore, 1) := by decide +kernel
theorem dX1_observe_49 : decode cX1_observe 49 = .ok (.aload_n 0, 1) := by decide +kernel
theorem dX1_observe_50 : decode cX1_observe 50 = .ok (.getfield 35, 3) := by decide +kernel
theorem dX1_observe_53 : decode cX1_observe 53 = .ok (.iload_n 3, 1) := by decide +kernel
theorem dX1_observe_54 : decode cX1_observe 54 = .ok (.aload_n 0, 1) := by decide +kernel
theorem dX1_observe_55 : decode cX1_observe 55 = .ok (.aload_n 0, 1) := by decide +kernel
theorem dX1_observe_56 : decode cX1_observe 56 = .ok (.getfield 25, 3) := by decide +kernel
theorem dX1_observe_59 : decode cX1_observe 59 = .ok (.iload_n 1, 1) := by decide +kernel
theorem dX1_observe_60 : decode cX1_observe 60 = .ok (.iload_n 2, 1) := by decide +kernel
theorem dX1_observe_61 : decode cX1_observe 61 = .ok (.invokevirtual 72, 3) := by decide +kernel
theorem dX1_observe_64 : decode cX1_observe 64 = .ok (.iastore, 1) := by decide +kernel
theorem dX1_observe_65 : decode cX1_observe 65 = .ok (.aload_n 0, 1) := by decide +kernel
theorem dX1_observe_66 : decode cX1_observe 66 = .ok (.iload_n 3, 1) := by decide +kernel
theorem dX1_observe_67 : decode cX1_observe 67 = .ok (.iconst 1, 1) := by decide +kernel
theorem dX1_observe_68 : decode cX1_observe 68 = .ok (.iadd, 1) := by decide +kernel
theorem dX1_observe_69 : decode cX1_observe 69 = .ok (.putfield 52, 3) := by decide +kernel
theorem dX1_observe_72 : decode cX1_observe 72 = .ok (.aload_n 0, 1) := by decide +kernel
theorem dX1_observe_73 : decode cX1_observe 73 = .ok (.getfield 35, 3) := by decide +kernel
theorem dX1_observe_76 : decode cX1_observe 76 = .ok (.iload_n 3, 1) := by decide +kernel
theorem dX1_observe_77 : decode cX1_observe 77 = .ok (.iaload, 1) := by decide +kernel
theorem dX1_observe_78 : decode cX1_observe 78 = .ok (.ireturn, 1) := by decide +kernel
end
section
set_option maxRecDepth 100000
abbrev cX1_badPattern : ByteArray := prog_3_method_5_code
def yX1_badPattern : MethodName := ⟨RX1, "badPattern", "(I)Z"⟩
theorem dX1_badPattern_0 : decode cX1_badPattern 0 = .ok (.iload_n 1, 1) := by decide +kernel
theorem dX1_badPattern_1 : decode cX1_badPattern 1 = .ok (.ifCond .lt 9, 3) := by decide +kernel
theorem dX1_badPattern_4 : decode cX1_badPattern 4 = .ok (.iload_n 1, 1) := by decide +kernel
theorem dX1_badPattern_5 : decode cX1_badPattern 5 = .ok (.bipush 127, 2) := by decide +kernel
theorem dX1_badPattern_7 : decode cX1_badPattern 7 = .ok (.if_icmp .le 7, 3) := by decide +kernel
theorem dX1_badPattern_10 : decode cX1_badPattern 10 = .ok (.iconst 1, 1) := by decide +kernel
theorem dX1_badPattern_11 : decode cX1_badPattern 11 = .ok (.goto 4, 3) := by decide +kernel
theorem dX1_badPattern_14 : decode cX1_badPattern 14 = .ok (.iconst 0, 1) := by decide +kernel
theorem dX1_badPattern_15 : decode cX1_badPattern 15 = .ok (.ireturn, 1) := by decide +kernel
abbrev cX1_badCycles : ByteArray := prog_3_method_6_code
def yX1_badCycles : MethodName := ⟨RX1, "badCycles", "(I)Z"⟩
theorem dX1_badCycles_0 : decode cX1_badCycles 0 = .ok (.iload_n 1, 1) := by decide +kernel
theorem dX1_badCycles_1 : decode cX1_badCycles 1 = .ok (.iconst 1, 1) := by decide +kernel
theorem dX1_badCycles_2 : decode cX1_badCycles 2 = .ok (.if_icmp .lt 8, 3) := by decide +kernel
theorem dX1_badCycles_5 : decode cX1_badCycles 5 = .ok (.iload_n 1, 1) := by decide +kernel
theorem dX1_badCycles_6 : decode cX1_badCycles 6 = .ok (.iconst 4, 1) := by decide +kernel
theorem dX1_badCycles_7 : decode cX1_badCycles 7 = .ok (.if_icmp .le 7, 3) := by decide +kernel
theorem dX1_badCycles_10 : decode cX1_badCycles 10 = .ok (.iconst 1, 1) := by decide +kernel
theorem dX1_badCycles_11 : decode cX1_badCycles 11 = .ok (.goto 4, 3) := by decide +kernel
theorem dX1_badCycles_14 : decode cX1_badCycles 14 = .ok (.iconst 0, 1) := by decide +kernel
theorem dX1_badCycles_15 : decode cX1_badCycles 15 = .ok (.ireturn, 1) := by decide +kernel
abbrev cX1_run : ByteArray := prog_3_method_13_code
def yX1_run : MethodName := ⟨RX1, "run", "(III)I"⟩
theorem dX1_run_0 : decode cX1_run 0 = .ok (.iload_n 2, 1) := by decide +kernel
theorem dX1_run_1 : decode cX1_run 1 = .ok (.iconst 4, 1) := by decide +kernel
theorem dX1_run_2 : decode cX1_run 2 = .ok (.ishr, 1) := by decide +kernel
theorem dX1_run_3 : decode cX1_run 3 = .ok (.istore 4, 2) := by decide +kernel
theorem dX1_run_5 : decode cX1_run 5 = .ok (.iconst 0, 1) := by decide +kernel
theorem dX1_run_6 : decode cX1_run 6 = .ok (.istore 5, 2) := by decide +kernel
theorem dX1_run_8 : decode cX1_run 8 = .ok (.iconst 0, 1) := by decide +kernel
theorem dX1_run_9 : decode cX1_run 9 = .ok (.istore 6, 2) := by decide +kernel
theorem dX1_run_11 : decode cX1_run 11 = .ok (.iload 6, 2) := by decide +kernel
theorem dX1_run_13 : decode cX1_run 13 = .ok (.iload_n 3, 1) := by decide +kernel
theorem dX1_run_14 : decode cX1_run 14 = .ok (.if_icmp .ge 95, 3) := by decide +kernel
theorem dX1_run_17 : decode cX1_run 17 = .ok (.aload_n 0, 1) := by decide +kernel
theorem dX1_run_18 : decode cX1_run 18 = .ok (.iload_n 1, 1) := by decide +kernel
theorem dX1_run_19 : decode cX1_run 19 = .ok (.iload_n 2, 1) := by decide +kernel
theorem dX1_run_20 : decode cX1_run 20 = .ok (.bipush 15, 2) := by decide +kernel
theorem dX1_run_22 : decode cX1_run 22 = .ok (.iand, 1) := by decide +kernel
theorem dX1_run_23 : decode cX1_run 23 = .ok (.iload 4, 2) := by decide +kernel
theorem dX1_run_25 : decode cX1_run 25 = .ok (.invokevirtual 59, 3) := by decide +kernel
theorem dX1_run_28 : decode cX1_run 28 = .ok (.aload_n 0, 1) := by decide +kernel
theorem dX1_run_29 : decode cX1_run 29 = .ok (.getfield 38, 3) := by decide +kernel
theorem dX1_run_32 : decode cX1_run 32 = .ok (.aload_n 0, 1) := by decide +kernel
theorem dX1_run_33 : decode cX1_run 33 = .ok (.getfield 19, 3) := by decide +kernel
theorem dX1_run_36 : decode cX1_run 36 = .ok (.iconst 0, 1) := by decide +kernel
theorem dX1_run_37 : decode cX1_run 37 = .ok (.iaload, 1) := by decide +kernel
theorem dX1_run_38 : decode cX1_run 38 = .ok (.iaload, 1) := by decide +kernel
theorem dX1_run_39 : decode cX1_run 39 = .ok (.iconst 2, 1) := by decide +kernel
theorem dX1_run_40 : decode cX1_run 40 = .ok (.aload_n 0, 1) := by decide +kernel
theorem dX1_run_41 : decode cX1_run 41 = .ok (.getfield 38, 3) := by decide +kernel
theorem dX1_run_44 : decode cX1_run 44 = .ok (.aload_n 0, 1) := by decide +kernel
theorem dX1_run_45 : decode cX1_run 45 = .ok (.getfield 19, 3) := by decide +kernel
theorem dX1_run_48 : decode cX1_run 48 = .ok (.iconst 1, 1) := by decide +kernel
theorem dX1_run_49 : decode cX1_run 49 = .ok (.iaload, 1) := by decide +kernel
theorem dX1_run_50 : decode cX1_run 50 = .ok (.iaload, 1) := by decide +kernel
theorem dX1_run_51 : decode cX1_run 51 = .ok (.imul, 1) := by decide +kernel
theorem dX1_run_52 : decode cX1_run 52 = .ok (.iadd, 1) := by decide +kernel
theorem dX1_run_53 : decode cX1_run 53 = .ok (.iconst 4, 1) := by decide +kernel
theorem dX1_run_54 : decode cX1_run 54 = .ok (.aload_n 0, 1) := by decide +kernel
theorem dX1_run_55 : decode cX1_run 55 = .ok (.getfield 38, 3) := by decide +kernel
theorem dX1_run_58 : decode cX1_run 58 = .ok (.aload_n 0, 1) := by decide +kernel
theorem dX1_run_59 : decode cX1_run 59 = .ok (.getfield 19, 3) := by decide +kernel
theorem dX1_run_62 : decode cX1_run 62 = .ok (.iconst 2, 1) := by decide +kernel
theorem dX1_run_63 : decode cX1_run 63 = .ok (.iaload, 1) := by decide +kernel
theorem dX1_run_64 : decode cX1_run 64 = .ok (.iaload, 1) := by decide +kernel
theorem dX1_run_65 : decode cX1_run 65 = .ok (.imul, 1) := by decide +kernel
theorem dX1_run_66 : decode cX1_run 66 = .ok (.iadd, 1) := by decide +kernel
theorem dX1_run_67 : decode cX1_run 67 = .ok (.istore 4, 2) := by decide +kernel
theorem dX1_run_69 : decode cX1_run 69 = .ok (.iload 4, 2) := by decide +kernel
theorem dX1_run_71 : decode cX1_run 71 = .ok (.bipush 8, 2) := by decide +kernel
theorem dX1_run_73 : decode cX1_run 73 = .ok (.aload_n 0, 1) := by decide +kernel
theorem dX1_run_74 : decode cX1_run 74 = .ok (.getfield 38, 3) := by decide +kernel
theorem dX1_run_77 : decode cX1_run 77 = .ok (.aload_n 0, 1) := by decide +kernel
theorem dX1_run_78 : decode cX1_run 78 = .ok (.getfield 22, 3) := by decide +kernel
theorem dX1_run_81 : decode cX1_run 81 = .ok (.iconst 0, 1) := by decide +kernel
theorem dX1_run_82 : decode cX1_run 82 = .ok (.iaload, 1) := by decide +kernel
theorem dX1_run_83 : decode cX1_run 83 = .ok (.iaload, 1) := by decide +kernel
theorem dX1_run_84 : decode cX1_run 84 = .ok (.imul, 1) := by decide +kernel
theorem dX1_run_85 : decode cX1_run 85 = .ok (.iadd, 1) := by decide +kernel
theorem dX1_run_86 : decode cX1_run 86 = .ok (.bipush 16, 2) := by decide +kernel
theorem dX1_run_88 : decode cX1_run 88 = .ok (.aload_n 0, 1) := by decide +kernel
theorem dX1_run_89 : decode cX1_run 89 = .ok (.getfield 38, 3) := by decide +kernel
theorem dX1_run_92 : decode cX1_run 92 = .ok (.aload_n 0, 1) := by decide +kernel
theorem dX1_run_93 : decode cX1_run 93 = .ok (.getfield 22, 3) := by decide +kernel
theorem dX1_run_96 : decode cX1_run 96 = .ok (.iconst 1, 1) := by decide +kernel
theorem dX1_run_97 : decode cX1_run 97 = .ok (.iaload, 1) := by decide +kernel
theorem dX1_run_98 : decode cX1_run 98 = .ok (.iaload, 1) := by decide +kernel
theorem dX1_run_99 : decode cX1_run 99 = .ok (.imul, 1) := by decide +kernel
theorem dX1_run_100 : decode cX1_run 100 = .ok (.iadd, 1) := by decide +kernel
theorem dX1_run_101 : decode cX1_run 101 = .ok (.istore 5, 2) := by decide +kernel
theorem dX1_run_103 : decode cX1_run 103 = .ok (.iinc 6 1, 3) := by decide +kernel
theorem dX1_run_106 : decode cX1_run 106 = .ok (.goto (-95), 3) := by decide +kernel
theorem dX1_run_109 : decode cX1_run 109 = .ok (.iload 5, 2) := by decide +kernel
theorem dX1_run_111 : decode cX1_run 111 = .ok (.ireturn, 1) := by decide +kernel
abbrev cX1_settle : ByteArray := prog_3_method_12_code
def yX1_settle : MethodName := ⟨RX1, "settle", "(III)V"⟩
theorem dX1_settle_0 : decode cX1_settle 0 = .ok (.iconst 0, 1) := by decide +kernel
theorem dX1_settle_1 : decode cX1_settle 1 = .ok (.istore 4, 2) := by decide +kernel
theorem dX1_settle_3 : decode cX1_settle 3 = .ok (.iload 4, 2) := by decide +kernel
theorem dX1_settle_5 : decode cX1_settle 5 = .ok (.aload_n 0, 1) := by decide +kernel
theorem dX1_settle_6 : decode cX1_settle 6 = .ok (.invokevirtual 44, 3) := by decide +kernel
theorem dX1_settle_9 : decode cX1_settle 9 = .ok (.if_icmp .ge 93, 3) := by decide +kernel
theorem dX1_settle_12 : decode cX1_settle 12 = .ok (.iload 4, 2) := by decide +kernel
theorem dX1_settle_14 : decode cX1_settle 14 = .ok (.bipush 21, 2) := by decide +kernel
theorem dX1_settle_16 : decode cX1_settle 16 = .ok (.if_icmp .ge 86, 3) := by decide +kernel
theorem dX1_settle_19 : decode cX1_settle 19 = .ok (.iconst 0, 1) := by decide +kernel
theorem dX1_settle_20 : decode cX1_settle 20 = .ok (.istore 5, 2) := by decide +kernel
theorem dX1_settle_22 : decode cX1_settle 22 = .ok (.iload 4, 2) := by decide +kernel
theorem dX1_settle_24 : decode cX1_settle 24 = .ok (.iconst 4, 1) := by decide +kernel
theorem dX1_settle_25 : decode cX1_settle 25 = .ok (.if_icmp .ge 14, 3) := by decide +kernel
theorem dX1_settle_28 : decode cX1_settle 28 = .ok (.iload_n 2, 1) := by decide +kernel
theorem dX1_settle_29 : decode cX1_settle 29 = .ok (.iload 4, 2) := by decide +kernel
theorem dX1_settle_31 : decode cX1_settle 31 = .ok (.ishr, 1) := by decide +kernel
theorem dX1_settle_32 : decode cX1_settle 32 = .ok (.iconst 1, 1) := by decide +kernel
theorem dX1_settle_33 : decode cX1_settle 33 = .ok (.iand, 1) := by decide +kernel
theorem dX1_settle_34 : decode cX1_settle 34 = .ok (.istore 5, 2) := by decide +kernel
theorem dX1_settle_36 : decode cX1_settle 36 = .ok (.goto 34, 3) := by decide +kernel
theorem dX1_settle_39 : decode cX1_settle 39 = .ok (.iload 4, 2) := by decide +kernel
theorem dX1_settle_41 : decode cX1_settle 41 = .ok (.bipush 7, 2) := by decide +kernel
theorem dX1_settle_43 : decode cX1_settle 43 = .ok (.if_icmp .ge 16, 3) := by decide +kernel
theorem dX1_settle_46 : decode cX1_settle 46 = .ok (.iload_n 3, 1) := by decide +kernel
theorem dX1_settle_47 : decode cX1_settle 47 = .ok (.iload 4, 2) := by decide +kernel
theorem dX1_settle_49 : decode cX1_settle 49 = .ok (.iconst 4, 1) := by decide +kernel
theorem dX1_settle_50 : decode cX1_settle 50 = .ok (.isub, 1) := by decide +kernel
theorem dX1_settle_51 : decode cX1_settle 51 = .ok (.ishr, 1) := by decide +kernel
theorem dX1_settle_52 : decode cX1_settle 52 = .ok (.iconst 1, 1) := by decide +kernel
theorem dX1_settle_53 : decode cX1_settle 53 = .ok (.iand, 1) := by decide +kernel
theorem dX1_settle_54 : decode cX1_settle 54 = .ok (.istore 5, 2) := by decide +kernel
theorem dX1_settle_56 : decode cX1_settle 56 = .ok (.goto 14, 3) := by decide +kernel
theorem dX1_settle_59 : decode cX1_settle 59 = .ok (.aload_n 0, 1) := by decide +kernel
theorem dX1_settle_60 : decode cX1_settle 60 = .ok (.iload 4, 2) := by decide +kernel
theorem dX1_settle_62 : decode cX1_settle 62 = .ok (.bipush 7, 2) := by decide +kernel
theorem dX1_settle_64 : decode cX1_settle 64 = .ok (.isub, 1) := by decide +kernel
theorem dX1_settle_65 : decode cX1_settle 65 = .ok (.invokevirtual 55, 3) := by decide +kernel
theorem dX1_settle_68 : decode cX1_settle 68 = .ok (.istore 5, 2) := by decide +kernel
theorem dX1_settle_70 : decode cX1_settle 70 = .ok (.iload_n 1, 1) := by decide +kernel
theorem dX1_settle_71 : decode cX1_settle 71 = .ok (.ifCond .lt 16, 3) := by decide +kernel
theorem dX1_settle_74 : decode cX1_settle 74 = .ok (.iload_n 1, 1) := by decide +kernel
theorem dX1_settle_75 : decode cX1_settle 75 = .ok (.iconst 2, 1) := by decide +kernel
theorem dX1_settle_76 : decode cX1_settle 76 = .ok (.idiv, 1) := by decide +kernel
theorem dX1_settle_77 : decode cX1_settle 77 = .ok (.iload 4, 2) := by decide +kernel
theorem dX1_settle_79 : decode cX1_settle 79 = .ok (.if_icmp .ne 8, 3) := by decide +kernel
theorem dX1_settle_82 : decode cX1_settle 82 = .ok (.iload_n 1, 1) := by decide +kernel
theorem dX1_settle_83 : decode cX1_settle 83 = .ok (.iconst 2, 1) := by decide +kernel
theorem dX1_settle_84 : decode cX1_settle 84 = .ok (.irem, 1) := by decide +kernel
theorem dX1_settle_85 : decode cX1_settle 85 = .ok (.istore 5, 2) := by decide +kernel
theorem dX1_settle_87 : decode cX1_settle 87 = .ok (.aload_n 0, 1) := by decide +kernel
theorem dX1_settle_88 : decode cX1_settle 88 = .ok (.getfield 38, 3) := by decide +kernel
theorem dX1_settle_91 : decode cX1_settle 91 = .ok (.iload 4, 2) := by decide +kernel
theorem dX1_settle_93 : decode cX1_settle 93 = .ok (.iload 5, 2) := by decide +kernel
theorem dX1_settle_95 : decode cX1_settle 95 = .ok (.iastore, 1) := by decide +kernel
theorem dX1_settle_96 : decode cX1_settle 96 = .ok (.iinc 4 1, 3) := by decide +kernel
theorem dX1_settle_99 : decode cX1_settle 99 = .ok (.goto (-96), 3) := by decide +kernel
theorem dX1_settle_102 : decode cX1_settle 102 = .ok (.return_, 1) := by decide +kernel
abbrev cX1_gateValue : ByteArray := prog_3_method_11_code
def yX1_gateValue : MethodName := ⟨RX1, "gateValue", "(I)I"⟩
theorem dX1_gateValue_0 : decode cX1_gateValue 0 = .ok (.aload_n 0, 1) := by decide +kernel
theorem dX1_gateValue_1 : decode cX1_gateValue 1 = .ok (.getfield 38, 3) := by decide +kernel
theorem dX1_gateValue_4 : decode cX1_gateValue 4 = .ok (.aload_n 0, 1) := by decide +kernel
theorem dX1_gateValue_5 : decode cX1_gateValue 5 = .ok (.getfield 13, 3) := by decide +kernel
theorem dX1_gateValue_8 : decode cX1_gateValue 8 = .ok (.iload_n 1, 1) := by decide +kernel
theorem dX1_gateValue_9 : decode cX1_gateValue 9 = .ok (.iaload, 1) := by decide +kernel
theorem dX1_gateValue_10 : decode cX1_gateValue 10 = .ok (.iaload, 1) := by decide +kernel
theorem dX1_gateValue_11 : decode cX1_gateValue 11 = .ok (.istore_n 2, 1) := by decide +kernel
theorem dX1_gateValue_12 : decode cX1_gateValue 12 = .ok (.aload_n 0, 1) := by decide +kernel
theorem dX1_gateValue_13 : decode cX1_gateValue 13 = .ok (.getfield 38, 3) := by decide +kernel
theorem dX1_gateValue_16 : decode cX1_gateValue 16 = .ok (.aload_n 0, 1) := by decide +kernel
theorem dX1_gateValue_17 : decode cX1_gateValue 17 = .ok (.getfield 16, 3) := by decide +kernel
theorem dX1_gateValue_20 : decode cX1_gateValue 20 = .ok (.iload_n 1, 1) := by decide +kernel
theorem dX1_gateValue_21 : decode cX1_gateValue 21 = .ok (.iaload, 1) := by decide +kernel
theorem dX1_gateValue_22 : decode cX1_gateValue 22 = .ok (.iaload, 1) := by decide +kernel
theorem dX1_gateValue_23 : decode cX1_gateValue 23 = .ok (.istore_n 3, 1) := by decide +kernel
theorem dX1_gateValue_24 : decode cX1_gateValue 24 = .ok (.aload_n 0, 1) := by decide +kernel
theorem dX1_gateValue_25 : decode cX1_gateValue 25 = .ok (.getfield 7, 3) := by decide +kernel
theorem dX1_gateValue_28 : decode cX1_gateValue 28 = .ok (.iload_n 1, 1) := by decide +kernel
theorem dX1_gateValue_29 : decode cX1_gateValue 29 = .ok (.iaload, 1) := by decide +kernel
theorem dX1_gateValue_30 : decode cX1_gateValue 30 = .ok (.ifCond .ne 7, 3) := by decide +kernel
theorem dX1_gateValue_33 : decode cX1_gateValue 33 = .ok (.iload_n 2, 1) := by decide +kernel
theorem dX1_gateValue_34 : decode cX1_gateValue 34 = .ok (.iload_n 3, 1) := by decide +kernel
theorem dX1_gateValue_35 : decode cX1_gateValue 35 = .ok (.iand, 1) := by decide +kernel
theorem dX1_gateValue_36 : decode cX1_gateValue 36 = .ok (.ireturn, 1) := by decide +kernel
theorem dX1_gateValue_37 : decode cX1_gateValue 37 = .ok (.aload_n 0, 1) := by decide +kernel
theorem dX1_gateValue_38 : decode cX1_gateValue 38 = .ok (.getfield 7, 3) := by decide +kernel
theorem dX1_gateValue_41 : decode cX1_gateValue 41 = .ok (.iload_n 1, 1) := by decide +kernel
theorem dX1_gateValue_42 : decode cX1_gateValue 42 = .ok (.iaload, 1) := by decide +kernel
theorem dX1_gateValue_43 : decode cX1_gateValue 43 = .ok (.iconst 1, 1) := by decide +kernel
theorem dX1_gateValue_44 : decode cX1_gateValue 44 = .ok (.if_icmp .ne 7, 3) := by decide +kernel
theorem dX1_gateValue_47 : decode cX1_gateValue 47 = .ok (.iload_n 2, 1) := by decide +kernel
theorem dX1_gateValue_48 : decode cX1_gateValue 48 = .ok (.iload_n 3, 1) := by decide +kernel
theorem dX1_gateValue_49 : decode cX1_gateValue 49 = .ok (.ior, 1) := by decide +kernel
theorem dX1_gateValue_50 : decode cX1_gateValue 50 = .ok (.ireturn, 1) := by decide +kernel
theorem dX1_gateValue_51 : decode cX1_gateValue 51 = .ok (.aload_n 0, 1) := by decide +kernel
theorem dX1_gateValue_52 : decode cX1_gateValue 52 = .ok (.getfield 7, 3) := by decide +kernel
theorem dX1_gateValue_55 : decode cX1_gateValue 55 = .ok (.iload_n 1, 1) := by decide +kernel
theorem dX1_gateValue_56 : decode cX1_gateValue 56 = .ok (.iaload, 1) := by decide +kernel
theorem dX1_gateValue_57 : decode cX1_gateValue 57 = .ok (.iconst 2, 1) := by decide +kernel
theorem dX1_gateValue_58 : decode cX1_gateValue 58 = .ok (.if_icmp .ne 7, 3) := by decide +kernel
theorem dX1_gateValue_61 : decode cX1_gateValue 61 = .ok (.iload_n 2, 1) := by decide +kernel
theorem dX1_gateValue_62 : decode cX1_gateValue 62 = .ok (.iload_n 3, 1) := by decide +kernel
theorem dX1_gateValue_63 : decode cX1_gateValue 63 = .ok (.ixor, 1) := by decide +kernel
theorem dX1_gateValue_64 : decode cX1_gateValue 64 = .ok (.ireturn, 1) := by decide +kernel
theorem dX1_gateValue_65 : decode cX1_gateValue 65 = .ok (.aload_n 0, 1) := by decide +kernel
theorem dX1_gateValue_66 : decode cX1_gateValue 66 = .ok (.getfield 7, 3) := by decide +kernel
theorem dX1_gateValue_69 : decode cX1_gateValue 69 = .ok (.iload_n 1, 1) := by decide +kernel
theorem dX1_gateValue_70 : decode cX1_gateValue 70 = .ok (.iaload, 1) := by decide +kernel
theorem dX1_gateValue_71 : decode cX1_gateValue 71 = .ok (.iconst 3, 1) := by decide +kernel
theorem dX1_gateValue_72 : decode cX1_gateValue 72 = .ok (.if_icmp .ne 9, 3) := by decide +kernel
theorem dX1_gateValue_75 : decode cX1_gateValue 75 = .ok (.iconst 1, 1) := by decide +kernel
theorem dX1_gateValue_76 : decode cX1_gateValue 76 = .ok (.iload_n 2, 1) := by decide +kernel
theorem dX1_gateValue_77 : decode cX1_gateValue 77 = .ok (.iload_n 3, 1) := by decide +kernel
theorem dX1_gateValue_78 : decode cX1_gateValue 78 = .ok (.iand, 1) := by decide +kernel
theorem dX1_gateValue_79 : decode cX1_gateValue 79 = .ok (.isub, 1) := by decide +kernel
theorem dX1_gateValue_80 : decode cX1_gateValue 80 = .ok (.ireturn, 1) := by decide +kernel
theorem dX1_gateValue_81 : decode cX1_gateValue 81 = .ok (.aload_n 0, 1) := by decide +kernel
theorem dX1_gateValue_82 : decode cX1_gateValue 82 = .ok (.getfield 7, 3) := by decide +kernel
theorem dX1_gateValue_85 : decode cX1_gateValue 85 = .ok (.iload_n 1, 1) := by decide +kernel
theorem dX1_gateValue_86 : decode cX1_gateValue 86 = .ok (.iaload, 1) := by decide +kernel
theorem dX1_gateValue_87 : decode cX1_gateValue 87 = .ok (.iconst 4, 1) := by decide +kernel
theorem dX1_gateValue_88 : decode cX1_gateValue 88 = .ok (.if_icmp .ne 9, 3) := by decide +kernel
theorem dX1_gateValue_91 : decode cX1_gateValue 91 = .ok (.iconst 1, 1) := by decide +kernel
theorem dX1_gateValue_92 : decode cX1_gateValue 92 = .ok (.iload_n 2, 1) := by decide +kernel
theorem dX1_gateValue_93 : decode cX1_gateValue 93 = .ok (.iload_n 3, 1) := by decide +kernel
theorem dX1_gateValue_94 : decode cX1_gateValue 94 = .ok (.ior, 1) := by decide +kernel
theorem dX1_gateValue_95 : decode cX1_gateValue 95 = .ok (.isub, 1) := by decide +kernel
theorem dX1_gateValue_96 : decode cX1_gateValue 96 = .ok (.ireturn, 1) := by decide +kernel
theorem dX1_gateValue_97 : decode cX1_gateValue 97 = .ok (.iconst 1, 1) := by decide +kernel
theorem dX1_gateValue_98 : decode cX1_gateValue 98 = .ok (.iload_n 2, 1) := by decide +kernel
theorem dX1_gateValue_99 : decode cX1_gateValue 99 = .ok (.isub, 1) := by decide +kernel
theorem dX1_gateValue_100 : decode cX1_gateValue 100 = .ok (.ireturn, 1) := by decide +kernel
abbrev cX1_forget : ByteArray := prog_3_method_16_code
def yX1_forget : MethodName := ⟨RX1, "forget", "()I"⟩
theorem dX1_forget_0 : decode cX1_forget 0 = .ok (.aload_n 0, 1) := by decide +kernel
theorem dX1_forget_1 : decode cX1_forget 1 = .ok (.getfield 52, 3) := by decide +kernel
theorem dX1_forget_4 : decode cX1_forget 4 = .ok (.istore_n 1, 1) := by decide +kernel
theorem dX1_forget_5 : decode cX1_forget 5 = .ok (.aload_n 0, 1) := by decide +kernel
theorem dX1_forget_6 : decode cX1_forget 6 = .ok (.iconst 0, 1) := by decide +kernel
theorem dX1_forget_7 : decode cX1_forget 7 = .ok (.putfield 52, 3) := by decide +kernel
theorem dX1_forget_10 : decode cX1_forget 10 = .ok (.iload_n 1, 1) := by decide +kernel
theorem dX1_forget_11 : decode cX1_forget 11 = .ok (.ireturn, 1) := by decide +kernel
abbrev cX1_observations : ByteArray := prog_3_method_17_code
def yX1_observations : MethodName := ⟨RX1, "observations", "()I"⟩
theorem dX1_observations_0 : decode cX1_observations 0 = .ok (.aload_n 0, 1) := by decide +kernel
theorem dX1_observations_1 : decode cX1_observations 1 = .ok (.getfield 52, 3) := by decide +kernel
theorem dX1_observations_4 : decode cX1_observations 4 = .ok (.ireturn, 1) := by decide +kernel
abbrev cX1_response : ByteArray := prog_3_method_18_code
def yX1_response : MethodName := ⟨RX1, "response", "(II)I"⟩
theorem dX1_response_0 : decode cX1_response 0 = .ok (.aload_n 0, 1) := by decide +kernel
theorem dX1_response_1 : decode cX1_response 1 = .ok (.iload_n 1, 1) := by decide +kernel
theorem dX1_response_2 : decode cX1_response 2 = .ok (.invokevirtual 66, 3) := by decide +kernel
theorem dX1_response_5 : decode cX1_response 5 = .ok (.ifCond .eq 5, 3) := by decide +kernel
theorem dX1_response_8 : decode cX1_response 8 = .ok (.iconst (-1), 1) := by decide +kernel
theorem dX1_response_9 : decode cX1_response 9 = .ok (.ireturn, 1) := by decide +kernel
theorem dX1_response_10 : decode cX1_response 10 = .ok (.aload_n 0, 1) := by decide +kernel
theorem dX1_response_11 : decode cX1_response 11 = .ok (.iload_n 2, 1) := by decide +kernel
theorem dX1_response_12 : decode cX1_response 12 = .ok (.invokevirtual 69, 3) := by decide +kernel
theorem dX1_response_15 : decode cX1_response 15 = .ok (.ifCond .eq 6, 3) := by decide +kernel
theorem dX1_response_18 : decode cX1_response 18 = .ok (.bipush (-2), 2) := by decide +kernel
theorem dX1_response_20 : decode cX1_response 20 = .ok (.ireturn, 1) := by decide +kernel
theorem dX1_response_21 : decode cX1_response 21 = .ok (.aload_n 0, 1) := by decide +kernel
theorem dX1_response_22 : decode cX1_response 22 = .ok (.iconst (-1), 1) := by decide +kernel
theorem dX1_response_23 : decode cX1_response 23 = .ok (.iload_n 1, 1) := by decide +kernel
theorem dX1_response_24 : decode cX1_response 24 = .ok (.iload_n 2, 1) := by decide +kernel
theorem dX1_response_25 : decode cX1_response 25 = .ok (.invokevirtual 72, 3) := by decide +kernel
theorem dX1_response_28 : decode cX1_response 28 = .ok (.ireturn, 1) := by decide +kernel
end
section
set_option maxRecDepth 100000
abbrev cX1_responseWith : ByteArray := prog_3_method_19_code
def yX1_responseWith : MethodName := ⟨RX1, "responseWith", "(III)I"⟩
theorem dX1_responseWith_0 : decode cX1_responseWith 0 = .ok (.aload_n 0, 1) := by decide +kernel
theorem dX1_responseWith_1 : decode cX1_responseWith 1 = .ok (.iload_n 1, 1) := by decide +kernel
theorem dX1_responseWith_2 : decode cX1_responseWith 2 = .ok (.invokevirtual 63, 3) := by decide +kernel
theorem dX1_responseWith_5 : decode cX1_responseWith 5 = .ok (.ifCond .eq 5, 3) := by decide +kernel
theorem dX1_responseWith_8 : decode cX1_responseWith 8 = .ok (.iconst (-1), 1) := by decide +kernel
theorem dX1_responseWith_9 : decode cX1_responseWith 9 = .ok (.ireturn, 1) := by decide +kernel
theorem dX1_responseWith_10 : decode cX1_responseWith 10 = .ok (.aload_n 0, 1) := by decide +kernel
theorem dX1_responseWith_11 : decode cX1_responseWith 11 = .ok (.iload_n 2, 1) := by decide +kernel
theorem dX1_responseWith_12 : decode cX1_responseWith 12 = .ok (.invokevirtual 66, 3) := by decide +kernel
theorem dX1_responseWith_15 : decode cX1_responseWith 15 = .ok (.ifCond .eq 6, 3) := by decide +kernel
theorem dX1_responseWith_18 : decode cX1_responseWith 18 = .ok (.bipush (-2), 2) := by decide +kernel
theorem dX1_responseWith_20 : decode cX1_responseWith 20 = .ok (.ireturn, 1) := by decide +kernel
theorem dX1_responseWith_21 : decode cX1_responseWith 21 = .ok (.aload_n 0, 1) := by decide +kernel
theorem dX1_responseWith_22 : decode cX1_responseWith 22 = .ok (.iload_n 3, 1) := by decide +kernel
theorem dX1_responseWith_23 : decode cX1_responseWith 23 = .ok (.invokevirtual 69, 3) := by decide +kernel
theorem dX1_responseWith_26 : decode cX1_responseWith 26 = .ok (.ifCond .eq 6, 3) := by decide +kernel
theorem dX1_responseWith_29 : decode cX1_responseWith 29 = .ok (.bipush (-3), 2) := by decide +kernel
theorem dX1_responseWith_31 : decode cX1_responseWith 31 = .ok (.ireturn, 1) := by decide +kernel
theorem dX1_responseWith_32 : decode cX1_responseWith 32 = .ok (.aload_n 0, 1) := by decide +kernel
theorem dX1_responseWith_33 : decode cX1_responseWith 33 = .ok (.iload_n 1, 1) := by decide +kernel
theorem dX1_responseWith_34 : decode cX1_responseWith 34 = .ok (.iload_n 2, 1) := by decide +kernel
theorem dX1_responseWith_35 : decode cX1_responseWith 35 = .ok (.iload_n 3, 1) := by decide +kernel
theorem dX1_responseWith_36 : decode cX1_responseWith 36 = .ok (.invokevirtual 72, 3) := by decide +kernel
theorem dX1_responseWith_39 : decode cX1_responseWith 39 = .ok (.ireturn, 1) := by decide +kernel
abbrev cX1_candidates : ByteArray := prog_3_method_21_code
def yX1_candidates : MethodName := ⟨RX1, "candidates", "()I"⟩
theorem dX1_candidates_0 : decode cX1_candidates 0 = .ok (.iconst 0, 1) := by decide +kernel
theorem dX1_candidates_1 : decode cX1_candidates 1 = .ok (.istore_n 1, 1) := by decide +kernel
theorem dX1_candidates_2 : decode cX1_candidates 2 = .ok (.iconst 0, 1) := by decide +kernel
theorem dX1_candidates_3 : decode cX1_candidates 3 = .ok (.istore_n 2, 1) := by decide +kernel
theorem dX1_candidates_4 : decode cX1_candidates 4 = .ok (.iload_n 2, 1) := by decide +kernel
theorem dX1_candidates_5 : decode cX1_candidates 5 = .ok (.iconst 2, 1) := by decide +kernel
theorem dX1_candidates_6 : decode cX1_candidates 6 = .ok (.aload_n 0, 1) := by decide +kernel
theorem dX1_candidates_7 : decode cX1_candidates 7 = .ok (.invokevirtual 44, 3) := by decide +kernel
theorem dX1_candidates_10 : decode cX1_candidates 10 = .ok (.imul, 1) := by decide +kernel
theorem dX1_candidates_11 : decode cX1_candidates 11 = .ok (.if_icmp .ge 20, 3) := by decide +kernel
theorem dX1_candidates_14 : decode cX1_candidates 14 = .ok (.aload_n 0, 1) := by decide +kernel
theorem dX1_candidates_15 : decode cX1_candidates 15 = .ok (.iload_n 2, 1) := by decide +kernel
theorem dX1_candidates_16 : decode cX1_candidates 16 = .ok (.invokevirtual 76, 3) := by decide +kernel
theorem dX1_candidates_19 : decode cX1_candidates 19 = .ok (.ifCond .eq 6, 3) := by decide +kernel
theorem dX1_candidates_22 : decode cX1_candidates 22 = .ok (.iinc 1 1, 3) := by decide +kernel
theorem dX1_candidates_25 : decode cX1_candidates 25 = .ok (.iinc 2 1, 3) := by decide +kernel
theorem dX1_candidates_28 : decode cX1_candidates 28 = .ok (.goto (-24), 3) := by decide +kernel
theorem dX1_candidates_31 : decode cX1_candidates 31 = .ok (.iload_n 1, 1) := by decide +kernel
theorem dX1_candidates_32 : decode cX1_candidates 32 = .ok (.ireturn, 1) := by decide +kernel
abbrev cX1_explains : ByteArray := prog_3_method_20_code
def yX1_explains : MethodName := ⟨RX1, "explains", "(I)Z"⟩
theorem dX1_explains_0 : decode cX1_explains 0 = .ok (.iconst 0, 1) := by decide +kernel
theorem dX1_explains_1 : decode cX1_explains 1 = .ok (.istore_n 2, 1) := by decide +kernel
theorem dX1_explains_2 : decode cX1_explains 2 = .ok (.iload_n 2, 1) := by decide +kernel
theorem dX1_explains_3 : decode cX1_explains 3 = .ok (.aload_n 0, 1) := by decide +kernel
theorem dX1_explains_4 : decode cX1_explains 4 = .ok (.getfield 52, 3) := by decide +kernel
theorem dX1_explains_7 : decode cX1_explains 7 = .ok (.if_icmp .ge 45, 3) := by decide +kernel
theorem dX1_explains_10 : decode cX1_explains 10 = .ok (.iload_n 2, 1) := by decide +kernel
theorem dX1_explains_11 : decode cX1_explains 11 = .ok (.bipush 20, 2) := by decide +kernel
theorem dX1_explains_13 : decode cX1_explains 13 = .ok (.if_icmp .ge 39, 3) := by decide +kernel
theorem dX1_explains_16 : decode cX1_explains 16 = .ok (.aload_n 0, 1) := by decide +kernel
theorem dX1_explains_17 : decode cX1_explains 17 = .ok (.iload_n 1, 1) := by decide +kernel
theorem dX1_explains_18 : decode cX1_explains 18 = .ok (.aload_n 0, 1) := by decide +kernel
theorem dX1_explains_19 : decode cX1_explains 19 = .ok (.getfield 29, 3) := by decide +kernel
theorem dX1_explains_22 : decode cX1_explains 22 = .ok (.iload_n 2, 1) := by decide +kernel
theorem dX1_explains_23 : decode cX1_explains 23 = .ok (.iaload, 1) := by decide +kernel
theorem dX1_explains_24 : decode cX1_explains 24 = .ok (.aload_n 0, 1) := by decide +kernel
theorem dX1_explains_25 : decode cX1_explains 25 = .ok (.getfield 32, 3) := by decide +kernel
theorem dX1_explains_28 : decode cX1_explains 28 = .ok (.iload_n 2, 1) := by decide +kernel
theorem dX1_explains_29 : decode cX1_explains 29 = .ok (.iaload, 1) := by decide +kernel
theorem dX1_explains_30 : decode cX1_explains 30 = .ok (.invokevirtual 72, 3) := by decide +kernel
theorem dX1_explains_33 : decode cX1_explains 33 = .ok (.istore_n 3, 1) := by decide +kernel
theorem dX1_explains_34 : decode cX1_explains 34 = .ok (.iload_n 3, 1) := by decide +kernel
theorem dX1_explains_35 : decode cX1_explains 35 = .ok (.aload_n 0, 1) := by decide +kernel
theorem dX1_explains_36 : decode cX1_explains 36 = .ok (.getfield 35, 3) := by decide +kernel
theorem dX1_explains_39 : decode cX1_explains 39 = .ok (.iload_n 2, 1) := by decide +kernel
theorem dX1_explains_40 : decode cX1_explains 40 = .ok (.iaload, 1) := by decide +kernel
theorem dX1_explains_41 : decode cX1_explains 41 = .ok (.if_icmp .eq 5, 3) := by decide +kernel
theorem dX1_explains_44 : decode cX1_explains 44 = .ok (.iconst 0, 1) := by decide +kernel
theorem dX1_explains_45 : decode cX1_explains 45 = .ok (.ireturn, 1) := by decide +kernel
theorem dX1_explains_46 : decode cX1_explains 46 = .ok (.iinc 2 1, 3) := by decide +kernel
theorem dX1_explains_49 : decode cX1_explains 49 = .ok (.goto (-47), 3) := by decide +kernel
theorem dX1_explains_52 : decode cX1_explains 52 = .ok (.iconst 1, 1) := by decide +kernel
theorem dX1_explains_53 : decode cX1_explains 53 = .ok (.ireturn, 1) := by decide +kernel
abbrev cX1_candidate : ByteArray := prog_3_method_22_code
def yX1_candidate : MethodName := ⟨RX1, "candidate", "(I)I"⟩
theorem dX1_candidate_0 : decode cX1_candidate 0 = .ok (.iconst 0, 1) := by decide +kernel
theorem dX1_candidate_1 : decode cX1_candidate 1 = .ok (.istore_n 2, 1) := by decide +kernel
theorem dX1_candidate_2 : decode cX1_candidate 2 = .ok (.iconst 0, 1) := by decide +kernel
theorem dX1_candidate_3 : decode cX1_candidate 3 = .ok (.istore_n 3, 1) := by decide +kernel
theorem dX1_candidate_4 : decode cX1_candidate 4 = .ok (.iload_n 3, 1) := by decide +kernel
theorem dX1_candidate_5 : decode cX1_candidate 5 = .ok (.iconst 2, 1) := by decide +kernel
theorem dX1_candidate_6 : decode cX1_candidate 6 = .ok (.aload_n 0, 1) := by decide +kernel
theorem dX1_candidate_7 : decode cX1_candidate 7 = .ok (.invokevirtual 44, 3) := by decide +kernel
theorem dX1_candidate_10 : decode cX1_candidate 10 = .ok (.imul, 1) := by decide +kernel
theorem dX1_candidate_11 : decode cX1_candidate 11 = .ok (.if_icmp .ge 27, 3) := by decide +kernel
theorem dX1_candidate_14 : decode cX1_candidate 14 = .ok (.aload_n 0, 1) := by decide +kernel
theorem dX1_candidate_15 : decode cX1_candidate 15 = .ok (.iload_n 3, 1) := by decide +kernel
theorem dX1_candidate_16 : decode cX1_candidate 16 = .ok (.invokevirtual 76, 3) := by decide +kernel
theorem dX1_candidate_19 : decode cX1_candidate 19 = .ok (.ifCond .eq 13, 3) := by decide +kernel
theorem dX1_candidate_22 : decode cX1_candidate 22 = .ok (.iload_n 2, 1) := by decide +kernel
theorem dX1_candidate_23 : decode cX1_candidate 23 = .ok (.iload_n 1, 1) := by decide +kernel
theorem dX1_candidate_24 : decode cX1_candidate 24 = .ok (.if_icmp .ne 5, 3) := by decide +kernel
theorem dX1_candidate_27 : decode cX1_candidate 27 = .ok (.iload_n 3, 1) := by decide +kernel
theorem dX1_candidate_28 : decode cX1_candidate 28 = .ok (.ireturn, 1) := by decide +kernel
theorem dX1_candidate_29 : decode cX1_candidate 29 = .ok (.iinc 2 1, 3) := by decide +kernel
theorem dX1_candidate_32 : decode cX1_candidate 32 = .ok (.iinc 3 1, 3) := by decide +kernel
theorem dX1_candidate_35 : decode cX1_candidate 35 = .ok (.goto (-31), 3) := by decide +kernel
theorem dX1_candidate_38 : decode cX1_candidate 38 = .ok (.iconst (-1), 1) := by decide +kernel
theorem dX1_candidate_39 : decode cX1_candidate 39 = .ok (.ireturn, 1) := by decide +kernel
abbrev cX1_healthy : ByteArray := prog_3_method_23_code
def yX1_healthy : MethodName := ⟨RX1, "healthy", "()I"⟩
theorem dX1_healthy_0 : decode cX1_healthy 0 = .ok (.aload_n 0, 1) := by decide +kernel
theorem dX1_healthy_1 : decode cX1_healthy 1 = .ok (.iconst (-1), 1) := by decide +kernel
theorem dX1_healthy_2 : decode cX1_healthy 2 = .ok (.invokevirtual 76, 3) := by decide +kernel
theorem dX1_healthy_5 : decode cX1_healthy 5 = .ok (.ifCond .eq 7, 3) := by decide +kernel
theorem dX1_healthy_8 : decode cX1_healthy 8 = .ok (.iconst 1, 1) := by decide +kernel
theorem dX1_healthy_9 : decode cX1_healthy 9 = .ok (.goto 4, 3) := by decide +kernel
theorem dX1_healthy_12 : decode cX1_healthy 12 = .ok (.iconst 0, 1) := by decide +kernel
theorem dX1_healthy_13 : decode cX1_healthy 13 = .ok (.ireturn, 1) := by decide +kernel
abbrev cX1_nextPattern : ByteArray := prog_3_method_24_code
def yX1_nextPattern : MethodName := ⟨RX1, "nextPattern", "()I"⟩
theorem dX1_nextPattern_0 : decode cX1_nextPattern 0 = .ok (.iconst 0, 1) := by decide +kernel
theorem dX1_nextPattern_1 : decode cX1_nextPattern 1 = .ok (.istore_n 1, 1) := by decide +kernel
theorem dX1_nextPattern_2 : decode cX1_nextPattern 2 = .ok (.iload_n 1, 1) := by decide +kernel
theorem dX1_nextPattern_3 : decode cX1_nextPattern 3 = .ok (.sipush 128, 3) := by decide +kernel
theorem dX1_nextPattern_6 : decode cX1_nextPattern 6 = .ok (.if_icmp .ge 61, 3) := by decide +kernel
theorem dX1_nextPattern_9 : decode cX1_nextPattern 9 = .ok (.iconst (-1), 1) := by decide +kernel
theorem dX1_nextPattern_10 : decode cX1_nextPattern 10 = .ok (.istore_n 2, 1) := by decide +kernel
theorem dX1_nextPattern_11 : decode cX1_nextPattern 11 = .ok (.iconst 0, 1) := by decide +kernel
theorem dX1_nextPattern_12 : decode cX1_nextPattern 12 = .ok (.istore_n 3, 1) := by decide +kernel
theorem dX1_nextPattern_13 : decode cX1_nextPattern 13 = .ok (.iload_n 3, 1) := by decide +kernel
theorem dX1_nextPattern_14 : decode cX1_nextPattern 14 = .ok (.iconst 2, 1) := by decide +kernel
theorem dX1_nextPattern_15 : decode cX1_nextPattern 15 = .ok (.aload_n 0, 1) := by decide +kernel
theorem dX1_nextPattern_16 : decode cX1_nextPattern 16 = .ok (.invokevirtual 44, 3) := by decide +kernel
theorem dX1_nextPattern_19 : decode cX1_nextPattern 19 = .ok (.imul, 1) := by decide +kernel
theorem dX1_nextPattern_20 : decode cX1_nextPattern 20 = .ok (.if_icmp .ge 41, 3) := by decide +kernel
theorem dX1_nextPattern_23 : decode cX1_nextPattern 23 = .ok (.aload_n 0, 1) := by decide +kernel
theorem dX1_nextPattern_24 : decode cX1_nextPattern 24 = .ok (.iload_n 3, 1) := by decide +kernel
theorem dX1_nextPattern_25 : decode cX1_nextPattern 25 = .ok (.invokevirtual 76, 3) := by decide +kernel
theorem dX1_nextPattern_28 : decode cX1_nextPattern 28 = .ok (.ifCond .eq 27, 3) := by decide +kernel
theorem dX1_nextPattern_31 : decode cX1_nextPattern 31 = .ok (.aload_n 0, 1) := by decide +kernel
theorem dX1_nextPattern_32 : decode cX1_nextPattern 32 = .ok (.iload_n 3, 1) := by decide +kernel
theorem dX1_nextPattern_33 : decode cX1_nextPattern 33 = .ok (.iload_n 1, 1) := by decide +kernel
theorem dX1_nextPattern_34 : decode cX1_nextPattern 34 = .ok (.iconst 1, 1) := by decide +kernel
theorem dX1_nextPattern_35 : decode cX1_nextPattern 35 = .ok (.invokevirtual 72, 3) := by decide +kernel
theorem dX1_nextPattern_38 : decode cX1_nextPattern 38 = .ok (.istore 4, 2) := by decide +kernel
theorem dX1_nextPattern_40 : decode cX1_nextPattern 40 = .ok (.iload_n 2, 1) := by decide +kernel
theorem dX1_nextPattern_41 : decode cX1_nextPattern 41 = .ok (.ifCond .lt 11, 3) := by decide +kernel
theorem dX1_nextPattern_44 : decode cX1_nextPattern 44 = .ok (.iload 4, 2) := by decide +kernel
theorem dX1_nextPattern_46 : decode cX1_nextPattern 46 = .ok (.iload_n 2, 1) := by decide +kernel
theorem dX1_nextPattern_47 : decode cX1_nextPattern 47 = .ok (.if_icmp .eq 5, 3) := by decide +kernel
theorem dX1_nextPattern_50 : decode cX1_nextPattern 50 = .ok (.iload_n 1, 1) := by decide +kernel
theorem dX1_nextPattern_51 : decode cX1_nextPattern 51 = .ok (.ireturn, 1) := by decide +kernel
theorem dX1_nextPattern_52 : decode cX1_nextPattern 52 = .ok (.iload 4, 2) := by decide +kernel
theorem dX1_nextPattern_54 : decode cX1_nextPattern 54 = .ok (.istore_n 2, 1) := by decide +kernel
theorem dX1_nextPattern_55 : decode cX1_nextPattern 55 = .ok (.iinc 3 1, 3) := by decide +kernel
theorem dX1_nextPattern_58 : decode cX1_nextPattern 58 = .ok (.goto (-45), 3) := by decide +kernel
theorem dX1_nextPattern_61 : decode cX1_nextPattern 61 = .ok (.iinc 1 1, 3) := by decide +kernel
theorem dX1_nextPattern_64 : decode cX1_nextPattern 64 = .ok (.goto (-62), 3) := by decide +kernel
theorem dX1_nextPattern_67 : decode cX1_nextPattern 67 = .ok (.iconst (-1), 1) := by decide +kernel
theorem dX1_nextPattern_68 : decode cX1_nextPattern 68 = .ok (.ireturn, 1) := by decide +kernel
abbrev cX1_detected : ByteArray := prog_3_method_25_code
def yX1_detected : MethodName := ⟨RX1, "detected", "(II)I"⟩
theorem dX1_detected_0 : decode cX1_detected 0 = .ok (.aload_n 0, 1) := by decide +kernel
theorem dX1_detected_1 : decode cX1_detected 1 = .ok (.iload_n 1, 1) := by decide +kernel
theorem dX1_detected_2 : decode cX1_detected 2 = .ok (.invokevirtual 66, 3) := by decide +kernel
theorem dX1_detected_5 : decode cX1_detected 5 = .ok (.ifCond .eq 5, 3) := by decide +kernel
theorem dX1_detected_8 : decode cX1_detected 8 = .ok (.iconst (-1), 1) := by decide +kernel
theorem dX1_detected_9 : decode cX1_detected 9 = .ok (.ireturn, 1) := by decide +kernel
theorem dX1_detected_10 : decode cX1_detected 10 = .ok (.aload_n 0, 1) := by decide +kernel
theorem dX1_detected_11 : decode cX1_detected 11 = .ok (.iload_n 2, 1) := by decide +kernel
theorem dX1_detected_12 : decode cX1_detected 12 = .ok (.invokevirtual 69, 3) := by decide +kernel
theorem dX1_detected_15 : decode cX1_detected 15 = .ok (.ifCond .eq 6, 3) := by decide +kernel
theorem dX1_detected_18 : decode cX1_detected 18 = .ok (.bipush (-2), 2) := by decide +kernel
theorem dX1_detected_20 : decode cX1_detected 20 = .ok (.ireturn, 1) := by decide +kernel
theorem dX1_detected_21 : decode cX1_detected 21 = .ok (.aload_n 0, 1) := by decide +kernel
theorem dX1_detected_22 : decode cX1_detected 22 = .ok (.iconst (-1), 1) := by decide +kernel
theorem dX1_detected_23 : decode cX1_detected 23 = .ok (.iload_n 1, 1) := by decide +kernel
theorem dX1_detected_24 : decode cX1_detected 24 = .ok (.iload_n 2, 1) := by decide +kernel
theorem dX1_detected_25 : decode cX1_detected 25 = .ok (.invokevirtual 72, 3) := by decide +kernel
theorem dX1_detected_28 : decode cX1_detected 28 = .ok (.istore_n 3, 1) := by decide +kernel
theorem dX1_detected_29 : decode cX1_detected 29 = .ok (.iconst 0, 1) := by decide +kernel
theorem dX1_detected_30 : decode cX1_detected 30 = .ok (.istore 4, 2) := by decide +kernel
theorem dX1_detected_32 : decode cX1_detected 32 = .ok (.iconst 0, 1) := by decide +kernel
theorem dX1_detected_33 : decode cX1_detected 33 = .ok (.istore 5, 2) := by decide +kernel
theorem dX1_detected_35 : decode cX1_detected 35 = .ok (.iload 5, 2) := by decide +kernel
theorem dX1_detected_37 : decode cX1_detected 37 = .ok (.iconst 2, 1) := by decide +kernel
theorem dX1_detected_38 : decode cX1_detected 38 = .ok (.aload_n 0, 1) := by decide +kernel
theorem dX1_detected_39 : decode cX1_detected 39 = .ok (.invokevirtual 44, 3) := by decide +kernel
theorem dX1_detected_42 : decode cX1_detected 42 = .ok (.imul, 1) := by decide +kernel
theorem dX1_detected_43 : decode cX1_detected 43 = .ok (.if_icmp .ge 28, 3) := by decide +kernel
theorem dX1_detected_46 : decode cX1_detected 46 = .ok (.aload_n 0, 1) := by decide +kernel
theorem dX1_detected_47 : decode cX1_detected 47 = .ok (.iload 5, 2) := by decide +kernel
theorem dX1_detected_49 : decode cX1_detected 49 = .ok (.iload_n 1, 1) := by decide +kernel
theorem dX1_detected_50 : decode cX1_detected 50 = .ok (.iload_n 2, 1) := by decide +kernel
theorem dX1_detected_51 : decode cX1_detected 51 = .ok (.invokevirtual 72, 3) := by decide +kernel
theorem dX1_detected_54 : decode cX1_detected 54 = .ok (.istore 6, 2) := by decide +kernel
theorem dX1_detected_56 : decode cX1_detected 56 = .ok (.iload 6, 2) := by decide +kernel
theorem dX1_detected_58 : decode cX1_detected 58 = .ok (.iload_n 3, 1) := by decide +kernel
theorem dX1_detected_59 : decode cX1_detected 59 = .ok (.if_icmp .eq 6, 3) := by decide +kernel
theorem dX1_detected_62 : decode cX1_detected 62 = .ok (.iinc 4 1, 3) := by decide +kernel
theorem dX1_detected_65 : decode cX1_detected 65 = .ok (.iinc 5 1, 3) := by decide +kernel
theorem dX1_detected_68 : decode cX1_detected 68 = .ok (.goto (-33), 3) := by decide +kernel
theorem dX1_detected_71 : decode cX1_detected 71 = .ok (.iload 4, 2) := by decide +kernel
theorem dX1_detected_73 : decode cX1_detected 73 = .ok (.ireturn, 1) := by decide +kernel
abbrev cX1_hidden : ByteArray := prog_3_method_27_code
def yX1_hidden : MethodName := ⟨RX1, "hidden", "()I"⟩
theorem dX1_hidden_0 : decode cX1_hidden 0 = .ok (.iconst 0, 1) := by decide +kernel
theorem dX1_hidden_1 : decode cX1_hidden 1 = .ok (.istore_n 1, 1) := by decide +kernel
theorem dX1_hidden_2 : decode cX1_hidden 2 = .ok (.iconst 0, 1) := by decide +kernel
theorem dX1_hidden_3 : decode cX1_hidden 3 = .ok (.istore_n 2, 1) := by decide +kernel
theorem dX1_hidden_4 : decode cX1_hidden 4 = .ok (.iload_n 2, 1) := by decide +kernel
theorem dX1_hidden_5 : decode cX1_hidden 5 = .ok (.iconst 2, 1) := by decide +kernel
theorem dX1_hidden_6 : decode cX1_hidden 6 = .ok (.aload_n 0, 1) := by decide +kernel
theorem dX1_hidden_7 : decode cX1_hidden 7 = .ok (.invokevirtual 44, 3) := by decide +kernel
theorem dX1_hidden_10 : decode cX1_hidden 10 = .ok (.imul, 1) := by decide +kernel
theorem dX1_hidden_11 : decode cX1_hidden 11 = .ok (.if_icmp .ge 21, 3) := by decide +kernel
theorem dX1_hidden_14 : decode cX1_hidden 14 = .ok (.aload_n 0, 1) := by decide +kernel
theorem dX1_hidden_15 : decode cX1_hidden 15 = .ok (.iload_n 2, 1) := by decide +kernel
theorem dX1_hidden_16 : decode cX1_hidden 16 = .ok (.iconst (-1), 1) := by decide +kernel
theorem dX1_hidden_17 : decode cX1_hidden 17 = .ok (.invokevirtual 79, 3) := by decide +kernel
theorem dX1_hidden_20 : decode cX1_hidden 20 = .ok (.ifCond .eq 6, 3) := by decide +kernel
theorem dX1_hidden_23 : decode cX1_hidden 23 = .ok (.iinc 1 1, 3) := by decide +kernel
theorem dX1_hidden_26 : decode cX1_hidden 26 = .ok (.iinc 2 1, 3) := by decide +kernel
theorem dX1_hidden_29 : decode cX1_hidden 29 = .ok (.goto (-25), 3) := by decide +kernel
theorem dX1_hidden_32 : decode cX1_hidden 32 = .ok (.iload_n 1, 1) := by decide +kernel
theorem dX1_hidden_33 : decode cX1_hidden 33 = .ok (.ireturn, 1) := by decide +kernel
abbrev cX1_alike : ByteArray := prog_3_method_26_code
def yX1_alike : MethodName := ⟨RX1, "alike", "(II)Z"⟩
theorem dX1_alike_0 : decode cX1_alike 0 = .ok (.iconst 0, 1) := by decide +kernel
theorem dX1_alike_1 : decode cX1_alike 1 = .ok (.istore_n 3, 1) := by decide +kernel
theorem dX1_alike_2 : decode cX1_alike 2 = .ok (.iload_n 3, 1) := by decide +kernel
theorem dX1_alike_3 : decode cX1_alike 3 = .ok (.sipush 128, 3) := by decide +kernel
theorem dX1_alike_6 : decode cX1_alike 6 = .ok (.if_icmp .ge 36, 3) := by decide +kernel
theorem dX1_alike_9 : decode cX1_alike 9 = .ok (.aload_n 0, 1) := by decide +kernel
theorem dX1_alike_10 : decode cX1_alike 10 = .ok (.iload_n 1, 1) := by decide +kernel
theorem dX1_alike_11 : decode cX1_alike 11 = .ok (.iload_n 3, 1) := by decide +kernel
theorem dX1_alike_12 : decode cX1_alike 12 = .ok (.iconst 1, 1) := by decide +kernel
theorem dX1_alike_13 : decode cX1_alike 13 = .ok (.invokevirtual 72, 3) := by decide +kernel
theorem dX1_alike_16 : decode cX1_alike 16 = .ok (.istore 4, 2) := by decide +kernel
theorem dX1_alike_18 : decode cX1_alike 18 = .ok (.aload_n 0, 1) := by decide +kernel
theorem dX1_alike_19 : decode cX1_alike 19 = .ok (.iload_n 2, 1) := by decide +kernel
theorem dX1_alike_20 : decode cX1_alike 20 = .ok (.iload_n 3, 1) := by decide +kernel
theorem dX1_alike_21 : decode cX1_alike 21 = .ok (.iconst 1, 1) := by decide +kernel
theorem dX1_alike_22 : decode cX1_alike 22 = .ok (.invokevirtual 72, 3) := by decide +kernel
theorem dX1_alike_25 : decode cX1_alike 25 = .ok (.istore 5, 2) := by decide +kernel
theorem dX1_alike_27 : decode cX1_alike 27 = .ok (.iload 4, 2) := by decide +kernel
theorem dX1_alike_29 : decode cX1_alike 29 = .ok (.iload 5, 2) := by decide +kernel
theorem dX1_alike_31 : decode cX1_alike 31 = .ok (.if_icmp .eq 5, 3) := by decide +kernel
theorem dX1_alike_34 : decode cX1_alike 34 = .ok (.iconst 0, 1) := by decide +kernel
theorem dX1_alike_35 : decode cX1_alike 35 = .ok (.ireturn, 1) := by decide +kernel
theorem dX1_alike_36 : decode cX1_alike 36 = .ok (.iinc 3 1, 3) := by decide +kernel
theorem dX1_alike_39 : decode cX1_alike 39 = .ok (.goto (-37), 3) := by decide +kernel
theorem dX1_alike_42 : decode cX1_alike 42 = .ok (.iconst 1, 1) := by decide +kernel
theorem dX1_alike_43 : decode cX1_alike 43 = .ok (.ireturn, 1) := by decide +kernel
abbrev cX1_leader : ByteArray := prog_3_method_29_code
def yX1_leader : MethodName := ⟨RX1, "leader", "(I)I"⟩
theorem dX1_leader_0 : decode cX1_leader 0 = .ok (.aload_n 0, 1) := by decide +kernel
theorem dX1_leader_1 : decode cX1_leader 1 = .ok (.iload_n 1, 1) := by decide +kernel
theorem dX1_leader_2 : decode cX1_leader 2 = .ok (.invokevirtual 63, 3) := by decide +kernel
theorem dX1_leader_5 : decode cX1_leader 5 = .ok (.ifCond .eq 7, 3) := by decide +kernel
theorem dX1_leader_8 : decode cX1_leader 8 = .ok (.iconst (-1), 1) := by decide +kernel
theorem dX1_leader_9 : decode cX1_leader 9 = .ok (.goto 8, 3) := by decide +kernel
theorem dX1_leader_12 : decode cX1_leader 12 = .ok (.aload_n 0, 1) := by decide +kernel
theorem dX1_leader_13 : decode cX1_leader 13 = .ok (.iload_n 1, 1) := by decide +kernel
theorem dX1_leader_14 : decode cX1_leader 14 = .ok (.invokevirtual 83, 3) := by decide +kernel
theorem dX1_leader_17 : decode cX1_leader 17 = .ok (.ireturn, 1) := by decide +kernel
end
section
set_option maxRecDepth 100000
abbrev cX1_earliest : ByteArray := prog_3_method_28_code
def yX1_earliest : MethodName := ⟨RX1, "earliest", "(I)I"⟩
theorem dX1_earliest_0 : decode cX1_earliest 0 = .ok (.iconst 0, 1) := by decide +kernel
theorem dX1_earliest_1 : decode cX1_earliest 1 = .ok (.istore_n 2, 1) := by decide +kernel
theorem dX1_earliest_2 : decode cX1_earliest 2 = .ok (.iload_n 2, 1) := by decide +kernel
theorem dX1_earliest_3 : decode cX1_earliest 3 = .ok (.iload_n 1, 1) := by decide +kernel
theorem dX1_earliest_4 : decode cX1_earliest 4 = .ok (.if_icmp .ge 20, 3) := by decide +kernel
theorem dX1_earliest_7 : decode cX1_earliest 7 = .ok (.aload_n 0, 1) := by decide +kernel
theorem dX1_earliest_8 : decode cX1_earliest 8 = .ok (.iload_n 2, 1) := by decide +kernel
theorem dX1_earliest_9 : decode cX1_earliest 9 = .ok (.iload_n 1, 1) := by decide +kernel
theorem dX1_earliest_10 : decode cX1_earliest 10 = .ok (.invokevirtual 79, 3) := by decide +kernel
theorem dX1_earliest_13 : decode cX1_earliest 13 = .ok (.ifCond .eq 5, 3) := by decide +kernel
theorem dX1_earliest_16 : decode cX1_earliest 16 = .ok (.iload_n 2, 1) := by decide +kernel
theorem dX1_earliest_17 : decode cX1_earliest 17 = .ok (.ireturn, 1) := by decide +kernel
theorem dX1_earliest_18 : decode cX1_earliest 18 = .ok (.iinc 2 1, 3) := by decide +kernel
theorem dX1_earliest_21 : decode cX1_earliest 21 = .ok (.goto (-19), 3) := by decide +kernel
theorem dX1_earliest_24 : decode cX1_earliest 24 = .ok (.iload_n 1, 1) := by decide +kernel
theorem dX1_earliest_25 : decode cX1_earliest 25 = .ok (.ireturn, 1) := by decide +kernel
abbrev cX1_groups : ByteArray := prog_3_method_30_code
def yX1_groups : MethodName := ⟨RX1, "groups", "()I"⟩
theorem dX1_groups_0 : decode cX1_groups 0 = .ok (.iconst 0, 1) := by decide +kernel
theorem dX1_groups_1 : decode cX1_groups 1 = .ok (.istore_n 1, 1) := by decide +kernel
theorem dX1_groups_2 : decode cX1_groups 2 = .ok (.iconst 0, 1) := by decide +kernel
theorem dX1_groups_3 : decode cX1_groups 3 = .ok (.istore_n 2, 1) := by decide +kernel
theorem dX1_groups_4 : decode cX1_groups 4 = .ok (.iload_n 2, 1) := by decide +kernel
theorem dX1_groups_5 : decode cX1_groups 5 = .ok (.iconst 2, 1) := by decide +kernel
theorem dX1_groups_6 : decode cX1_groups 6 = .ok (.aload_n 0, 1) := by decide +kernel
theorem dX1_groups_7 : decode cX1_groups 7 = .ok (.invokevirtual 44, 3) := by decide +kernel
theorem dX1_groups_10 : decode cX1_groups 10 = .ok (.imul, 1) := by decide +kernel
theorem dX1_groups_11 : decode cX1_groups 11 = .ok (.if_icmp .ge 21, 3) := by decide +kernel
theorem dX1_groups_14 : decode cX1_groups 14 = .ok (.aload_n 0, 1) := by decide +kernel
theorem dX1_groups_15 : decode cX1_groups 15 = .ok (.iload_n 2, 1) := by decide +kernel
theorem dX1_groups_16 : decode cX1_groups 16 = .ok (.invokevirtual 83, 3) := by decide +kernel
theorem dX1_groups_19 : decode cX1_groups 19 = .ok (.iload_n 2, 1) := by decide +kernel
theorem dX1_groups_20 : decode cX1_groups 20 = .ok (.if_icmp .ne 6, 3) := by decide +kernel
theorem dX1_groups_23 : decode cX1_groups 23 = .ok (.iinc 1 1, 3) := by decide +kernel
theorem dX1_groups_26 : decode cX1_groups 26 = .ok (.iinc 2 1, 3) := by decide +kernel
theorem dX1_groups_29 : decode cX1_groups 29 = .ok (.goto (-25), 3) := by decide +kernel
theorem dX1_groups_32 : decode cX1_groups 32 = .ok (.iload_n 1, 1) := by decide +kernel
theorem dX1_groups_33 : decode cX1_groups 33 = .ok (.ireturn, 1) := by decide +kernel
abbrev cX1_candidateGroups : ByteArray := prog_3_method_32_code
def yX1_candidateGroups : MethodName := ⟨RX1, "candidateGroups", "()I"⟩
theorem dX1_candidateGroups_0 : decode cX1_candidateGroups 0 = .ok (.iconst 0, 1) := by decide +kernel
theorem dX1_candidateGroups_1 : decode cX1_candidateGroups 1 = .ok (.istore_n 1, 1) := by decide +kernel
theorem dX1_candidateGroups_2 : decode cX1_candidateGroups 2 = .ok (.iconst 0, 1) := by decide +kernel
theorem dX1_candidateGroups_3 : decode cX1_candidateGroups 3 = .ok (.istore_n 2, 1) := by decide +kernel
theorem dX1_candidateGroups_4 : decode cX1_candidateGroups 4 = .ok (.iload_n 2, 1) := by decide +kernel
theorem dX1_candidateGroups_5 : decode cX1_candidateGroups 5 = .ok (.iconst 2, 1) := by decide +kernel
theorem dX1_candidateGroups_6 : decode cX1_candidateGroups 6 = .ok (.aload_n 0, 1) := by decide +kernel
theorem dX1_candidateGroups_7 : decode cX1_candidateGroups 7 = .ok (.invokevirtual 44, 3) := by decide +kernel
theorem dX1_candidateGroups_10 : decode cX1_candidateGroups 10 = .ok (.imul, 1) := by decide +kernel
theorem dX1_candidateGroups_11 : decode cX1_candidateGroups 11 = .ok (.if_icmp .ge 29, 3) := by decide +kernel
theorem dX1_candidateGroups_14 : decode cX1_candidateGroups 14 = .ok (.aload_n 0, 1) := by decide +kernel
theorem dX1_candidateGroups_15 : decode cX1_candidateGroups 15 = .ok (.iload_n 2, 1) := by decide +kernel
theorem dX1_candidateGroups_16 : decode cX1_candidateGroups 16 = .ok (.invokevirtual 83, 3) := by decide +kernel
theorem dX1_candidateGroups_19 : decode cX1_candidateGroups 19 = .ok (.iload_n 2, 1) := by decide +kernel
theorem dX1_candidateGroups_20 : decode cX1_candidateGroups 20 = .ok (.if_icmp .ne 14, 3) := by decide +kernel
theorem dX1_candidateGroups_23 : decode cX1_candidateGroups 23 = .ok (.aload_n 0, 1) := by decide +kernel
theorem dX1_candidateGroups_24 : decode cX1_candidateGroups 24 = .ok (.iload_n 2, 1) := by decide +kernel
theorem dX1_candidateGroups_25 : decode cX1_candidateGroups 25 = .ok (.invokevirtual 86, 3) := by decide +kernel
theorem dX1_candidateGroups_28 : decode cX1_candidateGroups 28 = .ok (.ifCond .eq 6, 3) := by decide +kernel
theorem dX1_candidateGroups_31 : decode cX1_candidateGroups 31 = .ok (.iinc 1 1, 3) := by decide +kernel
theorem dX1_candidateGroups_34 : decode cX1_candidateGroups 34 = .ok (.iinc 2 1, 3) := by decide +kernel
theorem dX1_candidateGroups_37 : decode cX1_candidateGroups 37 = .ok (.goto (-33), 3) := by decide +kernel
theorem dX1_candidateGroups_40 : decode cX1_candidateGroups 40 = .ok (.iload_n 1, 1) := by decide +kernel
theorem dX1_candidateGroups_41 : decode cX1_candidateGroups 41 = .ok (.ireturn, 1) := by decide +kernel
abbrev cX1_possible : ByteArray := prog_3_method_31_code
def yX1_possible : MethodName := ⟨RX1, "possible", "(I)Z"⟩
theorem dX1_possible_0 : decode cX1_possible 0 = .ok (.iload_n 1, 1) := by decide +kernel
theorem dX1_possible_1 : decode cX1_possible 1 = .ok (.istore_n 2, 1) := by decide +kernel
theorem dX1_possible_2 : decode cX1_possible 2 = .ok (.iload_n 2, 1) := by decide +kernel
theorem dX1_possible_3 : decode cX1_possible 3 = .ok (.iconst 2, 1) := by decide +kernel
theorem dX1_possible_4 : decode cX1_possible 4 = .ok (.aload_n 0, 1) := by decide +kernel
theorem dX1_possible_5 : decode cX1_possible 5 = .ok (.invokevirtual 44, 3) := by decide +kernel
theorem dX1_possible_8 : decode cX1_possible 8 = .ok (.imul, 1) := by decide +kernel
theorem dX1_possible_9 : decode cX1_possible 9 = .ok (.if_icmp .ge 28, 3) := by decide +kernel
theorem dX1_possible_12 : decode cX1_possible 12 = .ok (.aload_n 0, 1) := by decide +kernel
theorem dX1_possible_13 : decode cX1_possible 13 = .ok (.iload_n 2, 1) := by decide +kernel
theorem dX1_possible_14 : decode cX1_possible 14 = .ok (.invokevirtual 76, 3) := by decide +kernel
theorem dX1_possible_17 : decode cX1_possible 17 = .ok (.ifCond .eq 14, 3) := by decide +kernel
theorem dX1_possible_20 : decode cX1_possible 20 = .ok (.aload_n 0, 1) := by decide +kernel
theorem dX1_possible_21 : decode cX1_possible 21 = .ok (.iload_n 1, 1) := by decide +kernel
theorem dX1_possible_22 : decode cX1_possible 22 = .ok (.iload_n 2, 1) := by decide +kernel
theorem dX1_possible_23 : decode cX1_possible 23 = .ok (.invokevirtual 79, 3) := by decide +kernel
theorem dX1_possible_26 : decode cX1_possible 26 = .ok (.ifCond .eq 5, 3) := by decide +kernel
theorem dX1_possible_29 : decode cX1_possible 29 = .ok (.iconst 1, 1) := by decide +kernel
theorem dX1_possible_30 : decode cX1_possible 30 = .ok (.ireturn, 1) := by decide +kernel
theorem dX1_possible_31 : decode cX1_possible 31 = .ok (.iinc 2 1, 3) := by decide +kernel
theorem dX1_possible_34 : decode cX1_possible 34 = .ok (.goto (-32), 3) := by decide +kernel
theorem dX1_possible_37 : decode cX1_possible 37 = .ok (.iconst 0, 1) := by decide +kernel
theorem dX1_possible_38 : decode cX1_possible 38 = .ok (.ireturn, 1) := by decide +kernel
end
section
set_option maxRecDepth 100000
theorem q24 : (Jvm.Cond.initialized "ScanDiagnoseModel") ∈ lw_all := lw_g (lw_at lw_m1 2 rfl) rfl
theorem q221 : (Jvm.Cond.instantiable "ScanDiagnoseModel" (12 : Nat)) ∈ lw_all := lw_g (lw_at lw_m1 199 rfl) rfl
theorem q223 : (Jvm.Cond.instanceMethod ({ cls := "ScanDiagnoseModel", name := "<init>", desc := "()V" } : Jvm.MethodName)) ∈ lw_all := lw_g (lw_at lw_m1 201 rfl) rfl
theorem q224 : (Jvm.Cond.code ({ cls := "ScanDiagnoseModel", name := "<init>", desc := "()V" } : Jvm.MethodName) prog_3_method_1_code (2 : Nat) (Option.none : Option Jvm.ClassFile.FieldType)) ∈ lw_all := lw_g (lw_at lw_m1 202 rfl) rfl
theorem q225 : (Jvm.Cond.methodLink "ScanDiagnoseModel" (1 : Nat) ({ cls := "java/lang/Object", name := "<init>", desc := "()V" } : Jvm.MethodName)) ∈ lw_all := lw_g (lw_at lw_m1 203 rfl) rfl
theorem q226 : (Jvm.Cond.fieldLink "ScanDiagnoseModel" (41 : Nat) "ScanDiagnoseModel" "gates" "I") ∈ lw_all := lw_g (lw_at lw_m1 204 rfl) rfl
theorem q227 : (Jvm.Cond.fieldLink "ScanDiagnoseModel" (7 : Nat) "ScanDiagnoseModel" "kind" "[I") ∈ lw_all := lw_g (lw_at lw_m1 205 rfl) rfl
theorem q228 : (Jvm.Cond.fieldLink "ScanDiagnoseModel" (13 : Nat) "ScanDiagnoseModel" "first" "[I") ∈ lw_all := lw_g (lw_at lw_m1 206 rfl) rfl
theorem q229 : (Jvm.Cond.fieldLink "ScanDiagnoseModel" (16 : Nat) "ScanDiagnoseModel" "second" "[I") ∈ lw_all := lw_g (lw_at lw_m1 207 rfl) rfl
theorem q230 : (Jvm.Cond.fieldLink "ScanDiagnoseModel" (19 : Nat) "ScanDiagnoseModel" "feeds" "[I") ∈ lw_all := lw_g (lw_at lw_m1 208 rfl) rfl
theorem q231 : (Jvm.Cond.fieldLink "ScanDiagnoseModel" (22 : Nat) "ScanDiagnoseModel" "outputs" "[I") ∈ lw_all := lw_g (lw_at lw_m1 209 rfl) rfl
theorem q232 : (Jvm.Cond.fieldLink "ScanDiagnoseModel" (25 : Nat) "ScanDiagnoseModel" "device" "I") ∈ lw_all := lw_g (lw_at lw_m1 210 rfl) rfl
theorem q233 : (Jvm.Cond.fieldLink "ScanDiagnoseModel" (52 : Nat) "ScanDiagnoseModel" "noted" "I") ∈ lw_all := lw_g (lw_at lw_m1 211 rfl) rfl
theorem q234 : (Jvm.Cond.fieldLink "ScanDiagnoseModel" (29 : Nat) "ScanDiagnoseModel" "pattern" "[I") ∈ lw_all := lw_g (lw_at lw_m1 212 rfl) rfl
theorem q235 : (Jvm.Cond.fieldLink "ScanDiagnoseModel" (32 : Nat) "ScanDiagnoseModel" "cycles" "[I") ∈ lw_all := lw_g (lw_at lw_m1 213 rfl) rfl
theorem q236 : (Jvm.Cond.fieldLink "ScanDiagnoseModel" (35 : Nat) "ScanDiagnoseModel" "answer" "[I") ∈ lw_all := lw_g (lw_at lw_m1 214 rfl) rfl
theorem q237 : (Jvm.Cond.fieldLink "ScanDiagnoseModel" (38 : Nat) "ScanDiagnoseModel" "value" "[I") ∈ lw_all := lw_g (lw_at lw_m1 215 rfl) rfl
theorem q238 : (Jvm.Cond.lays "ScanDiagnoseModel" "ScanDiagnoseModel" "gates" "I") ∈ lw_all := lw_g (lw_at lw_m1 216 rfl) rfl
theorem q239 : (Jvm.Cond.soleField "ScanDiagnoseModel" "gates") ∈ lw_all := lw_g (lw_at lw_m1 217 rfl) rfl
theorem q240 : (Jvm.Cond.lays "ScanDiagnoseModel" "ScanDiagnoseModel" "kind" "[I") ∈ lw_all := lw_g (lw_at lw_m1 218 rfl) rfl
theorem q241 : (Jvm.Cond.soleField "ScanDiagnoseModel" "kind") ∈ lw_all := lw_g (lw_at lw_m1 219 rfl) rfl
theorem q242 : (Jvm.Cond.lays "ScanDiagnoseModel" "ScanDiagnoseModel" "first" "[I") ∈ lw_all := lw_g (lw_at lw_m1 220 rfl) rfl
theorem q243 : (Jvm.Cond.soleField "ScanDiagnoseModel" "first") ∈ lw_all := lw_g (lw_at lw_m1 221 rfl) rfl
theorem q244 : (Jvm.Cond.lays "ScanDiagnoseModel" "ScanDiagnoseModel" "second" "[I") ∈ lw_all := lw_g (lw_at lw_m1 222 rfl) rfl
theorem q245 : (Jvm.Cond.soleField "ScanDiagnoseModel" "second") ∈ lw_all := lw_g (lw_at lw_m1 223 rfl) rfl
theorem q246 : (Jvm.Cond.lays "ScanDiagnoseModel" "ScanDiagnoseModel" "feeds" "[I") ∈ lw_all := lw_g (lw_at lw_m1 224 rfl) rfl
theorem q247 : (Jvm.Cond.soleField "ScanDiagnoseModel" "feeds") ∈ lw_all := lw_g (lw_at lw_m1 225 rfl) rfl
theorem q248 : (Jvm.Cond.lays "ScanDiagnoseModel" "ScanDiagnoseModel" "outputs" "[I") ∈ lw_all := lw_g (lw_at lw_m1 226 rfl) rfl
theorem q249 : (Jvm.Cond.soleField "ScanDiagnoseModel" "outputs") ∈ lw_all := lw_g (lw_at lw_m1 227 rfl) rfl
theorem q250 : (Jvm.Cond.lays "ScanDiagnoseModel" "ScanDiagnoseModel" "device" "I") ∈ lw_all := lw_g (lw_at lw_m1 228 rfl) rfl
theorem q251 : (Jvm.Cond.soleField "ScanDiagnoseModel" "device") ∈ lw_all := lw_g (lw_at lw_m1 229 rfl) rfl
theorem q252 : (Jvm.Cond.lays "ScanDiagnoseModel" "ScanDiagnoseModel" "noted" "I") ∈ lw_all := lw_g (lw_at lw_m1 230 rfl) rfl
theorem q253 : (Jvm.Cond.soleField "ScanDiagnoseModel" "noted") ∈ lw_all := lw_g (lw_at lw_m1 231 rfl) rfl
theorem q254 : (Jvm.Cond.lays "ScanDiagnoseModel" "ScanDiagnoseModel" "pattern" "[I") ∈ lw_all := lw_g (lw_at lw_m1 232 rfl) rfl
theorem q255 : (Jvm.Cond.soleField "ScanDiagnoseModel" "pattern") ∈ lw_all := lw_g (lw_at lw_m1 233 rfl) rfl
theorem q256 : (Jvm.Cond.lays "ScanDiagnoseModel" "ScanDiagnoseModel" "cycles" "[I") ∈ lw_all := lw_g (lw_at lw_m1 234 rfl) rfl
theorem q257 : (Jvm.Cond.soleField "ScanDiagnoseModel" "cycles") ∈ lw_all := lw_g (lw_at lw_m1 235 rfl) rfl
theorem q258 : (Jvm.Cond.lays "ScanDiagnoseModel" "ScanDiagnoseModel" "answer" "[I") ∈ lw_all := lw_g (lw_at lw_m1 236 rfl) rfl
theorem q259 : (Jvm.Cond.soleField "ScanDiagnoseModel" "answer") ∈ lw_all := lw_g (lw_at lw_m1 237 rfl) rfl
theorem q260 : (Jvm.Cond.lays "ScanDiagnoseModel" "ScanDiagnoseModel" "value" "[I") ∈ lw_all := lw_g (lw_at lw_m1 238 rfl) rfl
theorem q261 : (Jvm.Cond.soleField "ScanDiagnoseModel" "value") ∈ lw_all := lw_g (lw_at lw_m1 239 rfl) rfl
theorem q262 : (Jvm.Cond.superclass "ScanDiagnoseModel" "java/lang/Object") ∈ lw_all := lw_g (lw_at lw_m2 0 rfl) rfl
theorem q264 : (Jvm.Cond.instanceMethod ({ cls := "ScanDiagnoseModel", name := "gate", desc := "(III)I" } : Jvm.MethodName)) ∈ lw_all := lw_g (lw_at lw_m2 2 rfl) rfl
theorem q265 : (Jvm.Cond.selects "ScanDiagnoseModel" ({ cls := "ScanDiagnoseModel", name := "gate", desc := "(III)I" } : Jvm.MethodName) ({ cls := "ScanDiagnoseModel", name := "gate", desc := "(III)I" } : Jvm.MethodName)) ∈ lw_all := lw_g (lw_at lw_m2 3 rfl) rfl
theorem q266 : (Jvm.Cond.code ({ cls := "ScanDiagnoseModel", name := "gate", desc := "(III)I" } : Jvm.MethodName) prog_3_method_7_code (5 : Nat) (Option.some Jvm.ClassFile.FieldType.int)) ∈ lw_all := lw_g (lw_at lw_m2 4 rfl) rfl
theorem q267 : (Jvm.Cond.methodLink "ScanDiagnoseModel" (48 : Nat) ({ cls := "ScanDiagnoseModel", name := "badLine", desc := "(I)Z" } : Jvm.MethodName)) ∈ lw_all := lw_g (lw_at lw_m2 5 rfl) rfl
theorem q268 : (Jvm.Cond.privateMethod ({ cls := "ScanDiagnoseModel", name := "badLine", desc := "(I)Z" } : Jvm.MethodName)) ∈ lw_tbl := lw_at lw_m2 6 rfl
theorem q269 : (Jvm.Cond.instanceMethod ({ cls := "ScanDiagnoseModel", name := "badLine", desc := "(I)Z" } : Jvm.MethodName)) ∈ lw_all := lw_g (lw_at lw_m2 7 rfl) rfl
theorem q270 : (Jvm.Cond.code ({ cls := "ScanDiagnoseModel", name := "badLine", desc := "(I)Z" } : Jvm.MethodName) prog_3_method_3_code (2 : Nat) (Option.some Jvm.ClassFile.FieldType.boolean)) ∈ lw_all := lw_g (lw_at lw_m2 8 rfl) rfl
theorem q271 : (Jvm.Cond.methodLink "ScanDiagnoseModel" (44 : Nat) ({ cls := "ScanDiagnoseModel", name := "lineCount", desc := "()I" } : Jvm.MethodName)) ∈ lw_all := lw_g (lw_at lw_m2 9 rfl) rfl
theorem q272 : (Jvm.Cond.privateMethod ({ cls := "ScanDiagnoseModel", name := "lineCount", desc := "()I" } : Jvm.MethodName)) ∈ lw_tbl := lw_at lw_m2 10 rfl
theorem q273 : (Jvm.Cond.instanceMethod ({ cls := "ScanDiagnoseModel", name := "lineCount", desc := "()I" } : Jvm.MethodName)) ∈ lw_all := lw_g (lw_at lw_m2 11 rfl) rfl
theorem q274 : (Jvm.Cond.code ({ cls := "ScanDiagnoseModel", name := "lineCount", desc := "()I" } : Jvm.MethodName) prog_3_method_2_code (1 : Nat) (Option.some Jvm.ClassFile.FieldType.int)) ∈ lw_all := lw_g (lw_at lw_m2 12 rfl) rfl
theorem q276 : (Jvm.Cond.instanceMethod ({ cls := "ScanDiagnoseModel", name := "feed", desc := "(II)I" } : Jvm.MethodName)) ∈ lw_all := lw_g (lw_at lw_m2 14 rfl) rfl
theorem q277 : (Jvm.Cond.selects "ScanDiagnoseModel" ({ cls := "ScanDiagnoseModel", name := "feed", desc := "(II)I" } : Jvm.MethodName) ({ cls := "ScanDiagnoseModel", name := "feed", desc := "(II)I" } : Jvm.MethodName)) ∈ lw_all := lw_g (lw_at lw_m2 15 rfl) rfl
theorem q278 : (Jvm.Cond.code ({ cls := "ScanDiagnoseModel", name := "feed", desc := "(II)I" } : Jvm.MethodName) prog_3_method_8_code (4 : Nat) (Option.some Jvm.ClassFile.FieldType.int)) ∈ lw_all := lw_g (lw_at lw_m2 16 rfl) rfl
theorem q280 : (Jvm.Cond.instanceMethod ({ cls := "ScanDiagnoseModel", name := "output", desc := "(II)I" } : Jvm.MethodName)) ∈ lw_all := lw_g (lw_at lw_m2 18 rfl) rfl
theorem q281 : (Jvm.Cond.selects "ScanDiagnoseModel" ({ cls := "ScanDiagnoseModel", name := "output", desc := "(II)I" } : Jvm.MethodName) ({ cls := "ScanDiagnoseModel", name := "output", desc := "(II)I" } : Jvm.MethodName)) ∈ lw_all := lw_g (lw_at lw_m2 19 rfl) rfl
theorem q282 : (Jvm.Cond.code ({ cls := "ScanDiagnoseModel", name := "output", desc := "(II)I" } : Jvm.MethodName) prog_3_method_9_code (4 : Nat) (Option.some Jvm.ClassFile.FieldType.int)) ∈ lw_all := lw_g (lw_at lw_m2 20 rfl) rfl
theorem q284 : (Jvm.Cond.instanceMethod ({ cls := "ScanDiagnoseModel", name := "lines", desc := "()I" } : Jvm.MethodName)) ∈ lw_all := lw_g (lw_at lw_m2 22 rfl) rfl
theorem q285 : (Jvm.Cond.selects "ScanDiagnoseModel" ({ cls := "ScanDiagnoseModel", name := "lines", desc := "()I" } : Jvm.MethodName) ({ cls := "ScanDiagnoseModel", name := "lines", desc := "()I" } : Jvm.MethodName)) ∈ lw_all := lw_g (lw_at lw_m2 23 rfl) rfl
theorem q286 : (Jvm.Cond.code ({ cls := "ScanDiagnoseModel", name := "lines", desc := "()I" } : Jvm.MethodName) prog_3_method_10_code (1 : Nat) (Option.some Jvm.ClassFile.FieldType.int)) ∈ lw_all := lw_g (lw_at lw_m2 24 rfl) rfl
theorem q288 : (Jvm.Cond.instanceMethod ({ cls := "ScanDiagnoseModel", name := "inject", desc := "(I)I" } : Jvm.MethodName)) ∈ lw_all := lw_g (lw_at lw_m2 26 rfl) rfl
theorem q289 : (Jvm.Cond.selects "ScanDiagnoseModel" ({ cls := "ScanDiagnoseModel", name := "inject", desc := "(I)I" } : Jvm.MethodName) ({ cls := "ScanDiagnoseModel", name := "inject", desc := "(I)I" } : Jvm.MethodName)) ∈ lw_all := lw_g (lw_at lw_m2 27 rfl) rfl
theorem q290 : (Jvm.Cond.code ({ cls := "ScanDiagnoseModel", name := "inject", desc := "(I)I" } : Jvm.MethodName) prog_3_method_14_code (2 : Nat) (Option.some Jvm.ClassFile.FieldType.int)) ∈ lw_all := lw_g (lw_at lw_m2 28 rfl) rfl
theorem q291 : (Jvm.Cond.methodLink "ScanDiagnoseModel" (63 : Nat) ({ cls := "ScanDiagnoseModel", name := "badFault", desc := "(I)Z" } : Jvm.MethodName)) ∈ lw_all := lw_g (lw_at lw_m2 29 rfl) rfl
theorem q292 : (Jvm.Cond.privateMethod ({ cls := "ScanDiagnoseModel", name := "badFault", desc := "(I)Z" } : Jvm.MethodName)) ∈ lw_tbl := lw_at lw_m2 30 rfl
theorem q293 : (Jvm.Cond.instanceMethod ({ cls := "ScanDiagnoseModel", name := "badFault", desc := "(I)Z" } : Jvm.MethodName)) ∈ lw_all := lw_g (lw_at lw_m2 31 rfl) rfl
theorem q294 : (Jvm.Cond.code ({ cls := "ScanDiagnoseModel", name := "badFault", desc := "(I)Z" } : Jvm.MethodName) prog_3_method_4_code (2 : Nat) (Option.some Jvm.ClassFile.FieldType.boolean)) ∈ lw_all := lw_g (lw_at lw_m2 32 rfl) rfl
theorem q296 : (Jvm.Cond.instanceMethod ({ cls := "ScanDiagnoseModel", name := "observe", desc := "(II)I" } : Jvm.MethodName)) ∈ lw_all := lw_g (lw_at lw_m2 34 rfl) rfl
theorem q297 : (Jvm.Cond.selects "ScanDiagnoseModel" ({ cls := "ScanDiagnoseModel", name := "observe", desc := "(II)I" } : Jvm.MethodName) ({ cls := "ScanDiagnoseModel", name := "observe", desc := "(II)I" } : Jvm.MethodName)) ∈ lw_all := lw_g (lw_at lw_m2 35 rfl) rfl
theorem q298 : (Jvm.Cond.code ({ cls := "ScanDiagnoseModel", name := "observe", desc := "(II)I" } : Jvm.MethodName) prog_3_method_15_code (4 : Nat) (Option.some Jvm.ClassFile.FieldType.int)) ∈ lw_all := lw_g (lw_at lw_m2 36 rfl) rfl
theorem q299 : (Jvm.Cond.methodLink "ScanDiagnoseModel" (66 : Nat) ({ cls := "ScanDiagnoseModel", name := "badPattern", desc := "(I)Z" } : Jvm.MethodName)) ∈ lw_all := lw_g (lw_at lw_m2 37 rfl) rfl
theorem q300 : (Jvm.Cond.privateMethod ({ cls := "ScanDiagnoseModel", name := "badPattern", desc := "(I)Z" } : Jvm.MethodName)) ∈ lw_tbl := lw_at lw_m2 38 rfl
theorem q301 : (Jvm.Cond.instanceMethod ({ cls := "ScanDiagnoseModel", name := "badPattern", desc := "(I)Z" } : Jvm.MethodName)) ∈ lw_all := lw_g (lw_at lw_m2 39 rfl) rfl
theorem q302 : (Jvm.Cond.code ({ cls := "ScanDiagnoseModel", name := "badPattern", desc := "(I)Z" } : Jvm.MethodName) prog_3_method_5_code (2 : Nat) (Option.some Jvm.ClassFile.FieldType.boolean)) ∈ lw_all := lw_g (lw_at lw_m2 40 rfl) rfl
theorem q303 : (Jvm.Cond.methodLink "ScanDiagnoseModel" (69 : Nat) ({ cls := "ScanDiagnoseModel", name := "badCycles", desc := "(I)Z" } : Jvm.MethodName)) ∈ lw_all := lw_g (lw_at lw_m2 41 rfl) rfl
theorem q304 : (Jvm.Cond.privateMethod ({ cls := "ScanDiagnoseModel", name := "badCycles", desc := "(I)Z" } : Jvm.MethodName)) ∈ lw_tbl := lw_at lw_m2 42 rfl
theorem q305 : (Jvm.Cond.instanceMethod ({ cls := "ScanDiagnoseModel", name := "badCycles", desc := "(I)Z" } : Jvm.MethodName)) ∈ lw_all := lw_g (lw_at lw_m2 43 rfl) rfl
theorem q306 : (Jvm.Cond.code ({ cls := "ScanDiagnoseModel", name := "badCycles", desc := "(I)Z" } : Jvm.MethodName) prog_3_method_6_code (2 : Nat) (Option.some Jvm.ClassFile.FieldType.boolean)) ∈ lw_all := lw_g (lw_at lw_m2 44 rfl) rfl
theorem q307 : (Jvm.Cond.methodLink "ScanDiagnoseModel" (72 : Nat) ({ cls := "ScanDiagnoseModel", name := "run", desc := "(III)I" } : Jvm.MethodName)) ∈ lw_all := lw_g (lw_at lw_m2 45 rfl) rfl
theorem q308 : (Jvm.Cond.privateMethod ({ cls := "ScanDiagnoseModel", name := "run", desc := "(III)I" } : Jvm.MethodName)) ∈ lw_tbl := lw_at lw_m2 46 rfl
theorem q309 : (Jvm.Cond.instanceMethod ({ cls := "ScanDiagnoseModel", name := "run", desc := "(III)I" } : Jvm.MethodName)) ∈ lw_all := lw_g (lw_at lw_m2 47 rfl) rfl
theorem q310 : (Jvm.Cond.code ({ cls := "ScanDiagnoseModel", name := "run", desc := "(III)I" } : Jvm.MethodName) prog_3_method_13_code (7 : Nat) (Option.some Jvm.ClassFile.FieldType.int)) ∈ lw_all := lw_g (lw_at lw_m2 48 rfl) rfl
theorem q311 : (Jvm.Cond.methodLink "ScanDiagnoseModel" (59 : Nat) ({ cls := "ScanDiagnoseModel", name := "settle", desc := "(III)V" } : Jvm.MethodName)) ∈ lw_all := lw_g (lw_at lw_m2 49 rfl) rfl
theorem q312 : (Jvm.Cond.privateMethod ({ cls := "ScanDiagnoseModel", name := "settle", desc := "(III)V" } : Jvm.MethodName)) ∈ lw_tbl := lw_at lw_m2 50 rfl
theorem q313 : (Jvm.Cond.instanceMethod ({ cls := "ScanDiagnoseModel", name := "settle", desc := "(III)V" } : Jvm.MethodName)) ∈ lw_all := lw_g (lw_at lw_m2 51 rfl) rfl
theorem q314 : (Jvm.Cond.code ({ cls := "ScanDiagnoseModel", name := "settle", desc := "(III)V" } : Jvm.MethodName) prog_3_method_12_code (6 : Nat) (Option.none : Option Jvm.ClassFile.FieldType)) ∈ lw_all := lw_g (lw_at lw_m2 52 rfl) rfl
theorem q315 : (Jvm.Cond.methodLink "ScanDiagnoseModel" (55 : Nat) ({ cls := "ScanDiagnoseModel", name := "gateValue", desc := "(I)I" } : Jvm.MethodName)) ∈ lw_all := lw_g (lw_at lw_m2 53 rfl) rfl
theorem q316 : (Jvm.Cond.privateMethod ({ cls := "ScanDiagnoseModel", name := "gateValue", desc := "(I)I" } : Jvm.MethodName)) ∈ lw_tbl := lw_at lw_m2 54 rfl
theorem q317 : (Jvm.Cond.instanceMethod ({ cls := "ScanDiagnoseModel", name := "gateValue", desc := "(I)I" } : Jvm.MethodName)) ∈ lw_all := lw_g (lw_at lw_m2 55 rfl) rfl
theorem q318 : (Jvm.Cond.code ({ cls := "ScanDiagnoseModel", name := "gateValue", desc := "(I)I" } : Jvm.MethodName) prog_3_method_11_code (4 : Nat) (Option.some Jvm.ClassFile.FieldType.int)) ∈ lw_all := lw_g (lw_at lw_m2 56 rfl) rfl
theorem q320 : (Jvm.Cond.instanceMethod ({ cls := "ScanDiagnoseModel", name := "forget", desc := "()I" } : Jvm.MethodName)) ∈ lw_all := lw_g (lw_at lw_m2 58 rfl) rfl
theorem q321 : (Jvm.Cond.selects "ScanDiagnoseModel" ({ cls := "ScanDiagnoseModel", name := "forget", desc := "()I" } : Jvm.MethodName) ({ cls := "ScanDiagnoseModel", name := "forget", desc := "()I" } : Jvm.MethodName)) ∈ lw_all := lw_g (lw_at lw_m2 59 rfl) rfl
theorem q322 : (Jvm.Cond.code ({ cls := "ScanDiagnoseModel", name := "forget", desc := "()I" } : Jvm.MethodName) prog_3_method_16_code (2 : Nat) (Option.some Jvm.ClassFile.FieldType.int)) ∈ lw_all := lw_g (lw_at lw_m2 60 rfl) rfl
theorem q324 : (Jvm.Cond.instanceMethod ({ cls := "ScanDiagnoseModel", name := "observations", desc := "()I" } : Jvm.MethodName)) ∈ lw_all := lw_g (lw_at lw_m2 62 rfl) rfl
theorem q325 : (Jvm.Cond.selects "ScanDiagnoseModel" ({ cls := "ScanDiagnoseModel", name := "observations", desc := "()I" } : Jvm.MethodName) ({ cls := "ScanDiagnoseModel", name := "observations", desc := "()I" } : Jvm.MethodName)) ∈ lw_all := lw_g (lw_at lw_m2 63 rfl) rfl
theorem q326 : (Jvm.Cond.code ({ cls := "ScanDiagnoseModel", name := "observations", desc := "()I" } : Jvm.MethodName) prog_3_method_17_code (1 : Nat) (Option.some Jvm.ClassFile.FieldType.int)) ∈ lw_all := lw_g (lw_at lw_m2 64 rfl) rfl
theorem q328 : (Jvm.Cond.instanceMethod ({ cls := "ScanDiagnoseModel", name := "response", desc := "(II)I" } : Jvm.MethodName)) ∈ lw_all := lw_g (lw_at lw_m2 66 rfl) rfl
theorem q329 : (Jvm.Cond.selects "ScanDiagnoseModel" ({ cls := "ScanDiagnoseModel", name := "response", desc := "(II)I" } : Jvm.MethodName) ({ cls := "ScanDiagnoseModel", name := "response", desc := "(II)I" } : Jvm.MethodName)) ∈ lw_all := lw_g (lw_at lw_m2 67 rfl) rfl
theorem q330 : (Jvm.Cond.code ({ cls := "ScanDiagnoseModel", name := "response", desc := "(II)I" } : Jvm.MethodName) prog_3_method_18_code (3 : Nat) (Option.some Jvm.ClassFile.FieldType.int)) ∈ lw_all := lw_g (lw_at lw_m2 68 rfl) rfl
theorem q332 : (Jvm.Cond.instanceMethod ({ cls := "ScanDiagnoseModel", name := "responseWith", desc := "(III)I" } : Jvm.MethodName)) ∈ lw_all := lw_g (lw_at lw_m2 70 rfl) rfl
theorem q333 : (Jvm.Cond.selects "ScanDiagnoseModel" ({ cls := "ScanDiagnoseModel", name := "responseWith", desc := "(III)I" } : Jvm.MethodName) ({ cls := "ScanDiagnoseModel", name := "responseWith", desc := "(III)I" } : Jvm.MethodName)) ∈ lw_all := lw_g (lw_at lw_m2 71 rfl) rfl
theorem q334 : (Jvm.Cond.code ({ cls := "ScanDiagnoseModel", name := "responseWith", desc := "(III)I" } : Jvm.MethodName) prog_3_method_19_code (4 : Nat) (Option.some Jvm.ClassFile.FieldType.int)) ∈ lw_all := lw_g (lw_at lw_m2 72 rfl) rfl
theorem q336 : (Jvm.Cond.instanceMethod ({ cls := "ScanDiagnoseModel", name := "candidates", desc := "()I" } : Jvm.MethodName)) ∈ lw_all := lw_g (lw_at lw_m2 74 rfl) rfl
theorem q337 : (Jvm.Cond.selects "ScanDiagnoseModel" ({ cls := "ScanDiagnoseModel", name := "candidates", desc := "()I" } : Jvm.MethodName) ({ cls := "ScanDiagnoseModel", name := "candidates", desc := "()I" } : Jvm.MethodName)) ∈ lw_all := lw_g (lw_at lw_m2 75 rfl) rfl
theorem q338 : (Jvm.Cond.code ({ cls := "ScanDiagnoseModel", name := "candidates", desc := "()I" } : Jvm.MethodName) prog_3_method_21_code (3 : Nat) (Option.some Jvm.ClassFile.FieldType.int)) ∈ lw_all := lw_g (lw_at lw_m2 76 rfl) rfl
theorem q339 : (Jvm.Cond.methodLink "ScanDiagnoseModel" (76 : Nat) ({ cls := "ScanDiagnoseModel", name := "explains", desc := "(I)Z" } : Jvm.MethodName)) ∈ lw_all := lw_g (lw_at lw_m2 77 rfl) rfl
theorem q340 : (Jvm.Cond.privateMethod ({ cls := "ScanDiagnoseModel", name := "explains", desc := "(I)Z" } : Jvm.MethodName)) ∈ lw_tbl := lw_at lw_m2 78 rfl
theorem q341 : (Jvm.Cond.instanceMethod ({ cls := "ScanDiagnoseModel", name := "explains", desc := "(I)Z" } : Jvm.MethodName)) ∈ lw_all := lw_g (lw_at lw_m2 79 rfl) rfl
theorem q342 : (Jvm.Cond.code ({ cls := "ScanDiagnoseModel", name := "explains", desc := "(I)Z" } : Jvm.MethodName) prog_3_method_20_code (4 : Nat) (Option.some Jvm.ClassFile.FieldType.boolean)) ∈ lw_all := lw_g (lw_at lw_m2 80 rfl) rfl
theorem q344 : (Jvm.Cond.instanceMethod ({ cls := "ScanDiagnoseModel", name := "candidate", desc := "(I)I" } : Jvm.MethodName)) ∈ lw_all := lw_g (lw_at lw_m2 82 rfl) rfl
theorem q345 : (Jvm.Cond.selects "ScanDiagnoseModel" ({ cls := "ScanDiagnoseModel", name := "candidate", desc := "(I)I" } : Jvm.MethodName) ({ cls := "ScanDiagnoseModel", name := "candidate", desc := "(I)I" } : Jvm.MethodName)) ∈ lw_all := lw_g (lw_at lw_m2 83 rfl) rfl
theorem q346 : (Jvm.Cond.code ({ cls := "ScanDiagnoseModel", name := "candidate", desc := "(I)I" } : Jvm.MethodName) prog_3_method_22_code (4 : Nat) (Option.some Jvm.ClassFile.FieldType.int)) ∈ lw_all := lw_g (lw_at lw_m2 84 rfl) rfl
theorem q348 : (Jvm.Cond.instanceMethod ({ cls := "ScanDiagnoseModel", name := "healthy", desc := "()I" } : Jvm.MethodName)) ∈ lw_all := lw_g (lw_at lw_m2 86 rfl) rfl
theorem q349 : (Jvm.Cond.selects "ScanDiagnoseModel" ({ cls := "ScanDiagnoseModel", name := "healthy", desc := "()I" } : Jvm.MethodName) ({ cls := "ScanDiagnoseModel", name := "healthy", desc := "()I" } : Jvm.MethodName)) ∈ lw_all := lw_g (lw_at lw_m2 87 rfl) rfl
theorem q350 : (Jvm.Cond.code ({ cls := "ScanDiagnoseModel", name := "healthy", desc := "()I" } : Jvm.MethodName) prog_3_method_23_code (1 : Nat) (Option.some Jvm.ClassFile.FieldType.int)) ∈ lw_all := lw_g (lw_at lw_m2 88 rfl) rfl
theorem q352 : (Jvm.Cond.instanceMethod ({ cls := "ScanDiagnoseModel", name := "nextPattern", desc := "()I" } : Jvm.MethodName)) ∈ lw_all := lw_g (lw_at lw_m2 90 rfl) rfl
theorem q353 : (Jvm.Cond.selects "ScanDiagnoseModel" ({ cls := "ScanDiagnoseModel", name := "nextPattern", desc := "()I" } : Jvm.MethodName) ({ cls := "ScanDiagnoseModel", name := "nextPattern", desc := "()I" } : Jvm.MethodName)) ∈ lw_all := lw_g (lw_at lw_m2 91 rfl) rfl
theorem q354 : (Jvm.Cond.code ({ cls := "ScanDiagnoseModel", name := "nextPattern", desc := "()I" } : Jvm.MethodName) prog_3_method_24_code (5 : Nat) (Option.some Jvm.ClassFile.FieldType.int)) ∈ lw_all := lw_g (lw_at lw_m2 92 rfl) rfl
theorem q356 : (Jvm.Cond.instanceMethod ({ cls := "ScanDiagnoseModel", name := "detected", desc := "(II)I" } : Jvm.MethodName)) ∈ lw_all := lw_g (lw_at lw_m2 94 rfl) rfl
theorem q357 : (Jvm.Cond.selects "ScanDiagnoseModel" ({ cls := "ScanDiagnoseModel", name := "detected", desc := "(II)I" } : Jvm.MethodName) ({ cls := "ScanDiagnoseModel", name := "detected", desc := "(II)I" } : Jvm.MethodName)) ∈ lw_all := lw_g (lw_at lw_m2 95 rfl) rfl
theorem q358 : (Jvm.Cond.code ({ cls := "ScanDiagnoseModel", name := "detected", desc := "(II)I" } : Jvm.MethodName) prog_3_method_25_code (7 : Nat) (Option.some Jvm.ClassFile.FieldType.int)) ∈ lw_all := lw_g (lw_at lw_m2 96 rfl) rfl
theorem q360 : (Jvm.Cond.instanceMethod ({ cls := "ScanDiagnoseModel", name := "hidden", desc := "()I" } : Jvm.MethodName)) ∈ lw_all := lw_g (lw_at lw_m2 98 rfl) rfl
theorem q361 : (Jvm.Cond.selects "ScanDiagnoseModel" ({ cls := "ScanDiagnoseModel", name := "hidden", desc := "()I" } : Jvm.MethodName) ({ cls := "ScanDiagnoseModel", name := "hidden", desc := "()I" } : Jvm.MethodName)) ∈ lw_all := lw_g (lw_at lw_m2 99 rfl) rfl
theorem q362 : (Jvm.Cond.code ({ cls := "ScanDiagnoseModel", name := "hidden", desc := "()I" } : Jvm.MethodName) prog_3_method_27_code (3 : Nat) (Option.some Jvm.ClassFile.FieldType.int)) ∈ lw_all := lw_g (lw_at lw_m2 100 rfl) rfl
theorem q363 : (Jvm.Cond.methodLink "ScanDiagnoseModel" (79 : Nat) ({ cls := "ScanDiagnoseModel", name := "alike", desc := "(II)Z" } : Jvm.MethodName)) ∈ lw_all := lw_g (lw_at lw_m2 101 rfl) rfl
theorem q364 : (Jvm.Cond.privateMethod ({ cls := "ScanDiagnoseModel", name := "alike", desc := "(II)Z" } : Jvm.MethodName)) ∈ lw_tbl := lw_at lw_m2 102 rfl
theorem q365 : (Jvm.Cond.instanceMethod ({ cls := "ScanDiagnoseModel", name := "alike", desc := "(II)Z" } : Jvm.MethodName)) ∈ lw_all := lw_g (lw_at lw_m2 103 rfl) rfl
theorem q366 : (Jvm.Cond.code ({ cls := "ScanDiagnoseModel", name := "alike", desc := "(II)Z" } : Jvm.MethodName) prog_3_method_26_code (6 : Nat) (Option.some Jvm.ClassFile.FieldType.boolean)) ∈ lw_all := lw_g (lw_at lw_m2 104 rfl) rfl
theorem q368 : (Jvm.Cond.instanceMethod ({ cls := "ScanDiagnoseModel", name := "leader", desc := "(I)I" } : Jvm.MethodName)) ∈ lw_all := lw_g (lw_at lw_m2 106 rfl) rfl
theorem q369 : (Jvm.Cond.selects "ScanDiagnoseModel" ({ cls := "ScanDiagnoseModel", name := "leader", desc := "(I)I" } : Jvm.MethodName) ({ cls := "ScanDiagnoseModel", name := "leader", desc := "(I)I" } : Jvm.MethodName)) ∈ lw_all := lw_g (lw_at lw_m2 107 rfl) rfl
theorem q370 : (Jvm.Cond.code ({ cls := "ScanDiagnoseModel", name := "leader", desc := "(I)I" } : Jvm.MethodName) prog_3_method_29_code (2 : Nat) (Option.some Jvm.ClassFile.FieldType.int)) ∈ lw_all := lw_g (lw_at lw_m2 108 rfl) rfl
theorem q371 : (Jvm.Cond.methodLink "ScanDiagnoseModel" (83 : Nat) ({ cls := "ScanDiagnoseModel", name := "earliest", desc := "(I)I" } : Jvm.MethodName)) ∈ lw_all := lw_g (lw_at lw_m2 109 rfl) rfl
theorem q372 : (Jvm.Cond.privateMethod ({ cls := "ScanDiagnoseModel", name := "earliest", desc := "(I)I" } : Jvm.MethodName)) ∈ lw_tbl := lw_at lw_m2 110 rfl
theorem q373 : (Jvm.Cond.instanceMethod ({ cls := "ScanDiagnoseModel", name := "earliest", desc := "(I)I" } : Jvm.MethodName)) ∈ lw_all := lw_g (lw_at lw_m2 111 rfl) rfl
theorem q374 : (Jvm.Cond.code ({ cls := "ScanDiagnoseModel", name := "earliest", desc := "(I)I" } : Jvm.MethodName) prog_3_method_28_code (3 : Nat) (Option.some Jvm.ClassFile.FieldType.int)) ∈ lw_all := lw_g (lw_at lw_m2 112 rfl) rfl
theorem q376 : (Jvm.Cond.instanceMethod ({ cls := "ScanDiagnoseModel", name := "groups", desc := "()I" } : Jvm.MethodName)) ∈ lw_all := lw_g (lw_at lw_m2 114 rfl) rfl
theorem q377 : (Jvm.Cond.selects "ScanDiagnoseModel" ({ cls := "ScanDiagnoseModel", name := "groups", desc := "()I" } : Jvm.MethodName) ({ cls := "ScanDiagnoseModel", name := "groups", desc := "()I" } : Jvm.MethodName)) ∈ lw_all := lw_g (lw_at lw_m2 115 rfl) rfl
theorem q378 : (Jvm.Cond.code ({ cls := "ScanDiagnoseModel", name := "groups", desc := "()I" } : Jvm.MethodName) prog_3_method_30_code (3 : Nat) (Option.some Jvm.ClassFile.FieldType.int)) ∈ lw_all := lw_g (lw_at lw_m2 116 rfl) rfl
theorem q380 : (Jvm.Cond.instanceMethod ({ cls := "ScanDiagnoseModel", name := "candidateGroups", desc := "()I" } : Jvm.MethodName)) ∈ lw_all := lw_g (lw_at lw_m2 118 rfl) rfl
theorem q381 : (Jvm.Cond.selects "ScanDiagnoseModel" ({ cls := "ScanDiagnoseModel", name := "candidateGroups", desc := "()I" } : Jvm.MethodName) ({ cls := "ScanDiagnoseModel", name := "candidateGroups", desc := "()I" } : Jvm.MethodName)) ∈ lw_all := lw_g (lw_at lw_m2 119 rfl) rfl
theorem q382 : (Jvm.Cond.code ({ cls := "ScanDiagnoseModel", name := "candidateGroups", desc := "()I" } : Jvm.MethodName) prog_3_method_32_code (3 : Nat) (Option.some Jvm.ClassFile.FieldType.int)) ∈ lw_all := lw_g (lw_at lw_m2 120 rfl) rfl
theorem q383 : (Jvm.Cond.methodLink "ScanDiagnoseModel" (86 : Nat) ({ cls := "ScanDiagnoseModel", name := "possible", desc := "(I)Z" } : Jvm.MethodName)) ∈ lw_all := lw_g (lw_at lw_m2 121 rfl) rfl
theorem q384 : (Jvm.Cond.privateMethod ({ cls := "ScanDiagnoseModel", name := "possible", desc := "(I)Z" } : Jvm.MethodName)) ∈ lw_tbl := lw_at lw_m2 122 rfl
theorem q385 : (Jvm.Cond.instanceMethod ({ cls := "ScanDiagnoseModel", name := "possible", desc := "(I)Z" } : Jvm.MethodName)) ∈ lw_all := lw_g (lw_at lw_m2 123 rfl) rfl
theorem q386 : (Jvm.Cond.code ({ cls := "ScanDiagnoseModel", name := "possible", desc := "(I)Z" } : Jvm.MethodName) prog_3_method_31_code (3 : Nat) (Option.some Jvm.ClassFile.FieldType.boolean)) ∈ lw_all := lw_g (lw_at lw_m2 124 rfl) rfl
theorem in_X1 : ∀ w ∈ wsX10, w ∈ lw_all := lw_in wsX10 [238, 240, 242, 244, 246, 248, 250, 252, 254, 256, 258, 260] (by decide +kernel) (by decide +kernel)
end
section
set_option maxRecDepth 100000
/-! the law's own entry -/
abbrev cL_law : ByteArray := code
theorem dL_law_0 : decode cL_law 0 = .ok (.new 7, 3) := by decide +kernel
theorem dL_law_3 : decode cL_law 3 = .ok (.dup, 1) := by decide +kernel
theorem dL_law_4 : decode cL_law 4 = .ok (.invokespecial 9, 3) := by decide +kernel
theorem dL_law_7 : decode cL_law 7 = .ok (.astore_n 1, 1) := by decide +kernel
theorem dL_law_8 : decode cL_law 8 = .ok (.new 10, 3) := by decide +kernel
theorem dL_law_11 : decode cL_law 11 = .ok (.dup, 1) := by decide +kernel
theorem dL_law_12 : decode cL_law 12 = .ok (.invokespecial 12, 3) := by decide +kernel
theorem dL_law_15 : decode cL_law 15 = .ok (.astore_n 2, 1) := by decide +kernel
theorem dL_law_16 : decode cL_law 16 = .ok (.iconst 0, 1) := by decide +kernel
theorem dL_law_17 : decode cL_law 17 = .ok (.istore_n 3, 1) := by decide +kernel
theorem dL_law_18 : decode cL_law 18 = .ok (.iload_n 3, 1) := by decide +kernel
theorem dL_law_19 : decode cL_law 19 = .ok (.aload_n 0, 1) := by decide +kernel
theorem dL_law_20 : decode cL_law 20 = .ok (.arraylength, 1) := by decide +kernel
theorem dL_law_21 : decode cL_law 21 = .ok (.iconst 4, 1) := by decide +kernel
theorem dL_law_22 : decode cL_law 22 = .ok (.isub, 1) := by decide +kernel
theorem dL_law_23 : decode cL_law 23 = .ok (.if_icmp .gt 544, 3) := by decide +kernel
theorem dL_law_26 : decode cL_law 26 = .ok (.aload_n 0, 1) := by decide +kernel
theorem dL_law_27 : decode cL_law 27 = .ok (.iload_n 3, 1) := by decide +kernel
theorem dL_law_28 : decode cL_law 28 = .ok (.iaload, 1) := by decide +kernel
theorem dL_law_29 : decode cL_law 29 = .ok (.bipush 31, 2) := by decide +kernel
theorem dL_law_31 : decode cL_law 31 = .ok (.iand, 1) := by decide +kernel
theorem dL_law_32 : decode cL_law 32 = .ok (.tableswitch 529 0 18 #[92, 135, 168, 201, 214, 237, 270, 283, 296, 329, 372, 385, 408, 421, 434, 467, 480, 503, 516], 92) := by decide +kernel
theorem dL_law_124 : decode cL_law 124 = .ok (.aload_n 1, 1) := by decide +kernel
theorem dL_law_125 : decode cL_law 125 = .ok (.aload_n 0, 1) := by decide +kernel
theorem dL_law_126 : decode cL_law 126 = .ok (.iload_n 3, 1) := by decide +kernel
theorem dL_law_127 : decode cL_law 127 = .ok (.iconst 1, 1) := by decide +kernel
theorem dL_law_128 : decode cL_law 128 = .ok (.iadd, 1) := by decide +kernel
theorem dL_law_129 : decode cL_law 129 = .ok (.iaload, 1) := by decide +kernel
theorem dL_law_130 : decode cL_law 130 = .ok (.aload_n 0, 1) := by decide +kernel
theorem dL_law_131 : decode cL_law 131 = .ok (.iload_n 3, 1) := by decide +kernel
theorem dL_law_132 : decode cL_law 132 = .ok (.iconst 2, 1) := by decide +kernel
theorem dL_law_133 : decode cL_law 133 = .ok (.iadd, 1) := by decide +kernel
theorem dL_law_134 : decode cL_law 134 = .ok (.iaload, 1) := by decide +kernel
theorem dL_law_135 : decode cL_law 135 = .ok (.aload_n 0, 1) := by decide +kernel
theorem dL_law_136 : decode cL_law 136 = .ok (.iload_n 3, 1) := by decide +kernel
theorem dL_law_137 : decode cL_law 137 = .ok (.iconst 3, 1) := by decide +kernel
theorem dL_law_138 : decode cL_law 138 = .ok (.iadd, 1) := by decide +kernel
theorem dL_law_139 : decode cL_law 139 = .ok (.iaload, 1) := by decide +kernel
theorem dL_law_140 : decode cL_law 140 = .ok (.invokevirtual 13, 3) := by decide +kernel
theorem dL_law_143 : decode cL_law 143 = .ok (.aload_n 2, 1) := by decide +kernel
theorem dL_law_144 : decode cL_law 144 = .ok (.aload_n 0, 1) := by decide +kernel
theorem dL_law_145 : decode cL_law 145 = .ok (.iload_n 3, 1) := by decide +kernel
theorem dL_law_146 : decode cL_law 146 = .ok (.iconst 1, 1) := by decide +kernel
theorem dL_law_147 : decode cL_law 147 = .ok (.iadd, 1) := by decide +kernel
theorem dL_law_148 : decode cL_law 148 = .ok (.iaload, 1) := by decide +kernel
theorem dL_law_149 : decode cL_law 149 = .ok (.aload_n 0, 1) := by decide +kernel
theorem dL_law_150 : decode cL_law 150 = .ok (.iload_n 3, 1) := by decide +kernel
theorem dL_law_151 : decode cL_law 151 = .ok (.iconst 2, 1) := by decide +kernel
theorem dL_law_152 : decode cL_law 152 = .ok (.iadd, 1) := by decide +kernel
theorem dL_law_153 : decode cL_law 153 = .ok (.iaload, 1) := by decide +kernel
theorem dL_law_154 : decode cL_law 154 = .ok (.aload_n 0, 1) := by decide +kernel
theorem dL_law_155 : decode cL_law 155 = .ok (.iload_n 3, 1) := by decide +kernel
theorem dL_law_156 : decode cL_law 156 = .ok (.iconst 3, 1) := by decide +kernel
theorem dL_law_157 : decode cL_law 157 = .ok (.iadd, 1) := by decide +kernel
theorem dL_law_158 : decode cL_law 158 = .ok (.iaload, 1) := by decide +kernel
theorem dL_law_159 : decode cL_law 159 = .ok (.invokevirtual 17, 3) := by decide +kernel
theorem dL_law_162 : decode cL_law 162 = .ok (.if_icmp .eq 399, 3) := by decide +kernel
theorem dL_law_165 : decode cL_law 165 = .ok (.iconst 0, 1) := by decide +kernel
theorem dL_law_166 : decode cL_law 166 = .ok (.ireturn, 1) := by decide +kernel
theorem dL_law_167 : decode cL_law 167 = .ok (.aload_n 1, 1) := by decide +kernel
theorem dL_law_168 : decode cL_law 168 = .ok (.aload_n 0, 1) := by decide +kernel
theorem dL_law_169 : decode cL_law 169 = .ok (.iload_n 3, 1) := by decide +kernel
theorem dL_law_170 : decode cL_law 170 = .ok (.iconst 1, 1) := by decide +kernel
theorem dL_law_171 : decode cL_law 171 = .ok (.iadd, 1) := by decide +kernel
theorem dL_law_172 : decode cL_law 172 = .ok (.iaload, 1) := by decide +kernel
theorem dL_law_173 : decode cL_law 173 = .ok (.aload_n 0, 1) := by decide +kernel
theorem dL_law_174 : decode cL_law 174 = .ok (.iload_n 3, 1) := by decide +kernel
theorem dL_law_175 : decode cL_law 175 = .ok (.iconst 2, 1) := by decide +kernel
theorem dL_law_176 : decode cL_law 176 = .ok (.iadd, 1) := by decide +kernel
theorem dL_law_177 : decode cL_law 177 = .ok (.iaload, 1) := by decide +kernel
theorem dL_law_178 : decode cL_law 178 = .ok (.invokevirtual 18, 3) := by decide +kernel
theorem dL_law_181 : decode cL_law 181 = .ok (.aload_n 2, 1) := by decide +kernel
theorem dL_law_182 : decode cL_law 182 = .ok (.aload_n 0, 1) := by decide +kernel
theorem dL_law_183 : decode cL_law 183 = .ok (.iload_n 3, 1) := by decide +kernel
theorem dL_law_184 : decode cL_law 184 = .ok (.iconst 1, 1) := by decide +kernel
theorem dL_law_185 : decode cL_law 185 = .ok (.iadd, 1) := by decide +kernel
theorem dL_law_186 : decode cL_law 186 = .ok (.iaload, 1) := by decide +kernel
theorem dL_law_187 : decode cL_law 187 = .ok (.aload_n 0, 1) := by decide +kernel
theorem dL_law_188 : decode cL_law 188 = .ok (.iload_n 3, 1) := by decide +kernel
theorem dL_law_189 : decode cL_law 189 = .ok (.iconst 2, 1) := by decide +kernel
theorem dL_law_190 : decode cL_law 190 = .ok (.iadd, 1) := by decide +kernel
theorem dL_law_191 : decode cL_law 191 = .ok (.iaload, 1) := by decide +kernel
theorem dL_law_192 : decode cL_law 192 = .ok (.invokevirtual 22, 3) := by decide +kernel
theorem dL_law_195 : decode cL_law 195 = .ok (.if_icmp .eq 366, 3) := by decide +kernel
theorem dL_law_198 : decode cL_law 198 = .ok (.iconst 0, 1) := by decide +kernel
theorem dL_law_199 : decode cL_law 199 = .ok (.ireturn, 1) := by decide +kernel
theorem dL_law_200 : decode cL_law 200 = .ok (.aload_n 1, 1) := by decide +kernel
theorem dL_law_201 : decode cL_law 201 = .ok (.aload_n 0, 1) := by decide +kernel
theorem dL_law_202 : decode cL_law 202 = .ok (.iload_n 3, 1) := by decide +kernel
theorem dL_law_203 : decode cL_law 203 = .ok (.iconst 1, 1) := by decide +kernel
theorem dL_law_204 : decode cL_law 204 = .ok (.iadd, 1) := by decide +kernel
theorem dL_law_205 : decode cL_law 205 = .ok (.iaload, 1) := by decide +kernel
theorem dL_law_206 : decode cL_law 206 = .ok (.aload_n 0, 1) := by decide +kernel
theorem dL_law_207 : decode cL_law 207 = .ok (.iload_n 3, 1) := by decide +kernel
theorem dL_law_208 : decode cL_law 208 = .ok (.iconst 2, 1) := by decide +kernel
theorem dL_law_209 : decode cL_law 209 = .ok (.iadd, 1) := by decide +kernel
theorem dL_law_210 : decode cL_law 210 = .ok (.iaload, 1) := by decide +kernel
theorem dL_law_211 : decode cL_law 211 = .ok (.invokevirtual 23, 3) := by decide +kernel
theorem dL_law_214 : decode cL_law 214 = .ok (.aload_n 2, 1) := by decide +kernel
theorem dL_law_215 : decode cL_law 215 = .ok (.aload_n 0, 1) := by decide +kernel
theorem dL_law_216 : decode cL_law 216 = .ok (.iload_n 3, 1) := by decide +kernel
theorem dL_law_217 : decode cL_law 217 = .ok (.iconst 1, 1) := by decide +kernel
theorem dL_law_218 : decode cL_law 218 = .ok (.iadd, 1) := by decide +kernel
theorem dL_law_219 : decode cL_law 219 = .ok (.iaload, 1) := by decide +kernel
theorem dL_law_220 : decode cL_law 220 = .ok (.aload_n 0, 1) := by decide +kernel
theorem dL_law_221 : decode cL_law 221 = .ok (.iload_n 3, 1) := by decide +kernel
theorem dL_law_222 : decode cL_law 222 = .ok (.iconst 2, 1) := by decide +kernel
theorem dL_law_223 : decode cL_law 223 = .ok (.iadd, 1) := by decide +kernel
theorem dL_law_224 : decode cL_law 224 = .ok (.iaload, 1) := by decide +kernel
theorem dL_law_225 : decode cL_law 225 = .ok (.invokevirtual 26, 3) := by decide +kernel
theorem dL_law_228 : decode cL_law 228 = .ok (.if_icmp .eq 333, 3) := by decide +kernel
theorem dL_law_231 : decode cL_law 231 = .ok (.iconst 0, 1) := by decide +kernel
theorem dL_law_232 : decode cL_law 232 = .ok (.ireturn, 1) := by decide +kernel
theorem dL_law_233 : decode cL_law 233 = .ok (.aload_n 1, 1) := by decide +kernel
theorem dL_law_234 : decode cL_law 234 = .ok (.invokevirtual 27, 3) := by decide +kernel
theorem dL_law_237 : decode cL_law 237 = .ok (.aload_n 2, 1) := by decide +kernel
theorem dL_law_238 : decode cL_law 238 = .ok (.invokevirtual 31, 3) := by decide +kernel
theorem dL_law_241 : decode cL_law 241 = .ok (.if_icmp .eq 320, 3) := by decide +kernel
theorem dL_law_244 : decode cL_law 244 = .ok (.iconst 0, 1) := by decide +kernel
theorem dL_law_245 : decode cL_law 245 = .ok (.ireturn, 1) := by decide +kernel
theorem dL_law_246 : decode cL_law 246 = .ok (.aload_n 1, 1) := by decide +kernel
theorem dL_law_247 : decode cL_law 247 = .ok (.aload_n 0, 1) := by decide +kernel
theorem dL_law_248 : decode cL_law 248 = .ok (.iload_n 3, 1) := by decide +kernel
theorem dL_law_249 : decode cL_law 249 = .ok (.iconst 1, 1) := by decide +kernel
theorem dL_law_250 : decode cL_law 250 = .ok (.iadd, 1) := by decide +kernel
theorem dL_law_251 : decode cL_law 251 = .ok (.iaload, 1) := by decide +kernel
theorem dL_law_252 : decode cL_law 252 = .ok (.invokevirtual 32, 3) := by decide +kernel
theorem dL_law_255 : decode cL_law 255 = .ok (.aload_n 2, 1) := by decide +kernel
theorem dL_law_256 : decode cL_law 256 = .ok (.aload_n 0, 1) := by decide +kernel
theorem dL_law_257 : decode cL_law 257 = .ok (.iload_n 3, 1) := by decide +kernel
theorem dL_law_258 : decode cL_law 258 = .ok (.iconst 1, 1) := by decide +kernel
theorem dL_law_259 : decode cL_law 259 = .ok (.iadd, 1) := by decide +kernel
theorem dL_law_260 : decode cL_law 260 = .ok (.iaload, 1) := by decide +kernel
theorem dL_law_261 : decode cL_law 261 = .ok (.invokevirtual 36, 3) := by decide +kernel
theorem dL_law_264 : decode cL_law 264 = .ok (.if_icmp .eq 297, 3) := by decide +kernel
theorem dL_law_267 : decode cL_law 267 = .ok (.iconst 0, 1) := by decide +kernel
theorem dL_law_268 : decode cL_law 268 = .ok (.ireturn, 1) := by decide +kernel
theorem dL_law_269 : decode cL_law 269 = .ok (.aload_n 1, 1) := by decide +kernel
theorem dL_law_270 : decode cL_law 270 = .ok (.aload_n 0, 1) := by decide +kernel
theorem dL_law_271 : decode cL_law 271 = .ok (.iload_n 3, 1) := by decide +kernel
theorem dL_law_272 : decode cL_law 272 = .ok (.iconst 1, 1) := by decide +kernel
theorem dL_law_273 : decode cL_law 273 = .ok (.iadd, 1) := by decide +kernel
theorem dL_law_274 : decode cL_law 274 = .ok (.iaload, 1) := by decide +kernel
theorem dL_law_275 : decode cL_law 275 = .ok (.aload_n 0, 1) := by decide +kernel
theorem dL_law_276 : decode cL_law 276 = .ok (.iload_n 3, 1) := by decide +kernel
theorem dL_law_277 : decode cL_law 277 = .ok (.iconst 2, 1) := by decide +kernel
theorem dL_law_278 : decode cL_law 278 = .ok (.iadd, 1) := by decide +kernel
theorem dL_law_279 : decode cL_law 279 = .ok (.iaload, 1) := by decide +kernel
theorem dL_law_280 : decode cL_law 280 = .ok (.invokevirtual 37, 3) := by decide +kernel
theorem dL_law_283 : decode cL_law 283 = .ok (.aload_n 2, 1) := by decide +kernel
theorem dL_law_284 : decode cL_law 284 = .ok (.aload_n 0, 1) := by decide +kernel
theorem dL_law_285 : decode cL_law 285 = .ok (.iload_n 3, 1) := by decide +kernel
theorem dL_law_286 : decode cL_law 286 = .ok (.iconst 1, 1) := by decide +kernel
theorem dL_law_287 : decode cL_law 287 = .ok (.iadd, 1) := by decide +kernel
theorem dL_law_288 : decode cL_law 288 = .ok (.iaload, 1) := by decide +kernel
theorem dL_law_289 : decode cL_law 289 = .ok (.aload_n 0, 1) := by decide +kernel
theorem dL_law_290 : decode cL_law 290 = .ok (.iload_n 3, 1) := by decide +kernel
theorem dL_law_291 : decode cL_law 291 = .ok (.iconst 2, 1) := by decide +kernel
theorem dL_law_292 : decode cL_law 292 = .ok (.iadd, 1) := by decide +kernel
theorem dL_law_293 : decode cL_law 293 = .ok (.iaload, 1) := by decide +kernel
theorem dL_law_294 : decode cL_law 294 = .ok (.invokevirtual 40, 3) := by decide +kernel
theorem dL_law_297 : decode cL_law 297 = .ok (.if_icmp .eq 264, 3) := by decide +kernel
theorem dL_law_300 : decode cL_law 300 = .ok (.iconst 0, 1) := by decide +kernel
theorem dL_law_301 : decode cL_law 301 = .ok (.ireturn, 1) := by decide +kernel
theorem dL_law_302 : decode cL_law 302 = .ok (.aload_n 1, 1) := by decide +kernel
theorem dL_law_303 : decode cL_law 303 = .ok (.invokevirtual 41, 3) := by decide +kernel
theorem dL_law_306 : decode cL_law 306 = .ok (.aload_n 2, 1) := by decide +kernel
theorem dL_law_307 : decode cL_law 307 = .ok (.invokevirtual 44, 3) := by decide +kernel
theorem dL_law_310 : decode cL_law 310 = .ok (.if_icmp .eq 251, 3) := by decide +kernel
theorem dL_law_313 : decode cL_law 313 = .ok (.iconst 0, 1) := by decide +kernel
theorem dL_law_314 : decode cL_law 314 = .ok (.ireturn, 1) := by decide +kernel
theorem dL_law_315 : decode cL_law 315 = .ok (.aload_n 1, 1) := by decide +kernel
theorem dL_law_316 : decode cL_law 316 = .ok (.invokevirtual 45, 3) := by decide +kernel
theorem dL_law_319 : decode cL_law 319 = .ok (.aload_n 2, 1) := by decide +kernel
theorem dL_law_320 : decode cL_law 320 = .ok (.invokevirtual 48, 3) := by decide +kernel
theorem dL_law_323 : decode cL_law 323 = .ok (.if_icmp .eq 238, 3) := by decide +kernel
theorem dL_law_326 : decode cL_law 326 = .ok (.iconst 0, 1) := by decide +kernel
theorem dL_law_327 : decode cL_law 327 = .ok (.ireturn, 1) := by decide +kernel
theorem dL_law_328 : decode cL_law 328 = .ok (.aload_n 1, 1) := by decide +kernel
theorem dL_law_329 : decode cL_law 329 = .ok (.aload_n 0, 1) := by decide +kernel
theorem dL_law_330 : decode cL_law 330 = .ok (.iload_n 3, 1) := by decide +kernel
theorem dL_law_331 : decode cL_law 331 = .ok (.iconst 1, 1) := by decide +kernel
theorem dL_law_332 : decode cL_law 332 = .ok (.iadd, 1) := by decide +kernel
theorem dL_law_333 : decode cL_law 333 = .ok (.iaload, 1) := by decide +kernel
theorem dL_law_334 : decode cL_law 334 = .ok (.aload_n 0, 1) := by decide +kernel
theorem dL_law_335 : decode cL_law 335 = .ok (.iload_n 3, 1) := by decide +kernel
theorem dL_law_336 : decode cL_law 336 = .ok (.iconst 2, 1) := by decide +kernel
theorem dL_law_337 : decode cL_law 337 = .ok (.iadd, 1) := by decide +kernel
theorem dL_law_338 : decode cL_law 338 = .ok (.iaload, 1) := by decide +kernel
theorem dL_law_339 : decode cL_law 339 = .ok (.invokevirtual 49, 3) := by decide +kernel
theorem dL_law_342 : decode cL_law 342 = .ok (.aload_n 2, 1) := by decide +kernel
theorem dL_law_343 : decode cL_law 343 = .ok (.aload_n 0, 1) := by decide +kernel
theorem dL_law_344 : decode cL_law 344 = .ok (.iload_n 3, 1) := by decide +kernel
theorem dL_law_345 : decode cL_law 345 = .ok (.iconst 1, 1) := by decide +kernel
theorem dL_law_346 : decode cL_law 346 = .ok (.iadd, 1) := by decide +kernel
theorem dL_law_347 : decode cL_law 347 = .ok (.iaload, 1) := by decide +kernel
theorem dL_law_348 : decode cL_law 348 = .ok (.aload_n 0, 1) := by decide +kernel
theorem dL_law_349 : decode cL_law 349 = .ok (.iload_n 3, 1) := by decide +kernel
theorem dL_law_350 : decode cL_law 350 = .ok (.iconst 2, 1) := by decide +kernel
theorem dL_law_351 : decode cL_law 351 = .ok (.iadd, 1) := by decide +kernel
theorem dL_law_352 : decode cL_law 352 = .ok (.iaload, 1) := by decide +kernel
theorem dL_law_353 : decode cL_law 353 = .ok (.invokevirtual 52, 3) := by decide +kernel
theorem dL_law_356 : decode cL_law 356 = .ok (.if_icmp .eq 205, 3) := by decide +kernel
theorem dL_law_359 : decode cL_law 359 = .ok (.iconst 0, 1) := by decide +kernel
theorem dL_law_360 : decode cL_law 360 = .ok (.ireturn, 1) := by decide +kernel
theorem dL_law_361 : decode cL_law 361 = .ok (.aload_n 1, 1) := by decide +kernel
theorem dL_law_362 : decode cL_law 362 = .ok (.aload_n 0, 1) := by decide +kernel
theorem dL_law_363 : decode cL_law 363 = .ok (.iload_n 3, 1) := by decide +kernel
theorem dL_law_364 : decode cL_law 364 = .ok (.iconst 1, 1) := by decide +kernel
theorem dL_law_365 : decode cL_law 365 = .ok (.iadd, 1) := by decide +kernel
theorem dL_law_366 : decode cL_law 366 = .ok (.iaload, 1) := by decide +kernel
theorem dL_law_367 : decode cL_law 367 = .ok (.aload_n 0, 1) := by decide +kernel
theorem dL_law_368 : decode cL_law 368 = .ok (.iload_n 3, 1) := by decide +kernel
theorem dL_law_369 : decode cL_law 369 = .ok (.iconst 2, 1) := by decide +kernel
theorem dL_law_370 : decode cL_law 370 = .ok (.iadd, 1) := by decide +kernel
theorem dL_law_371 : decode cL_law 371 = .ok (.iaload, 1) := by decide +kernel
theorem dL_law_372 : decode cL_law 372 = .ok (.aload_n 0, 1) := by decide +kernel
theorem dL_law_373 : decode cL_law 373 = .ok (.iload_n 3, 1) := by decide +kernel
theorem dL_law_374 : decode cL_law 374 = .ok (.iconst 3, 1) := by decide +kernel
theorem dL_law_375 : decode cL_law 375 = .ok (.iadd, 1) := by decide +kernel
theorem dL_law_376 : decode cL_law 376 = .ok (.iaload, 1) := by decide +kernel
theorem dL_law_377 : decode cL_law 377 = .ok (.invokevirtual 53, 3) := by decide +kernel
theorem dL_law_380 : decode cL_law 380 = .ok (.aload_n 2, 1) := by decide +kernel
theorem dL_law_381 : decode cL_law 381 = .ok (.aload_n 0, 1) := by decide +kernel
theorem dL_law_382 : decode cL_law 382 = .ok (.iload_n 3, 1) := by decide +kernel
theorem dL_law_383 : decode cL_law 383 = .ok (.iconst 1, 1) := by decide +kernel
theorem dL_law_384 : decode cL_law 384 = .ok (.iadd, 1) := by decide +kernel
theorem dL_law_385 : decode cL_law 385 = .ok (.iaload, 1) := by decide +kernel
theorem dL_law_386 : decode cL_law 386 = .ok (.aload_n 0, 1) := by decide +kernel
theorem dL_law_387 : decode cL_law 387 = .ok (.iload_n 3, 1) := by decide +kernel
theorem dL_law_388 : decode cL_law 388 = .ok (.iconst 2, 1) := by decide +kernel
theorem dL_law_389 : decode cL_law 389 = .ok (.iadd, 1) := by decide +kernel
theorem dL_law_390 : decode cL_law 390 = .ok (.iaload, 1) := by decide +kernel
theorem dL_law_391 : decode cL_law 391 = .ok (.aload_n 0, 1) := by decide +kernel
theorem dL_law_392 : decode cL_law 392 = .ok (.iload_n 3, 1) := by decide +kernel
theorem dL_law_393 : decode cL_law 393 = .ok (.iconst 3, 1) := by decide +kernel
theorem dL_law_394 : decode cL_law 394 = .ok (.iadd, 1) := by decide +kernel
theorem dL_law_395 : decode cL_law 395 = .ok (.iaload, 1) := by decide +kernel
theorem dL_law_396 : decode cL_law 396 = .ok (.invokevirtual 56, 3) := by decide +kernel
theorem dL_law_399 : decode cL_law 399 = .ok (.if_icmp .eq 162, 3) := by decide +kernel
theorem dL_law_402 : decode cL_law 402 = .ok (.iconst 0, 1) := by decide +kernel
theorem dL_law_403 : decode cL_law 403 = .ok (.ireturn, 1) := by decide +kernel
theorem dL_law_404 : decode cL_law 404 = .ok (.aload_n 1, 1) := by decide +kernel
theorem dL_law_405 : decode cL_law 405 = .ok (.invokevirtual 57, 3) := by decide +kernel
theorem dL_law_408 : decode cL_law 408 = .ok (.aload_n 2, 1) := by decide +kernel
theorem dL_law_409 : decode cL_law 409 = .ok (.invokevirtual 60, 3) := by decide +kernel
theorem dL_law_412 : decode cL_law 412 = .ok (.if_icmp .eq 149, 3) := by decide +kernel
theorem dL_law_415 : decode cL_law 415 = .ok (.iconst 0, 1) := by decide +kernel
theorem dL_law_416 : decode cL_law 416 = .ok (.ireturn, 1) := by decide +kernel
theorem dL_law_417 : decode cL_law 417 = .ok (.aload_n 1, 1) := by decide +kernel
theorem dL_law_418 : decode cL_law 418 = .ok (.aload_n 0, 1) := by decide +kernel
theorem dL_law_419 : decode cL_law 419 = .ok (.iload_n 3, 1) := by decide +kernel
theorem dL_law_420 : decode cL_law 420 = .ok (.iconst 1, 1) := by decide +kernel
theorem dL_law_421 : decode cL_law 421 = .ok (.iadd, 1) := by decide +kernel
theorem dL_law_422 : decode cL_law 422 = .ok (.iaload, 1) := by decide +kernel
theorem dL_law_423 : decode cL_law 423 = .ok (.invokevirtual 61, 3) := by decide +kernel
theorem dL_law_426 : decode cL_law 426 = .ok (.aload_n 2, 1) := by decide +kernel
theorem dL_law_427 : decode cL_law 427 = .ok (.aload_n 0, 1) := by decide +kernel
theorem dL_law_428 : decode cL_law 428 = .ok (.iload_n 3, 1) := by decide +kernel
theorem dL_law_429 : decode cL_law 429 = .ok (.iconst 1, 1) := by decide +kernel
theorem dL_law_430 : decode cL_law 430 = .ok (.iadd, 1) := by decide +kernel
theorem dL_law_431 : decode cL_law 431 = .ok (.iaload, 1) := by decide +kernel
theorem dL_law_432 : decode cL_law 432 = .ok (.invokevirtual 64, 3) := by decide +kernel
theorem dL_law_435 : decode cL_law 435 = .ok (.if_icmp .eq 126, 3) := by decide +kernel
theorem dL_law_438 : decode cL_law 438 = .ok (.iconst 0, 1) := by decide +kernel
theorem dL_law_439 : decode cL_law 439 = .ok (.ireturn, 1) := by decide +kernel
theorem dL_law_440 : decode cL_law 440 = .ok (.aload_n 1, 1) := by decide +kernel
theorem dL_law_441 : decode cL_law 441 = .ok (.invokevirtual 65, 3) := by decide +kernel
theorem dL_law_444 : decode cL_law 444 = .ok (.aload_n 2, 1) := by decide +kernel
theorem dL_law_445 : decode cL_law 445 = .ok (.invokevirtual 68, 3) := by decide +kernel
theorem dL_law_448 : decode cL_law 448 = .ok (.if_icmp .eq 113, 3) := by decide +kernel
theorem dL_law_451 : decode cL_law 451 = .ok (.iconst 0, 1) := by decide +kernel
theorem dL_law_452 : decode cL_law 452 = .ok (.ireturn, 1) := by decide +kernel
theorem dL_law_453 : decode cL_law 453 = .ok (.aload_n 1, 1) := by decide +kernel
theorem dL_law_454 : decode cL_law 454 = .ok (.invokevirtual 69, 3) := by decide +kernel
theorem dL_law_457 : decode cL_law 457 = .ok (.aload_n 2, 1) := by decide +kernel
theorem dL_law_458 : decode cL_law 458 = .ok (.invokevirtual 72, 3) := by decide +kernel
theorem dL_law_461 : decode cL_law 461 = .ok (.if_icmp .eq 100, 3) := by decide +kernel
theorem dL_law_464 : decode cL_law 464 = .ok (.iconst 0, 1) := by decide +kernel
theorem dL_law_465 : decode cL_law 465 = .ok (.ireturn, 1) := by decide +kernel
theorem dL_law_466 : decode cL_law 466 = .ok (.aload_n 1, 1) := by decide +kernel
theorem dL_law_467 : decode cL_law 467 = .ok (.aload_n 0, 1) := by decide +kernel
theorem dL_law_468 : decode cL_law 468 = .ok (.iload_n 3, 1) := by decide +kernel
theorem dL_law_469 : decode cL_law 469 = .ok (.iconst 1, 1) := by decide +kernel
theorem dL_law_470 : decode cL_law 470 = .ok (.iadd, 1) := by decide +kernel
theorem dL_law_471 : decode cL_law 471 = .ok (.iaload, 1) := by decide +kernel
theorem dL_law_472 : decode cL_law 472 = .ok (.aload_n 0, 1) := by decide +kernel
theorem dL_law_473 : decode cL_law 473 = .ok (.iload_n 3, 1) := by decide +kernel
theorem dL_law_474 : decode cL_law 474 = .ok (.iconst 2, 1) := by decide +kernel
theorem dL_law_475 : decode cL_law 475 = .ok (.iadd, 1) := by decide +kernel
theorem dL_law_476 : decode cL_law 476 = .ok (.iaload, 1) := by decide +kernel
theorem dL_law_477 : decode cL_law 477 = .ok (.invokevirtual 73, 3) := by decide +kernel
theorem dL_law_480 : decode cL_law 480 = .ok (.aload_n 2, 1) := by decide +kernel
theorem dL_law_481 : decode cL_law 481 = .ok (.aload_n 0, 1) := by decide +kernel
theorem dL_law_482 : decode cL_law 482 = .ok (.iload_n 3, 1) := by decide +kernel
theorem dL_law_483 : decode cL_law 483 = .ok (.iconst 1, 1) := by decide +kernel
theorem dL_law_484 : decode cL_law 484 = .ok (.iadd, 1) := by decide +kernel
theorem dL_law_485 : decode cL_law 485 = .ok (.iaload, 1) := by decide +kernel
theorem dL_law_486 : decode cL_law 486 = .ok (.aload_n 0, 1) := by decide +kernel
theorem dL_law_487 : decode cL_law 487 = .ok (.iload_n 3, 1) := by decide +kernel
theorem dL_law_488 : decode cL_law 488 = .ok (.iconst 2, 1) := by decide +kernel
theorem dL_law_489 : decode cL_law 489 = .ok (.iadd, 1) := by decide +kernel
theorem dL_law_490 : decode cL_law 490 = .ok (.iaload, 1) := by decide +kernel
theorem dL_law_491 : decode cL_law 491 = .ok (.invokevirtual 76, 3) := by decide +kernel
theorem dL_law_494 : decode cL_law 494 = .ok (.if_icmp .eq 67, 3) := by decide +kernel
theorem dL_law_497 : decode cL_law 497 = .ok (.iconst 0, 1) := by decide +kernel
theorem dL_law_498 : decode cL_law 498 = .ok (.ireturn, 1) := by decide +kernel
theorem dL_law_499 : decode cL_law 499 = .ok (.aload_n 1, 1) := by decide +kernel
theorem dL_law_500 : decode cL_law 500 = .ok (.invokevirtual 77, 3) := by decide +kernel
theorem dL_law_503 : decode cL_law 503 = .ok (.aload_n 2, 1) := by decide +kernel
theorem dL_law_504 : decode cL_law 504 = .ok (.invokevirtual 80, 3) := by decide +kernel
theorem dL_law_507 : decode cL_law 507 = .ok (.if_icmp .eq 54, 3) := by decide +kernel
theorem dL_law_510 : decode cL_law 510 = .ok (.iconst 0, 1) := by decide +kernel
theorem dL_law_511 : decode cL_law 511 = .ok (.ireturn, 1) := by decide +kernel
theorem dL_law_512 : decode cL_law 512 = .ok (.aload_n 1, 1) := by decide +kernel
theorem dL_law_513 : decode cL_law 513 = .ok (.aload_n 0, 1) := by decide +kernel
theorem dL_law_514 : decode cL_law 514 = .ok (.iload_n 3, 1) := by decide +kernel
theorem dL_law_515 : decode cL_law 515 = .ok (.iconst 1, 1) := by decide +kernel
theorem dL_law_516 : decode cL_law 516 = .ok (.iadd, 1) := by decide +kernel
theorem dL_law_517 : decode cL_law 517 = .ok (.iaload, 1) := by decide +kernel
theorem dL_law_518 : decode cL_law 518 = .ok (.invokevirtual 81, 3) := by decide +kernel
theorem dL_law_521 : decode cL_law 521 = .ok (.aload_n 2, 1) := by decide +kernel
theorem dL_law_522 : decode cL_law 522 = .ok (.aload_n 0, 1) := by decide +kernel
theorem dL_law_523 : decode cL_law 523 = .ok (.iload_n 3, 1) := by decide +kernel
theorem dL_law_524 : decode cL_law 524 = .ok (.iconst 1, 1) := by decide +kernel
theorem dL_law_525 : decode cL_law 525 = .ok (.iadd, 1) := by decide +kernel
theorem dL_law_526 : decode cL_law 526 = .ok (.iaload, 1) := by decide +kernel
theorem dL_law_527 : decode cL_law 527 = .ok (.invokevirtual 84, 3) := by decide +kernel
theorem dL_law_530 : decode cL_law 530 = .ok (.if_icmp .eq 31, 3) := by decide +kernel
theorem dL_law_533 : decode cL_law 533 = .ok (.iconst 0, 1) := by decide +kernel
theorem dL_law_534 : decode cL_law 534 = .ok (.ireturn, 1) := by decide +kernel
theorem dL_law_535 : decode cL_law 535 = .ok (.aload_n 1, 1) := by decide +kernel
theorem dL_law_536 : decode cL_law 536 = .ok (.invokevirtual 85, 3) := by decide +kernel
theorem dL_law_539 : decode cL_law 539 = .ok (.aload_n 2, 1) := by decide +kernel
theorem dL_law_540 : decode cL_law 540 = .ok (.invokevirtual 88, 3) := by decide +kernel
theorem dL_law_543 : decode cL_law 543 = .ok (.if_icmp .eq 18, 3) := by decide +kernel
theorem dL_law_546 : decode cL_law 546 = .ok (.iconst 0, 1) := by decide +kernel
theorem dL_law_547 : decode cL_law 547 = .ok (.ireturn, 1) := by decide +kernel
theorem dL_law_548 : decode cL_law 548 = .ok (.aload_n 1, 1) := by decide +kernel
theorem dL_law_549 : decode cL_law 549 = .ok (.invokevirtual 89, 3) := by decide +kernel
theorem dL_law_552 : decode cL_law 552 = .ok (.aload_n 2, 1) := by decide +kernel
theorem dL_law_553 : decode cL_law 553 = .ok (.invokevirtual 92, 3) := by decide +kernel
theorem dL_law_556 : decode cL_law 556 = .ok (.if_icmp .eq 5, 3) := by decide +kernel
theorem dL_law_559 : decode cL_law 559 = .ok (.iconst 0, 1) := by decide +kernel
theorem dL_law_560 : decode cL_law 560 = .ok (.ireturn, 1) := by decide +kernel
theorem dL_law_561 : decode cL_law 561 = .ok (.iinc 3 4, 3) := by decide +kernel
theorem dL_law_564 : decode cL_law 564 = .ok (.goto (-546), 3) := by decide +kernel
theorem dL_law_567 : decode cL_law 567 = .ok (.iconst 1, 1) := by decide +kernel
theorem dL_law_568 : decode cL_law 568 = .ok (.ireturn, 1) := by decide +kernel
end
section
set_option maxRecDepth 100000
theorem q22 : (Jvm.Cond.initialized "ScanDiagnoseLaw") ∈ lw_all := lw_g (lw_at lw_m1 0 rfl) rfl
theorem q25 : (Jvm.Cond.classLink "ScanDiagnoseLaw" (7 : Nat) "ScanDiagnose") ∈ lw_all := lw_g (lw_at lw_m1 3 rfl) rfl
theorem q27 : (Jvm.Cond.methodLink "ScanDiagnoseLaw" (9 : Nat) ({ cls := "ScanDiagnose", name := "<init>", desc := "()V" } : Jvm.MethodName)) ∈ lw_all := lw_g (lw_at lw_m1 5 rfl) rfl
theorem q86 : (Jvm.Cond.methodLink "ScanDiagnoseLaw" (13 : Nat) ({ cls := "ScanDiagnose", name := "gate", desc := "(III)I" } : Jvm.MethodName)) ∈ lw_all := lw_g (lw_at lw_m1 64 rfl) rfl
theorem q94 : (Jvm.Cond.methodLink "ScanDiagnoseLaw" (18 : Nat) ({ cls := "ScanDiagnose", name := "feed", desc := "(II)I" } : Jvm.MethodName)) ∈ lw_all := lw_g (lw_at lw_m1 72 rfl) rfl
theorem q98 : (Jvm.Cond.methodLink "ScanDiagnoseLaw" (23 : Nat) ({ cls := "ScanDiagnose", name := "output", desc := "(II)I" } : Jvm.MethodName)) ∈ lw_all := lw_g (lw_at lw_m1 76 rfl) rfl
theorem q102 : (Jvm.Cond.methodLink "ScanDiagnoseLaw" (27 : Nat) ({ cls := "ScanDiagnose", name := "lines", desc := "()I" } : Jvm.MethodName)) ∈ lw_all := lw_g (lw_at lw_m1 80 rfl) rfl
theorem q106 : (Jvm.Cond.methodLink "ScanDiagnoseLaw" (32 : Nat) ({ cls := "ScanDiagnose", name := "inject", desc := "(I)I" } : Jvm.MethodName)) ∈ lw_all := lw_g (lw_at lw_m1 84 rfl) rfl
theorem q114 : (Jvm.Cond.methodLink "ScanDiagnoseLaw" (37 : Nat) ({ cls := "ScanDiagnose", name := "observe", desc := "(II)I" } : Jvm.MethodName)) ∈ lw_all := lw_g (lw_at lw_m1 92 rfl) rfl
theorem q142 : (Jvm.Cond.methodLink "ScanDiagnoseLaw" (41 : Nat) ({ cls := "ScanDiagnose", name := "forget", desc := "()I" } : Jvm.MethodName)) ∈ lw_all := lw_g (lw_at lw_m1 120 rfl) rfl
theorem q146 : (Jvm.Cond.methodLink "ScanDiagnoseLaw" (45 : Nat) ({ cls := "ScanDiagnose", name := "observations", desc := "()I" } : Jvm.MethodName)) ∈ lw_all := lw_g (lw_at lw_m1 124 rfl) rfl
theorem q150 : (Jvm.Cond.methodLink "ScanDiagnoseLaw" (49 : Nat) ({ cls := "ScanDiagnose", name := "response", desc := "(II)I" } : Jvm.MethodName)) ∈ lw_all := lw_g (lw_at lw_m1 128 rfl) rfl
theorem q154 : (Jvm.Cond.methodLink "ScanDiagnoseLaw" (53 : Nat) ({ cls := "ScanDiagnose", name := "responseWith", desc := "(III)I" } : Jvm.MethodName)) ∈ lw_all := lw_g (lw_at lw_m1 132 rfl) rfl
theorem q158 : (Jvm.Cond.methodLink "ScanDiagnoseLaw" (57 : Nat) ({ cls := "ScanDiagnose", name := "candidates", desc := "()I" } : Jvm.MethodName)) ∈ lw_all := lw_g (lw_at lw_m1 136 rfl) rfl
theorem q173 : (Jvm.Cond.methodLink "ScanDiagnoseLaw" (61 : Nat) ({ cls := "ScanDiagnose", name := "candidate", desc := "(I)I" } : Jvm.MethodName)) ∈ lw_all := lw_g (lw_at lw_m1 151 rfl) rfl
theorem q177 : (Jvm.Cond.methodLink "ScanDiagnoseLaw" (65 : Nat) ({ cls := "ScanDiagnose", name := "healthy", desc := "()I" } : Jvm.MethodName)) ∈ lw_all := lw_g (lw_at lw_m1 155 rfl) rfl
theorem q181 : (Jvm.Cond.methodLink "ScanDiagnoseLaw" (69 : Nat) ({ cls := "ScanDiagnose", name := "nextPattern", desc := "()I" } : Jvm.MethodName)) ∈ lw_all := lw_g (lw_at lw_m1 159 rfl) rfl
theorem q185 : (Jvm.Cond.methodLink "ScanDiagnoseLaw" (73 : Nat) ({ cls := "ScanDiagnose", name := "detected", desc := "(II)I" } : Jvm.MethodName)) ∈ lw_all := lw_g (lw_at lw_m1 163 rfl) rfl
theorem q189 : (Jvm.Cond.methodLink "ScanDiagnoseLaw" (77 : Nat) ({ cls := "ScanDiagnose", name := "hidden", desc := "()I" } : Jvm.MethodName)) ∈ lw_all := lw_g (lw_at lw_m1 167 rfl) rfl
theorem q201 : (Jvm.Cond.methodLink "ScanDiagnoseLaw" (81 : Nat) ({ cls := "ScanDiagnose", name := "leader", desc := "(I)I" } : Jvm.MethodName)) ∈ lw_all := lw_g (lw_at lw_m1 179 rfl) rfl
theorem q208 : (Jvm.Cond.methodLink "ScanDiagnoseLaw" (85 : Nat) ({ cls := "ScanDiagnose", name := "groups", desc := "()I" } : Jvm.MethodName)) ∈ lw_all := lw_g (lw_at lw_m1 186 rfl) rfl
theorem q216 : (Jvm.Cond.methodLink "ScanDiagnoseLaw" (89 : Nat) ({ cls := "ScanDiagnose", name := "candidateGroups", desc := "()I" } : Jvm.MethodName)) ∈ lw_all := lw_g (lw_at lw_m1 194 rfl) rfl
theorem q220 : (Jvm.Cond.classLink "ScanDiagnoseLaw" (10 : Nat) "ScanDiagnoseModel") ∈ lw_all := lw_g (lw_at lw_m1 198 rfl) rfl
theorem q222 : (Jvm.Cond.methodLink "ScanDiagnoseLaw" (12 : Nat) ({ cls := "ScanDiagnoseModel", name := "<init>", desc := "()V" } : Jvm.MethodName)) ∈ lw_all := lw_g (lw_at lw_m1 200 rfl) rfl
theorem q263 : (Jvm.Cond.methodLink "ScanDiagnoseLaw" (17 : Nat) ({ cls := "ScanDiagnoseModel", name := "gate", desc := "(III)I" } : Jvm.MethodName)) ∈ lw_all := lw_g (lw_at lw_m2 1 rfl) rfl
theorem q275 : (Jvm.Cond.methodLink "ScanDiagnoseLaw" (22 : Nat) ({ cls := "ScanDiagnoseModel", name := "feed", desc := "(II)I" } : Jvm.MethodName)) ∈ lw_all := lw_g (lw_at lw_m2 13 rfl) rfl
theorem q279 : (Jvm.Cond.methodLink "ScanDiagnoseLaw" (26 : Nat) ({ cls := "ScanDiagnoseModel", name := "output", desc := "(II)I" } : Jvm.MethodName)) ∈ lw_all := lw_g (lw_at lw_m2 17 rfl) rfl
theorem q283 : (Jvm.Cond.methodLink "ScanDiagnoseLaw" (31 : Nat) ({ cls := "ScanDiagnoseModel", name := "lines", desc := "()I" } : Jvm.MethodName)) ∈ lw_all := lw_g (lw_at lw_m2 21 rfl) rfl
theorem q287 : (Jvm.Cond.methodLink "ScanDiagnoseLaw" (36 : Nat) ({ cls := "ScanDiagnoseModel", name := "inject", desc := "(I)I" } : Jvm.MethodName)) ∈ lw_all := lw_g (lw_at lw_m2 25 rfl) rfl
theorem q295 : (Jvm.Cond.methodLink "ScanDiagnoseLaw" (40 : Nat) ({ cls := "ScanDiagnoseModel", name := "observe", desc := "(II)I" } : Jvm.MethodName)) ∈ lw_all := lw_g (lw_at lw_m2 33 rfl) rfl
theorem q319 : (Jvm.Cond.methodLink "ScanDiagnoseLaw" (44 : Nat) ({ cls := "ScanDiagnoseModel", name := "forget", desc := "()I" } : Jvm.MethodName)) ∈ lw_all := lw_g (lw_at lw_m2 57 rfl) rfl
theorem q323 : (Jvm.Cond.methodLink "ScanDiagnoseLaw" (48 : Nat) ({ cls := "ScanDiagnoseModel", name := "observations", desc := "()I" } : Jvm.MethodName)) ∈ lw_all := lw_g (lw_at lw_m2 61 rfl) rfl
theorem q327 : (Jvm.Cond.methodLink "ScanDiagnoseLaw" (52 : Nat) ({ cls := "ScanDiagnoseModel", name := "response", desc := "(II)I" } : Jvm.MethodName)) ∈ lw_all := lw_g (lw_at lw_m2 65 rfl) rfl
theorem q331 : (Jvm.Cond.methodLink "ScanDiagnoseLaw" (56 : Nat) ({ cls := "ScanDiagnoseModel", name := "responseWith", desc := "(III)I" } : Jvm.MethodName)) ∈ lw_all := lw_g (lw_at lw_m2 69 rfl) rfl
theorem q335 : (Jvm.Cond.methodLink "ScanDiagnoseLaw" (60 : Nat) ({ cls := "ScanDiagnoseModel", name := "candidates", desc := "()I" } : Jvm.MethodName)) ∈ lw_all := lw_g (lw_at lw_m2 73 rfl) rfl
theorem q343 : (Jvm.Cond.methodLink "ScanDiagnoseLaw" (64 : Nat) ({ cls := "ScanDiagnoseModel", name := "candidate", desc := "(I)I" } : Jvm.MethodName)) ∈ lw_all := lw_g (lw_at lw_m2 81 rfl) rfl
theorem q347 : (Jvm.Cond.methodLink "ScanDiagnoseLaw" (68 : Nat) ({ cls := "ScanDiagnoseModel", name := "healthy", desc := "()I" } : Jvm.MethodName)) ∈ lw_all := lw_g (lw_at lw_m2 85 rfl) rfl
theorem q351 : (Jvm.Cond.methodLink "ScanDiagnoseLaw" (72 : Nat) ({ cls := "ScanDiagnoseModel", name := "nextPattern", desc := "()I" } : Jvm.MethodName)) ∈ lw_all := lw_g (lw_at lw_m2 89 rfl) rfl
theorem q355 : (Jvm.Cond.methodLink "ScanDiagnoseLaw" (76 : Nat) ({ cls := "ScanDiagnoseModel", name := "detected", desc := "(II)I" } : Jvm.MethodName)) ∈ lw_all := lw_g (lw_at lw_m2 93 rfl) rfl
theorem q359 : (Jvm.Cond.methodLink "ScanDiagnoseLaw" (80 : Nat) ({ cls := "ScanDiagnoseModel", name := "hidden", desc := "()I" } : Jvm.MethodName)) ∈ lw_all := lw_g (lw_at lw_m2 97 rfl) rfl
theorem q367 : (Jvm.Cond.methodLink "ScanDiagnoseLaw" (84 : Nat) ({ cls := "ScanDiagnoseModel", name := "leader", desc := "(I)I" } : Jvm.MethodName)) ∈ lw_all := lw_g (lw_at lw_m2 105 rfl) rfl
theorem q375 : (Jvm.Cond.methodLink "ScanDiagnoseLaw" (88 : Nat) ({ cls := "ScanDiagnoseModel", name := "groups", desc := "()I" } : Jvm.MethodName)) ∈ lw_all := lw_g (lw_at lw_m2 113 rfl) rfl
theorem q379 : (Jvm.Cond.methodLink "ScanDiagnoseLaw" (92 : Nat) ({ cls := "ScanDiagnoseModel", name := "candidateGroups", desc := "()I" } : Jvm.MethodName)) ∈ lw_all := lw_g (lw_at lw_m2 117 rfl) rfl
theorem q84 : (Jvm.Cond.arrayClass Jvm.ClassFile.FieldType.int) ∈ lw_all := lw_g (lw_at lw_m1 62 rfl) rfl
theorem q85 : (Jvm.Cond.arrayClass Jvm.ClassFile.FieldType.long) ∈ lw_all := lw_g (lw_at lw_m1 63 rfl) rfl
/-! java/lang/Object -/
def RJ0 : String := "java/lang/Object"
abbrev cJ0_init : ByteArray := object_method_1_code
def yJ0_init : MethodName := ⟨RJ0, "<init>", "()V"⟩
theorem dJ0_init_0 : decode cJ0_init 0 = .ok (.return_, 1) := by decide +kernel
theorem q31 : (Jvm.Cond.instanceMethod ({ cls := "java/lang/Object", name := "<init>", desc := "()V" } : Jvm.MethodName)) ∈ lw_all := lw_g (lw_at lw_m1 9 rfl) rfl
theorem q32 : (Jvm.Cond.code ({ cls := "java/lang/Object", name := "<init>", desc := "()V" } : Jvm.MethodName) object_method_1_code (1 : Nat) (Option.none : Option Jvm.ClassFile.FieldType)) ∈ lw_all := lw_g (lw_at lw_m1 10 rfl) rfl
end
section
/-! base: rows of our own over the kit's: the world of one object with its arrays (ten cells h 0 .. h 9), contexts, calls -/
set_option maxRecDepth 100000
abbrev vwCl : List vw_C := [(RX0, TX0, 15), (RX1, TX1, 12)]
def xD (h : Nat → Nat) : Prop := ∀ i j, i < 10 → j < 10 → h i = h j → i = j
def xB (h : Nat → Nat) : Nat → Prop := fun q => ∃ k, k < 10 ∧ q = h k
theorem x_apart {h : Nat → Nat} {w : va_W} (hD : xD h) (hw : w.map Prod.fst = (List.range 10).map h) : va_D (xB h) w := by
  have key : ∀ (k : Nat) (q : Nat × va_E), w[k]? = some q → k < 10 ∧ q.1 = h k := by
    intro k q hq
    have h1 : (w.map Prod.fst)[k]? = some q.1 := by rw [List.getElem?_map, hq]; rfl
    rw [hw, List.getElem?_map] at h1
    by_cases hk : k < 10
    · rw [List.getElem?_range hk] at h1
      exact ⟨hk, (Option.some.inj h1).symm⟩
    · rw [List.getElem?_eq_none (by rw [List.length_range]; omega)] at h1
      cases h1
  refine ⟨fun i j a b hi hj e => ?_, fun k q hq => ?_⟩
  · obtain ⟨i1, i2⟩ := key i a hi
    obtain ⟨j1, j2⟩ := key j b hj
    exact hD i j i1 j1 (by rw [← i2, ← j2]; exact e)
  · obtain ⟨k1, k2⟩ := key k q hq
    exact ⟨k, k1, k2⟩
/-- what stays the same through a method's walk: the machine, its code, its locals' number, its class, the words, the classes' places, the cells apart -/
def GC (p : Program) (s : State) (m : MethodId) (args : Array Value) (c : Code) (cc : ByteArray) (nL : Nat) (own : String) (D : va_G) (tys : List (ClassId × FieldType)) (h : Nat → Nat) : Prop :=
  p.tables.exec = Jvm.exec ∧ c.code = cc ∧ c.maxLocals = nL ∧ s.vm.findClass own = some m.cls ∧ (∀ w ∈ lw_all, w.before args s = true) ∧ va_K D vwCl tys s ∧ xD h
/-- the same for a static method: no world -/
def SC (p : Program) (s : State) (m : MethodId) (args : Array Value) (c : Code) (cc : ByteArray) (nL : Nat) (own : String) : Prop :=
  p.tables.exec = Jvm.exec ∧ c.code = cc ∧ c.maxLocals = nL ∧ s.vm.findClass own = some m.cls ∧ (∀ w ∈ lw_all, w.before args s = true)
theorem GC.sc {p : Program} {s : State} {m : MethodId} {args : Array Value} {c : Code} {cc : ByteArray} {nL : Nat} {own : String} {D : va_G} {tys : List (ClassId × FieldType)} {h : Nat → Nat} (K : GC p s m args c cc nL own D tys h) : SC p s m args c cc nL own := ⟨K.1, K.2.1, K.2.2.1, K.2.2.2.1, K.2.2.2.2.1⟩
/-- the world now -/
def GW (s : State) (D : va_G) (h : Nat → Nat) (w : va_W) (H : Heap) (locs : List Loc) : Prop := va_P D vwCl w H ∧ va_S (xB h) s.heap H locs
def GPc (D : va_G) (tys : List (ClassId × FieldType)) (h : Nat → Nat) (As : List Value) (w : va_W) : Array Value → State → Prop := va_Pc (.ref (h 0) :: As) (fun U => va_P D vwCl w U.heap ∧ va_K D vwCl tys U)
def GQv {S : Type} (D : va_G) (h : Nat → Nat) (Wd : S → va_W) (post : S → Prop) : Array Value → State → Outcome → State → Prop := va_Qv post (fun u t => va_P D vwCl (Wd u) t.heap) (xB h)
def GQi {S : Type} (D : va_G) (h : Nat → Nat) (Wd : S → va_W) (post : Int32 → S → Prop) : Array Value → State → Outcome → State → Prop := va_Qi post (fun u t => va_P D vwCl (Wd u) t.heap) (xB h)
theorem GPc.blind {D : va_G} {tys : List (ClassId × FieldType)} {h : Nat → Nat} {As : List Value} {w : va_W} : FrameBlind (GPc D tys h As w) := fun a U g mk q => by
  obtain ⟨q0, qP, qK⟩ := q
  exact ⟨q0, qP, va_K.moved (u := U) (U := U.calling g mk a) (Vm.Alike.refl U.vm) qK⟩
theorem g_met {l : Launch} {y : MethodName} {bytes : ByteArray} {maxL : Nat} {ret : Option FieldType} {rm : Room} {own : String} {D : va_G} {tys : List (ClassId × FieldType)} {h : Nat → Nat} {As : List Value} {w : va_W} {Qc : Array Value → State → Outcome → State → Prop} {mc ms : Nat} {free : Addr → Prop}
    (hyo : y.cls = own) (hy : plainName y.cls = true) (hD : xD h) (hlen : (lg_sl (.ref (h 0) :: As)).length ≤ maxL)
    (body : ∀ (p : Program) (e : Env) (s : State) (m : MethodId) (args : Array Value) (below : List Frame) (meth : Method) (c : Code) (ls : Array Slot), GC p s m args c bytes maxL own D tys h → meth.sig.returnType = ret → meth.locks = false → GW s D h w s.heap [] → lv_has ls maxL (lv_args 0 (.ref (h 0) :: As)) →
      W p l e rm s m args below meth c s.heap [] 0 0 (MQ below Qc args s mc ms free) (F0 m 0 ls [])) :
    Met l y (ws_ y bytes maxL ret) rm (GPc D tys h As w) Qc mc ms free := by
  refine Met.ofW (cc := bytes) (maxL := maxL) (ret := ret) hy rfl ?_
  intro p e s m args below meth c s₁ B hml hv
  obtain ⟨rfl, hP, hK⟩ := hv
  have hts := atoms_spec (ws := ws_ y bytes maxL ret) B.pre
  have hts : ∀ w ∈ lw_all, w.before _ s = true := fun w h => hts w (List.mem_cons_of_mem _ h)
  have hown : s.vm.findClass y.cls = some m.cls := findClass_of_methodNamed B.named
  rw [hyo] at hown
  have hl := lv_entry (.ref (h 0) :: As) hlen
  rw [lg_entry_eq]
  exact body p e s m _ below meth c _ ⟨B.exec, B.bytes, hml, hown, hts, hK, hD⟩ B.returns B.notSynchronized ⟨hP, va_S.rf⟩ hl
theorem s_met {l : Launch} {y : MethodName} {bytes : ByteArray} {maxL : Nat} {ret : Option FieldType} {rm : Room} {own : String} {As : List Value} {Qc : Array Value → State → Outcome → State → Prop} {mc ms : Nat} {free : Addr → Prop}
    (hyo : y.cls = own) (hy : plainName y.cls = true) (hlen : (lg_sl As).length ≤ maxL)
    (body : ∀ (p : Program) (e : Env) (s : State) (m : MethodId) (args : Array Value) (below : List Frame) (meth : Method) (c : Code) (ls : Array Slot), SC p s m args c bytes maxL own → meth.sig.returnType = ret → meth.locks = false → lv_has ls maxL (lv_args 0 As) →
      W p l e rm s m args below meth c s.heap [] 0 0 (MQ below Qc args s mc ms free) (F0 m 0 ls [])) :
    Met l y (ws_ y bytes maxL ret) rm (va_Pc As (fun _ => True)) Qc mc ms free := by
  refine Met.ofW (cc := bytes) (maxL := maxL) (ret := ret) hy rfl ?_
  intro p e s m args below meth c s₁ B hml hv
  obtain ⟨rfl, -⟩ := hv
  have hts := atoms_spec (ws := ws_ y bytes maxL ret) B.pre
  have hts : ∀ w ∈ lw_all, w.before _ s = true := fun w h => hts w (List.mem_cons_of_mem _ h)
  have hown : s.vm.findClass y.cls = some m.cls := findClass_of_methodNamed B.named
  rw [hyo] at hown
  have hl := lv_entry As hlen
  rw [lg_entry_eq]
  exact body p e s m _ below meth c _ ⟨B.exec, B.bytes, hml, hown, hts⟩ B.returns B.notSynchronized hl
section BR
variable {p : Program} {l : Launch} {e : Env} {R : Room} {s : State} {m : MethodId} {args : Array Value} {below : List Frame} {meth : Method} {c : Code} {H : Heap} {locs : List Loc} {cells slots : Nat} {Q : State → Prop}
variable {cc : ByteArray} {pc : Nat} {ls : Array Slot} {rest : List Value}
theorem n_iadd (hx : p.tables.exec = Jvm.exec) (hb : c.code = cc) {a b : Nat} (hdg : decode cc pc = .ok (.iadd, 1))
    (k : W p l e R s m args below meth c H locs cells slots Q (F0 m (pc + 1) ls (.int (nI (a + b)) :: rest))) : W p l e R s m args below meth c H locs cells slots Q (F0 m pc ls (.int (nI b) :: .int (nI a) :: rest)) :=
  lv_iadd hx hb hdg (by rw [nI_add]; exact k)
theorem n_imul (hx : p.tables.exec = Jvm.exec) (hb : c.code = cc) {a b : Nat} (hdg : decode cc pc = .ok (.imul, 1))
    (k : W p l e R s m args below meth c H locs cells slots Q (F0 m (pc + 1) ls (.int (nI (a * b)) :: rest))) : W p l e R s m args below meth c H locs cells slots Q (F0 m pc ls (.int (nI b) :: .int (nI a) :: rest)) :=
  lv_imul hx hb hdg (by rw [pk_mul]; exact k)
theorem n_isub (hx : p.tables.exec = Jvm.exec) (hb : c.code = cc) {a b : Nat} (hdg : decode cc pc = .ok (.isub, 1)) (h : b ≤ a)
    (k : W p l e R s m args below meth c H locs cells slots Q (F0 m (pc + 1) ls (.int (nI (a - b)) :: rest))) : W p l e R s m args below meth c H locs cells slots Q (F0 m pc ls (.int (nI b) :: .int (nI a) :: rest)) :=
  lv_isub hx hb hdg (by rw [pk_sub h]; exact k)
theorem n_tope {x y : Int32} (h : x = y) (k : W p l e R s m args below meth c H locs cells slots Q (F0 m pc ls (.int y :: rest))) : W p l e R s m args below meth c H locs cells slots Q (F0 m pc ls (.int x :: rest)) := by
  rw [h]; exact k
theorem n_topl {x y : Int64} (h : x = y) (k : W p l e R s m args below meth c H locs cells slots Q (F0 m pc ls (.long y :: rest))) : W p l e R s m args below meth c H locs cells slots Q (F0 m pc ls (.long x :: rest)) := by
  rw [h]; exact k
theorem n_ge (hx : p.tables.exec = Jvm.exec) (hb : c.code = cc) {a b : Nat} {off : Int} {tgt : Nat} (hdg : decode cc pc = .ok (.if_icmp .ge off, 3)) (ht : (pc : Int) + off = (tgt : Int)) (h1 : a < 2 ^ 31) (h2 : b < 2 ^ 31)
    (kt : b ≤ a → W p l e R s m args below meth c H locs cells slots Q (F0 m tgt ls rest)) (kf : a < b → W p l e R s m args below meth c H locs cells slots Q (F0 m (pc + 3) ls rest)) : W p l e R s m args below meth c H locs cells slots Q (F0 m pc ls (.int (nI b) :: .int (nI a) :: rest)) :=
  lv_icmp_ge hx hb hdg ht (fun q => kt ((nI_leI h2 h1).mp q)) (fun q => kf (Nat.lt_of_not_le fun z => q ((nI_leI h2 h1).mpr z)))
theorem n_lt (hx : p.tables.exec = Jvm.exec) (hb : c.code = cc) {a b : Nat} {off : Int} {tgt : Nat} (hdg : decode cc pc = .ok (.if_icmp .lt off, 3)) (ht : (pc : Int) + off = (tgt : Int)) (h1 : a < 2 ^ 31) (h2 : b < 2 ^ 31)
    (kt : a < b → W p l e R s m args below meth c H locs cells slots Q (F0 m tgt ls rest)) (kf : b ≤ a → W p l e R s m args below meth c H locs cells slots Q (F0 m (pc + 3) ls rest)) : W p l e R s m args below meth c H locs cells slots Q (F0 m pc ls (.int (nI b) :: .int (nI a) :: rest)) :=
  lv_icmp_lt hx hb hdg ht (fun q => kt ((nI_ltI h1 h2).mp q)) (fun q => kf (Nat.le_of_not_lt fun z => q ((nI_ltI h1 h2).mpr z)))
theorem n_gt (hx : p.tables.exec = Jvm.exec) (hb : c.code = cc) {a b : Nat} {off : Int} {tgt : Nat} (hdg : decode cc pc = .ok (.if_icmp .gt off, 3)) (ht : (pc : Int) + off = (tgt : Int)) (h1 : a < 2 ^ 31) (h2 : b < 2 ^ 31)
    (kt : b < a → W p l e R s m args below meth c H locs cells slots Q (F0 m tgt ls rest)) (kf : a ≤ b → W p l e R s m args below meth c H locs cells slots Q (F0 m (pc + 3) ls rest)) : W p l e R s m args below meth c H locs cells slots Q (F0 m pc ls (.int (nI b) :: .int (nI a) :: rest)) :=
  lv_icmp_gt hx hb hdg ht (fun q => kt ((nI_ltI h2 h1).mp q)) (fun q => kf (Nat.le_of_not_lt fun z => q ((nI_ltI h2 h1).mpr z)))
theorem n_le (hx : p.tables.exec = Jvm.exec) (hb : c.code = cc) {a b : Nat} {off : Int} {tgt : Nat} (hdg : decode cc pc = .ok (.if_icmp .le off, 3)) (ht : (pc : Int) + off = (tgt : Int)) (h1 : a < 2 ^ 31) (h2 : b < 2 ^ 31)
    (kt : a ≤ b → W p l e R s m args below meth c H locs cells slots Q (F0 m tgt ls rest)) (kf : b < a → W p l e R s m args below meth c H locs cells slots Q (F0 m (pc + 3) ls rest)) : W p l e R s m args below meth c H locs cells slots Q (F0 m pc ls (.int (nI b) :: .int (nI a) :: rest)) :=
  lv_icmp_le hx hb hdg ht (fun q => kt ((nI_leI h1 h2).mp q)) (fun q => kf (Nat.lt_of_not_le fun z => q ((nI_leI h1 h2).mpr z)))
theorem n_eq (hx : p.tables.exec = Jvm.exec) (hb : c.code = cc) {a b : Nat} {off : Int} {tgt : Nat} (hdg : decode cc pc = .ok (.if_icmp .eq off, 3)) (ht : (pc : Int) + off = (tgt : Int)) (h1 : a < 2 ^ 31) (h2 : b < 2 ^ 31)
    (kt : a = b → W p l e R s m args below meth c H locs cells slots Q (F0 m tgt ls rest)) (kf : a ≠ b → W p l e R s m args below meth c H locs cells slots Q (F0 m (pc + 3) ls rest)) : W p l e R s m args below meth c H locs cells slots Q (F0 m pc ls (.int (nI b) :: .int (nI a) :: rest)) :=
  lv_icmp_eq hx hb hdg ht (fun q => kt ((nI_eq h1 h2).mp q)) (fun q => kf (fun z => q ((nI_eq h1 h2).mpr z)))
theorem n_ne (hx : p.tables.exec = Jvm.exec) (hb : c.code = cc) {a b : Nat} {off : Int} {tgt : Nat} (hdg : decode cc pc = .ok (.if_icmp .ne off, 3)) (ht : (pc : Int) + off = (tgt : Int)) (h1 : a < 2 ^ 31) (h2 : b < 2 ^ 31)
    (kt : a ≠ b → W p l e R s m args below meth c H locs cells slots Q (F0 m tgt ls rest)) (kf : a = b → W p l e R s m args below meth c H locs cells slots Q (F0 m (pc + 3) ls rest)) : W p l e R s m args below meth c H locs cells slots Q (F0 m pc ls (.int (nI b) :: .int (nI a) :: rest)) :=
  lv_icmp_ne hx hb hdg ht (fun q => kt (fun z => q ((nI_eq h1 h2).mpr z))) (fun q => kf ((nI_eq h1 h2).mp q))
/-- a boolean answer that is known, asked -/
theorem n_ifne1 (hx : p.tables.exec = Jvm.exec) (hb : c.code = cc) {off : Int} {tgt : Nat} (hdg : decode cc pc = .ok (.ifCond .ne off, 3)) (ht : (pc : Int) + off = (tgt : Int))
    (k : W p l e R s m args below meth c H locs cells slots Q (F0 m tgt ls rest)) : W p l e R s m args below meth c H locs cells slots Q (F0 m pc ls (.int (nI 1) :: rest)) :=
  lv_if_ne hx hb hdg ht (fun _ => k) (fun q => absurd q (by decide))
theorem n_ifne0 (hx : p.tables.exec = Jvm.exec) (hb : c.code = cc) {off : Int} {tgt : Nat} (hdg : decode cc pc = .ok (.ifCond .ne off, 3)) (ht : (pc : Int) + off = (tgt : Int))
    (k : W p l e R s m args below meth c H locs cells slots Q (F0 m (pc + 3) ls rest)) : W p l e R s m args below meth c H locs cells slots Q (F0 m pc ls (.int (nI 0) :: rest)) :=
  lv_if_ne hx hb hdg ht (fun q => absurd rfl q) (fun _ => k)
theorem n_ifeq1 (hx : p.tables.exec = Jvm.exec) (hb : c.code = cc) {off : Int} {tgt : Nat} (hdg : decode cc pc = .ok (.ifCond .eq off, 3)) (ht : (pc : Int) + off = (tgt : Int))
    (k : W p l e R s m args below meth c H locs cells slots Q (F0 m (pc + 3) ls rest)) : W p l e R s m args below meth c H locs cells slots Q (F0 m pc ls (.int (nI 1) :: rest)) :=
  lv_if_eq hx hb hdg ht (fun q => absurd q (by decide)) (fun _ => k)
theorem n_ifeq0 (hx : p.tables.exec = Jvm.exec) (hb : c.code = cc) {off : Int} {tgt : Nat} (hdg : decode cc pc = .ok (.ifCond .eq off, 3)) (ht : (pc : Int) + off = (tgt : Int))
    (k : W p l e R s m args below meth c H locs cells slots Q (F0 m tgt ls rest)) : W p l e R s m args below meth c H locs cells slots Q (F0 m pc ls (.int (nI 0) :: rest)) :=
  lv_if_eq hx hb hdg ht (fun _ => k) (fun q => absurd rfl q)
theorem n_cmp0 {x y : Int64} : lg_cmp x y = 0 ↔ x = y := by
  unfold lg_cmp
  by_cases h1 : y < x
  · rw [if_pos h1]
    refine ⟨fun q => absurd q (by decide), fun q => ?_⟩
    rw [q, Int64.lt_iff_toInt_lt] at h1
    omega
  · rw [if_neg h1]
    by_cases h2 : x = y
    · rw [if_pos h2]; exact ⟨fun _ => h2, fun _ => rfl⟩
    · rw [if_neg h2]; exact ⟨fun q => absurd q (by decide), fun q => absurd q h2⟩
/-- two longs compared, then asked -/
theorem n_lcmpne (hx : p.tables.exec = Jvm.exec) (hb : c.code = cc) {x y : Int64} {off : Int} {tgt : Nat} (hd0 : decode cc pc = .ok (.lcmp, 1)) (hdg : decode cc (pc + 1) = .ok (.ifCond .ne off, 3)) (ht : ((pc + 1 : Nat) : Int) + off = (tgt : Int))
    (kt : x ≠ y → W p l e R s m args below meth c H locs cells slots Q (F0 m tgt ls rest)) (kf : x = y → W p l e R s m args below meth c H locs cells slots Q (F0 m (pc + 1 + 3) ls rest)) : W p l e R s m args below meth c H locs cells slots Q (F0 m pc ls (.long y :: .long x :: rest)) :=
  W.lcmp hx hb hd0 (lv_if_ne hx hb hdg ht (fun q => kt fun z => q (n_cmp0.mpr z)) (fun q => kf (n_cmp0.mp q)))
theorem n_lcmpeq (hx : p.tables.exec = Jvm.exec) (hb : c.code = cc) {x y : Int64} {off : Int} {tgt : Nat} (hd0 : decode cc pc = .ok (.lcmp, 1)) (hdg : decode cc (pc + 1) = .ok (.ifCond .eq off, 3)) (ht : ((pc + 1 : Nat) : Int) + off = (tgt : Int))
    (kt : x = y → W p l e R s m args below meth c H locs cells slots Q (F0 m tgt ls rest)) (kf : x ≠ y → W p l e R s m args below meth c H locs cells slots Q (F0 m (pc + 1 + 3) ls rest)) : W p l e R s m args below meth c H locs cells slots Q (F0 m pc ls (.long y :: .long x :: rest)) :=
  W.lcmp hx hb hd0 (lv_if_eq hx hb hdg ht (fun q => kt (n_cmp0.mp q)) (fun q => kf fun z => q (n_cmp0.mpr z)))
theorem n_lcmpge (hx : p.tables.exec = Jvm.exec) (hb : c.code = cc) {x y : Int64} {off : Int} {tgt : Nat} (hd0 : decode cc pc = .ok (.lcmp, 1)) (hdg : decode cc (pc + 1) = .ok (.ifCond .ge off, 3)) (ht : ((pc + 1 : Nat) : Int) + off = (tgt : Int))
    (kt : ¬ x < y → W p l e R s m args below meth c H locs cells slots Q (F0 m tgt ls rest)) (kf : x < y → W p l e R s m args below meth c H locs cells slots Q (F0 m (pc + 1 + 3) ls rest)) : W p l e R s m args below meth c H locs cells slots Q (F0 m pc ls (.long y :: .long x :: rest)) := by
  have h9 : ¬ x < y ↔ y ≤ x := by rw [Int64.lt_iff_toInt_lt, Int64.le_iff_toInt_le]; omega
  refine W.lcmp hx hb hd0 (lv_if_ge hx hb hdg ht (fun q => kt (h9.mpr ((lg_cmp_ge x y).mp q))) (fun q => kf ?_))
  by_cases h8 : x < y
  · exact h8
  · exact absurd ((lg_cmp_ge x y).mpr (h9.mp h8)) q
/-! calls -/
variable {y : MethodName} {bytes : ByteArray} {maxL nL index n : Nat} {rm : Room} {own : String} {D : va_G} {tys : List (ClassId × FieldType)} {h : Nat → Nat} {As st0 : List Value}
theorem g_callv {S : Type} {Wd : S → va_W} {w : va_W} {post : S → Prop} (K : GC p s m args c cc nL own D tys h) (w0 : GW s D h w H locs) {ci : Nat} {q : vw_C} {fs : List Value} (hM : Met l y (ws_ y bytes maxL none) rm (GPc D tys h As w) (GQv D h Wd post) 0 0 (xB h))
    (cw : CallW R s args own q.1 index y bytes maxL none (ws_ y bytes maxL none) rm 0 0 n) (hc : vwCl[ci]? = some q) (he : w[0]? = some (h 0, .inr (ci, fs))) (hn : As.length = n) (hsize : ls.size = nL) (hst : st0 = As.reverse ++ .ref (h 0) :: rest) (hW : (rest.map fun v => v.category).sum ≤ 8) (hdg : decode cc pc = .ok (.invokevirtual index, 3)) (hf : cells ≤ R.cells ∧ slots ≤ R.slots)
    (kk : ∀ (u : S) (H1 : Heap) (locs1 : List Loc), post u → GW s D h (Wd u) H1 locs1 → W p l e R s m args below meth c H1 locs1 cells slots Q (F0 m (pc + 3) ls rest)) : W p l e R s m args below meth c H locs cells slots Q (F0 m pc ls st0) := by
  obtain ⟨hx, hb, hml, hown, hts, hK, hD⟩ := K
  refine va_callv (va_runV (As := As) (rest := rest) ⟨hx, hb, hml, hown, hts⟩ hM cw ⟨GPc.blind, va_recv hK w0.1 hc he, fun U hU hW => ⟨rfl, by rw [hU]; exact w0.1, va_K.moved hW.alike hK⟩⟩ rfl hn hsize hst (lv_room hW) hdg hf) w0.2 (fun q _ h => h) (fun q h => h) (fun u t H1 locs ht hvm hp hB hz1 hk1 hS => ?_)
  exact kk u H1 locs hp ⟨by rw [← ht]; exact hB, hS⟩
theorem g_calli {S : Type} {Wd : S → va_W} {w : va_W} {ty : Option FieldType} {post : Int32 → S → Prop} (K : GC p s m args c cc nL own D tys h) (w0 : GW s D h w H locs) {ci : Nat} {q : vw_C} {fs : List Value} (hM : Met l y (ws_ y bytes maxL ty) rm (GPc D tys h As w) (GQi D h Wd post) 0 0 (xB h))
    (cw : CallW R s args own q.1 index y bytes maxL ty (ws_ y bytes maxL ty) rm 0 0 n) (hc : vwCl[ci]? = some q) (he : w[0]? = some (h 0, .inr (ci, fs))) (hn : As.length = n) (hsize : ls.size = nL) (hst : st0 = As.reverse ++ .ref (h 0) :: rest) (hW : (rest.map fun v => v.category).sum ≤ 8) (hdg : decode cc pc = .ok (.invokevirtual index, 3)) (hf : cells ≤ R.cells ∧ slots ≤ R.slots)
    (kk : ∀ (r : Int32) (u : S) (H1 : Heap) (locs1 : List Loc), post r u → GW s D h (Wd u) H1 locs1 → W p l e R s m args below meth c H1 locs1 cells slots Q (F0 m (pc + 3) ls (.int r :: rest))) : W p l e R s m args below meth c H locs cells slots Q (F0 m pc ls st0) := by
  obtain ⟨hx, hb, hml, hown, hts, hK, hD⟩ := K
  refine va_calli (va_runV (As := As) (rest := rest) ⟨hx, hb, hml, hown, hts⟩ hM cw ⟨GPc.blind, va_recv hK w0.1 hc he, fun U hU hW => ⟨rfl, by rw [hU]; exact w0.1, va_K.moved hW.alike hK⟩⟩ rfl hn hsize hst (lv_room hW) hdg hf) w0.2 (fun q _ h => h) (fun q h => h) (fun r u t H1 locs ht hvm hp hB hz1 hk1 hS => ?_)
  exact kk r u H1 locs hp ⟨by rw [← ht]; exact hB, hS⟩
/-- a call that changes nothing: int (or boolean), long -/
theorem g_readi {w : va_W} {ty : Option FieldType} {post : Int32 → Prop} (K : GC p s m args c cc nL own D tys h) (w0 : GW s D h w H locs) {ci : Nat} {q : vw_C} {fs : List Value} (hM : Met l y (ws_ y bytes maxL ty) rm (GPc D tys h As w) (vp_Si post) 0 0 (fun _ => False))
    (cw : CallW R s args own q.1 index y bytes maxL ty (ws_ y bytes maxL ty) rm 0 0 n) (hc : vwCl[ci]? = some q) (he : w[0]? = some (h 0, .inr (ci, fs))) (hn : As.length = n) (hsize : ls.size = nL) (hst : st0 = As.reverse ++ .ref (h 0) :: rest) (hW : (rest.map fun v => v.category).sum ≤ 8) (hdg : decode cc pc = .ok (.invokevirtual index, 3)) (hf : cells ≤ R.cells ∧ slots ≤ R.slots)
    (kk : ∀ (r : Int32), post r → W p l e R s m args below meth c H locs cells slots Q (F0 m (pc + 3) ls (.int r :: rest))) : W p l e R s m args below meth c H locs cells slots Q (F0 m pc ls st0) := by
  obtain ⟨hx, hb, hml, hown, hts, hK, hD⟩ := K
  exact vp_callSi (W.runV (As := As) (rest := rest) ⟨hx, hb, hml, hown, hts⟩ hM cw ⟨GPc.blind, va_recv hK w0.1 hc he, fun U hU hW => ⟨rfl, by rw [hU]; exact w0.1, va_K.moved hW.alike hK⟩⟩ rfl hn hsize hst (lv_room hW) hdg hf) kk
theorem g_readl {w : va_W} {ty : Option FieldType} {post : Int64 → Prop} (K : GC p s m args c cc nL own D tys h) (w0 : GW s D h w H locs) {ci : Nat} {q : vw_C} {fs : List Value} (hM : Met l y (ws_ y bytes maxL ty) rm (GPc D tys h As w) (vp_Sl post) 0 0 (fun _ => False))
    (cw : CallW R s args own q.1 index y bytes maxL ty (ws_ y bytes maxL ty) rm 0 0 n) (hc : vwCl[ci]? = some q) (he : w[0]? = some (h 0, .inr (ci, fs))) (hn : As.length = n) (hsize : ls.size = nL) (hst : st0 = As.reverse ++ .ref (h 0) :: rest) (hW : (rest.map fun v => v.category).sum ≤ 8) (hdg : decode cc pc = .ok (.invokevirtual index, 3)) (hf : cells ≤ R.cells ∧ slots ≤ R.slots)
    (kk : ∀ (r : Int64), post r → W p l e R s m args below meth c H locs cells slots Q (F0 m (pc + 3) ls (.long r :: rest))) : W p l e R s m args below meth c H locs cells slots Q (F0 m pc ls st0) := by
  obtain ⟨hx, hb, hml, hown, hts, hK, hD⟩ := K
  exact vp_callSl (W.runV (As := As) (rest := rest) ⟨hx, hb, hml, hown, hts⟩ hM cw ⟨GPc.blind, va_recv hK w0.1 hc he, fun U hU hW => ⟨rfl, by rw [hU]; exact w0.1, va_K.moved hW.alike hK⟩⟩ rfl hn hsize hst (lv_room hW) hdg hf) kk
/-- static calls that touch no cell -/
theorem s_calli {ty : Option FieldType} {post : Int32 → Prop} (K : SC p s m args c cc nL own) (hM : Met l y (ws_ y bytes maxL ty) rm (va_Pc As (fun _ => True)) (vp_Si post) 0 0 (fun _ => False))
    (cw : CallB R s args own index y bytes maxL ty (ws_ y bytes maxL ty) rm 0 0 n ∧ (Cond.static y).before args s = true) (hn : As.length = n) (hsize : ls.size = nL) (hst : st0 = As.reverse ++ rest) (hW : (rest.map fun v => v.category).sum ≤ 8) (hdg : decode cc pc = .ok (.invokestatic index, 3)) (hf : cells ≤ R.cells ∧ slots ≤ R.slots)
    (kk : ∀ (r : Int32), post r → W p l e R s m args below meth c H locs cells slots Q (F0 m (pc + 3) ls (.int r :: rest))) : W p l e R s m args below meth c H locs cells slots Q (F0 m pc ls st0) :=
  vp_callSi (W.runS (As := As) (rest := rest) K hM cw ⟨fun a U g mk q => q, fun U hU hW => ⟨rfl, trivial⟩⟩ rfl hn hsize hst (lv_room hW) hdg hf) kk
theorem s_calll {ty : Option FieldType} {post : Int64 → Prop} (K : SC p s m args c cc nL own) (hM : Met l y (ws_ y bytes maxL ty) rm (va_Pc As (fun _ => True)) (vp_Sl post) 0 0 (fun _ => False))
    (cw : CallB R s args own index y bytes maxL ty (ws_ y bytes maxL ty) rm 0 0 n ∧ (Cond.static y).before args s = true) (hn : As.length = n) (hsize : ls.size = nL) (hst : st0 = As.reverse ++ rest) (hW : (rest.map fun v => v.category).sum ≤ 8) (hdg : decode cc pc = .ok (.invokestatic index, 3)) (hf : cells ≤ R.cells ∧ slots ≤ R.slots)
    (kk : ∀ (r : Int64), post r → W p l e R s m args below meth c H locs cells slots Q (F0 m (pc + 3) ls (.long r :: rest))) : W p l e R s m args below meth c H locs cells slots Q (F0 m pc ls st0) :=
  vp_callSl (W.runS (As := As) (rest := rest) K hM cw ⟨fun a U g mk q => q, fun U hU hW => ⟨rfl, trivial⟩⟩ rfl hn hsize hst (lv_room hW) hdg hf) kk
end BR
theorem n_inc (i : Nat) : nI i + Int32.ofInt 1 = nI (i + 1) := nI_1 i
theorem n_inc4 (i : Nat) : nI i + Int32.ofInt 4 = nI (i + 4) := nI_add i 4
end
section
/-! the two worlds: the component's object with its nine arrays, the model's with its nine; a row a field, a row an array -/
set_option maxRecDepth 100000
/-- a circuit: how many gates; their kinds, first and second inputs; the feeds; the outputs -/
abbrev Cfg : Type := Nat × (Nat → Int32) × (Nat → Int32) × (Nat → Int32) × (Nat → Int32) × (Nat → Int32)
abbrev cg (C : Cfg) : Nat := C.1
abbrev ckd (C : Cfg) : Nat → Int32 := C.2.1
abbrev cf1 (C : Cfg) : Nat → Int32 := C.2.2.1
abbrev cf2 (C : Cfg) : Nat → Int32 := C.2.2.2.1
abbrev cfd (C : Cfg) : Nat → Int32 := C.2.2.2.2.1
abbrev cop (C : Cfg) : Nat → Int32 := C.2.2.2.2.2
/-- the component: circuit, device, noted, left, likeHealthy, grouped, words, states, answers, like -/
abbrev XS : Type := Cfg × Int32 × Nat × Int64 × Int64 × Nat × (Nat → Int64) × (Nat → Int64) × (Nat → Int64) × (Nat → Int64)
/-- the model: circuit, device, noted, pattern, cycles, answer, value -/
abbrev MS : Type := Cfg × Int32 × Nat × (Nat → Int32) × (Nat → Int32) × (Nat → Int32) × (Nat → Int32)
abbrev tyX (di dj : ClassId) : List (ClassId × FieldType) := [(di, .int), (dj, .long)]
abbrev tyM (di : ClassId) : List (ClassId × FieldType) := [(di, .int)]
abbrev fX (h : Nat → Nat) (u : XS) : List Value := [.ref (h 1), .ref (h 2), .ref (h 3), .ref (h 4), .ref (h 5), .ref (h 6), .ref (h 7), .ref (h 8), .ref (h 9), .int (nI (cg u.1)), .int u.2.1, .int (nI u.2.2.1), .long u.2.2.2.1, .long u.2.2.2.2.1, .int (nI u.2.2.2.2.2.1)]
def wX (di dj : ClassId) (h : Nat → Nat) (u : XS) : va_W := [(h 0, .inr (0, fX h u)), (h 1, .inl (di, 14, .inl (ckd u.1))), (h 2, .inl (di, 14, .inl (cf1 u.1))), (h 3, .inl (di, 14, .inl (cf2 u.1))), (h 4, .inl (di, 3, .inl (cfd u.1))), (h 5, .inl (di, 2, .inl (cop u.1))), (h 6, .inl (dj, 21, .inr (.inl u.2.2.2.2.2.2.1))), (h 7, .inl (dj, 3, .inr (.inl u.2.2.2.2.2.2.2.1))), (h 8, .inl (dj, 5, .inr (.inl u.2.2.2.2.2.2.2.2.1))), (h 9, .inl (dj, 42, .inr (.inl u.2.2.2.2.2.2.2.2.2)))]
abbrev fM (h : Nat → Nat) (u : MS) : List Value := [.int (nI (cg u.1)), .ref (h 1), .ref (h 2), .ref (h 3), .ref (h 4), .ref (h 5), .int u.2.1, .int (nI u.2.2.1), .ref (h 6), .ref (h 7), .ref (h 8), .ref (h 9)]
def wM (di : ClassId) (h : Nat → Nat) (u : MS) : va_W := [(h 0, .inr (1, fM h u)), (h 1, .inl (di, 14, .inl (ckd u.1))), (h 2, .inl (di, 14, .inl (cf1 u.1))), (h 3, .inl (di, 14, .inl (cf2 u.1))), (h 4, .inl (di, 3, .inl (cfd u.1))), (h 5, .inl (di, 2, .inl (cop u.1))), (h 6, .inl (di, 20, .inl u.2.2.2.1)), (h 7, .inl (di, 20, .inl u.2.2.2.2.1)), (h 8, .inl (di, 20, .inl u.2.2.2.2.2.1)), (h 9, .inl (di, 21, .inl u.2.2.2.2.2.2))]
theorem wX_apart {di dj : ClassId} {h : Nat → Nat} {u : XS} (hD : xD h) : va_D (xB h) (wX di dj h u) := x_apart hD rfl
theorem wM_apart {di : ClassId} {h : Nat → Nat} {u : MS} (hD : xD h) : va_D (xB h) (wM di h u) := x_apart hD rfl
section WR
variable {p : Program} {l : Launch} {e : Env} {R : Room} {s : State} {m : MethodId} {args : Array Value} {below : List Frame} {meth : Method} {c : Code} {H : Heap} {locs : List Loc} {cells slots : Nat} {Q : State → Prop}
variable {cc : ByteArray} {pc : Nat} {ls : Array Slot} {rest : List Value} {nL : Nat} {D : va_G} {di dj : ClassId} {h : Nat → Nat}
variable {C : Cfg} {g : Nat} {kd f1 f2 fd op : Nat → Int32} {dv : Int32} {nt : Nat} {lf lh : Int64} {gr : Nat} {wo st an lk : Nat → Int64} {pt cy aw va : Nat → Int32}
theorem xg_kinds (K : GC p s m args c cc nL RX0 D (tyX di dj) h) (w : GW s D h (wX di dj h (C, dv, nt, lf, lh, gr, wo, st, an, lk)) H locs) (hdg : decode cc pc = .ok (.getfield 7, 3))
    (kk : W p l e R s m args below meth c H locs cells slots Q (F0 m (pc + 3) ls (.ref (h 1) :: rest))) : W p l e R s m args below meth c H locs cells slots Q (F0 m pc ls (.ref (h 0) :: rest)) :=
  va_get (D := D) (ci := 0) (v := .ref (h 1)) (C := RX0) (T := TX0) (N := 15) K.1 K.2.1 K.2.2.2.2.1 in_X0 K.2.2.2.1 K.2.2.2.2.2.1 w.1 0 rfl rfl 0 (by decide) (K.2.2.2.2.1 _ q38) (fun _ h9 => h9) rfl hdg kk
theorem xg_firsts (K : GC p s m args c cc nL RX0 D (tyX di dj) h) (w : GW s D h (wX di dj h (C, dv, nt, lf, lh, gr, wo, st, an, lk)) H locs) (hdg : decode cc pc = .ok (.getfield 13, 3))
    (kk : W p l e R s m args below meth c H locs cells slots Q (F0 m (pc + 3) ls (.ref (h 2) :: rest))) : W p l e R s m args below meth c H locs cells slots Q (F0 m pc ls (.ref (h 0) :: rest)) :=
  va_get (D := D) (ci := 0) (v := .ref (h 2)) (C := RX0) (T := TX0) (N := 15) K.1 K.2.1 K.2.2.2.2.1 in_X0 K.2.2.2.1 K.2.2.2.2.2.1 w.1 0 rfl rfl 1 (by decide) (K.2.2.2.2.1 _ q39) (fun _ h9 => h9) rfl hdg kk
theorem xg_seconds (K : GC p s m args c cc nL RX0 D (tyX di dj) h) (w : GW s D h (wX di dj h (C, dv, nt, lf, lh, gr, wo, st, an, lk)) H locs) (hdg : decode cc pc = .ok (.getfield 16, 3))
    (kk : W p l e R s m args below meth c H locs cells slots Q (F0 m (pc + 3) ls (.ref (h 3) :: rest))) : W p l e R s m args below meth c H locs cells slots Q (F0 m pc ls (.ref (h 0) :: rest)) :=
  va_get (D := D) (ci := 0) (v := .ref (h 3)) (C := RX0) (T := TX0) (N := 15) K.1 K.2.1 K.2.2.2.2.1 in_X0 K.2.2.2.1 K.2.2.2.2.2.1 w.1 0 rfl rfl 2 (by decide) (K.2.2.2.2.1 _ q40) (fun _ h9 => h9) rfl hdg kk
theorem xg_feeds (K : GC p s m args c cc nL RX0 D (tyX di dj) h) (w : GW s D h (wX di dj h (C, dv, nt, lf, lh, gr, wo, st, an, lk)) H locs) (hdg : decode cc pc = .ok (.getfield 19, 3))
    (kk : W p l e R s m args below meth c H locs cells slots Q (F0 m (pc + 3) ls (.ref (h 4) :: rest))) : W p l e R s m args below meth c H locs cells slots Q (F0 m pc ls (.ref (h 0) :: rest)) :=
  va_get (D := D) (ci := 0) (v := .ref (h 4)) (C := RX0) (T := TX0) (N := 15) K.1 K.2.1 K.2.2.2.2.1 in_X0 K.2.2.2.1 K.2.2.2.2.2.1 w.1 0 rfl rfl 3 (by decide) (K.2.2.2.2.1 _ q41) (fun _ h9 => h9) rfl hdg kk
theorem xg_outputs (K : GC p s m args c cc nL RX0 D (tyX di dj) h) (w : GW s D h (wX di dj h (C, dv, nt, lf, lh, gr, wo, st, an, lk)) H locs) (hdg : decode cc pc = .ok (.getfield 22, 3))
    (kk : W p l e R s m args below meth c H locs cells slots Q (F0 m (pc + 3) ls (.ref (h 5) :: rest))) : W p l e R s m args below meth c H locs cells slots Q (F0 m pc ls (.ref (h 0) :: rest)) :=
  va_get (D := D) (ci := 0) (v := .ref (h 5)) (C := RX0) (T := TX0) (N := 15) K.1 K.2.1 K.2.2.2.2.1 in_X0 K.2.2.2.1 K.2.2.2.2.2.1 w.1 0 rfl rfl 4 (by decide) (K.2.2.2.2.1 _ q42) (fun _ h9 => h9) rfl hdg kk
theorem xg_words (K : GC p s m args c cc nL RX0 D (tyX di dj) h) (w : GW s D h (wX di dj h (C, dv, nt, lf, lh, gr, wo, st, an, lk)) H locs) (hdg : decode cc pc = .ok (.getfield 25, 3))
    (kk : W p l e R s m args below meth c H locs cells slots Q (F0 m (pc + 3) ls (.ref (h 6) :: rest))) : W p l e R s m args below meth c H locs cells slots Q (F0 m pc ls (.ref (h 0) :: rest)) :=
  va_get (D := D) (ci := 0) (v := .ref (h 6)) (C := RX0) (T := TX0) (N := 15) K.1 K.2.1 K.2.2.2.2.1 in_X0 K.2.2.2.1 K.2.2.2.2.2.1 w.1 0 rfl rfl 5 (by decide) (K.2.2.2.2.1 _ q43) (fun _ h9 => h9) rfl hdg kk
theorem xg_states (K : GC p s m args c cc nL RX0 D (tyX di dj) h) (w : GW s D h (wX di dj h (C, dv, nt, lf, lh, gr, wo, st, an, lk)) H locs) (hdg : decode cc pc = .ok (.getfield 29, 3))
    (kk : W p l e R s m args below meth c H locs cells slots Q (F0 m (pc + 3) ls (.ref (h 7) :: rest))) : W p l e R s m args below meth c H locs cells slots Q (F0 m pc ls (.ref (h 0) :: rest)) :=
  va_get (D := D) (ci := 0) (v := .ref (h 7)) (C := RX0) (T := TX0) (N := 15) K.1 K.2.1 K.2.2.2.2.1 in_X0 K.2.2.2.1 K.2.2.2.2.2.1 w.1 0 rfl rfl 6 (by decide) (K.2.2.2.2.1 _ q44) (fun _ h9 => h9) rfl hdg kk
theorem xg_answers (K : GC p s m args c cc nL RX0 D (tyX di dj) h) (w : GW s D h (wX di dj h (C, dv, nt, lf, lh, gr, wo, st, an, lk)) H locs) (hdg : decode cc pc = .ok (.getfield 32, 3))
    (kk : W p l e R s m args below meth c H locs cells slots Q (F0 m (pc + 3) ls (.ref (h 8) :: rest))) : W p l e R s m args below meth c H locs cells slots Q (F0 m pc ls (.ref (h 0) :: rest)) :=
  va_get (D := D) (ci := 0) (v := .ref (h 8)) (C := RX0) (T := TX0) (N := 15) K.1 K.2.1 K.2.2.2.2.1 in_X0 K.2.2.2.1 K.2.2.2.2.2.1 w.1 0 rfl rfl 7 (by decide) (K.2.2.2.2.1 _ q45) (fun _ h9 => h9) rfl hdg kk
theorem xg_like (K : GC p s m args c cc nL RX0 D (tyX di dj) h) (w : GW s D h (wX di dj h (C, dv, nt, lf, lh, gr, wo, st, an, lk)) H locs) (hdg : decode cc pc = .ok (.getfield 35, 3))
    (kk : W p l e R s m args below meth c H locs cells slots Q (F0 m (pc + 3) ls (.ref (h 9) :: rest))) : W p l e R s m args below meth c H locs cells slots Q (F0 m pc ls (.ref (h 0) :: rest)) :=
  va_get (D := D) (ci := 0) (v := .ref (h 9)) (C := RX0) (T := TX0) (N := 15) K.1 K.2.1 K.2.2.2.2.1 in_X0 K.2.2.2.1 K.2.2.2.2.2.1 w.1 0 rfl rfl 8 (by decide) (K.2.2.2.2.1 _ q46) (fun _ h9 => h9) rfl hdg kk
theorem xg_gates (K : GC p s m args c cc nL RX0 D (tyX di dj) h) (w : GW s D h (wX di dj h (C, dv, nt, lf, lh, gr, wo, st, an, lk)) H locs) (hdg : decode cc pc = .ok (.getfield 49, 3))
    (kk : W p l e R s m args below meth c H locs cells slots Q (F0 m (pc + 3) ls (.int (nI (cg C)) :: rest))) : W p l e R s m args below meth c H locs cells slots Q (F0 m pc ls (.ref (h 0) :: rest)) :=
  va_get (D := D) (ci := 0) (v := .int (nI (cg C))) (C := RX0) (T := TX0) (N := 15) K.1 K.2.1 K.2.2.2.2.1 in_X0 K.2.2.2.1 K.2.2.2.2.2.1 w.1 0 rfl rfl 9 (by decide) (K.2.2.2.2.1 _ q47) (fun _ h9 => h9) rfl hdg kk
theorem xg_device (K : GC p s m args c cc nL RX0 D (tyX di dj) h) (w : GW s D h (wX di dj h (C, dv, nt, lf, lh, gr, wo, st, an, lk)) H locs) (hdg : decode cc pc = .ok (.getfield 38, 3))
    (kk : W p l e R s m args below meth c H locs cells slots Q (F0 m (pc + 3) ls (.int dv :: rest))) : W p l e R s m args below meth c H locs cells slots Q (F0 m pc ls (.ref (h 0) :: rest)) :=
  va_get (D := D) (ci := 0) (v := .int dv) (C := RX0) (T := TX0) (N := 15) K.1 K.2.1 K.2.2.2.2.1 in_X0 K.2.2.2.1 K.2.2.2.2.2.1 w.1 0 rfl rfl 10 (by decide) (K.2.2.2.2.1 _ q48) (fun _ h9 => h9) rfl hdg kk
theorem xg_noted (K : GC p s m args c cc nL RX0 D (tyX di dj) h) (w : GW s D h (wX di dj h (C, dv, nt, lf, lh, gr, wo, st, an, lk)) H locs) (hdg : decode cc pc = .ok (.getfield 61, 3))
    (kk : W p l e R s m args below meth c H locs cells slots Q (F0 m (pc + 3) ls (.int (nI nt) :: rest))) : W p l e R s m args below meth c H locs cells slots Q (F0 m pc ls (.ref (h 0) :: rest)) :=
  va_get (D := D) (ci := 0) (v := .int (nI nt)) (C := RX0) (T := TX0) (N := 15) K.1 K.2.1 K.2.2.2.2.1 in_X0 K.2.2.2.1 K.2.2.2.2.2.1 w.1 0 rfl rfl 11 (by decide) (K.2.2.2.2.1 _ q49) (fun _ h9 => h9) rfl hdg kk
theorem xg_left (K : GC p s m args c cc nL RX0 D (tyX di dj) h) (w : GW s D h (wX di dj h (C, dv, nt, lf, lh, gr, wo, st, an, lk)) H locs) (hdg : decode cc pc = .ok (.getfield 72, 3))
    (kk : W p l e R s m args below meth c H locs cells slots Q (F0 m (pc + 3) ls (.long lf :: rest))) : W p l e R s m args below meth c H locs cells slots Q (F0 m pc ls (.ref (h 0) :: rest)) :=
  va_get (D := D) (ci := 0) (v := .long lf) (C := RX0) (T := TX0) (N := 15) K.1 K.2.1 K.2.2.2.2.1 in_X0 K.2.2.2.1 K.2.2.2.2.2.1 w.1 0 rfl rfl 12 (by decide) (K.2.2.2.2.1 _ q50) (fun _ h9 => h9) rfl hdg kk
theorem xg_likeHealthy (K : GC p s m args c cc nL RX0 D (tyX di dj) h) (w : GW s D h (wX di dj h (C, dv, nt, lf, lh, gr, wo, st, an, lk)) H locs) (hdg : decode cc pc = .ok (.getfield 89, 3))
    (kk : W p l e R s m args below meth c H locs cells slots Q (F0 m (pc + 3) ls (.long lh :: rest))) : W p l e R s m args below meth c H locs cells slots Q (F0 m pc ls (.ref (h 0) :: rest)) :=
  va_get (D := D) (ci := 0) (v := .long lh) (C := RX0) (T := TX0) (N := 15) K.1 K.2.1 K.2.2.2.2.1 in_X0 K.2.2.2.1 K.2.2.2.2.2.1 w.1 0 rfl rfl 13 (by decide) (K.2.2.2.2.1 _ q51) (fun _ h9 => h9) rfl hdg kk
theorem xg_grouped (K : GC p s m args c cc nL RX0 D (tyX di dj) h) (w : GW s D h (wX di dj h (C, dv, nt, lf, lh, gr, wo, st, an, lk)) H locs) (hdg : decode cc pc = .ok (.getfield 98, 3))
    (kk : W p l e R s m args below meth c H locs cells slots Q (F0 m (pc + 3) ls (.int (nI gr) :: rest))) : W p l e R s m args below meth c H locs cells slots Q (F0 m pc ls (.ref (h 0) :: rest)) :=
  va_get (D := D) (ci := 0) (v := .int (nI gr)) (C := RX0) (T := TX0) (N := 15) K.1 K.2.1 K.2.2.2.2.1 in_X0 K.2.2.2.1 K.2.2.2.2.2.1 w.1 0 rfl rfl 14 (by decide) (K.2.2.2.2.1 _ q52) (fun _ h9 => h9) rfl hdg kk
theorem xp_gates {g1 : Nat} (K : GC p s m args c cc nL RX0 D (tyX di dj) h) (w : GW s D h (wX di dj h ((g, kd, f1, f2, fd, op), dv, nt, lf, lh, gr, wo, st, an, lk)) H locs) (hdg : decode cc pc = .ok (.putfield 49, 3))
    (kk : ∀ (H1 : Heap) (locs1 : List Loc), GW s D h (wX di dj h ((g1, kd, f1, f2, fd, op), dv, nt, lf, lh, gr, wo, st, an, lk)) H1 locs1 → W p l e R s m args below meth c H1 locs1 cells slots Q (F0 m (pc + 3) ls rest)) : W p l e R s m args below meth c H locs cells slots Q (F0 m pc ls (.int (nI g1) :: .ref (h 0) :: rest)) :=
  va_put (D := D) (ci := 0) (v := .int (nI g1)) (ty := .int) (C := RX0) (T := TX0) (N := 15) K.1 K.2.1 K.2.2.2.2.1 in_X0 tyX0 tyX0_ok nmX0 K.2.2.2.1 K.2.2.2.2.2.1 w.1 (wX_apart K.2.2.2.2.2.2) w.2 0 rfl rfl 9 (by decide) (K.2.2.2.2.1 _ q47) (fun _ h9 => h9) rfl (by decide +kernel) rfl rfl (Nat.le_of_ble_eq_true rfl) hdg (fun H1 locs1 hP hD hS => kk H1 locs1 ⟨hP, hS⟩)
theorem xp_device {d1 : Int32} (K : GC p s m args c cc nL RX0 D (tyX di dj) h) (w : GW s D h (wX di dj h (C, dv, nt, lf, lh, gr, wo, st, an, lk)) H locs) (hdg : decode cc pc = .ok (.putfield 38, 3))
    (kk : ∀ (H1 : Heap) (locs1 : List Loc), GW s D h (wX di dj h (C, d1, nt, lf, lh, gr, wo, st, an, lk)) H1 locs1 → W p l e R s m args below meth c H1 locs1 cells slots Q (F0 m (pc + 3) ls rest)) : W p l e R s m args below meth c H locs cells slots Q (F0 m pc ls (.int d1 :: .ref (h 0) :: rest)) :=
  va_put (D := D) (ci := 0) (v := .int d1) (ty := .int) (C := RX0) (T := TX0) (N := 15) K.1 K.2.1 K.2.2.2.2.1 in_X0 tyX0 tyX0_ok nmX0 K.2.2.2.1 K.2.2.2.2.2.1 w.1 (wX_apart K.2.2.2.2.2.2) w.2 0 rfl rfl 10 (by decide) (K.2.2.2.2.1 _ q48) (fun _ h9 => h9) rfl (by decide +kernel) rfl rfl (Nat.le_of_ble_eq_true rfl) hdg (fun H1 locs1 hP hD hS => kk H1 locs1 ⟨hP, hS⟩)
theorem xp_noted {n1 : Nat} (K : GC p s m args c cc nL RX0 D (tyX di dj) h) (w : GW s D h (wX di dj h (C, dv, nt, lf, lh, gr, wo, st, an, lk)) H locs) (hdg : decode cc pc = .ok (.putfield 61, 3))
    (kk : ∀ (H1 : Heap) (locs1 : List Loc), GW s D h (wX di dj h (C, dv, n1, lf, lh, gr, wo, st, an, lk)) H1 locs1 → W p l e R s m args below meth c H1 locs1 cells slots Q (F0 m (pc + 3) ls rest)) : W p l e R s m args below meth c H locs cells slots Q (F0 m pc ls (.int (nI n1) :: .ref (h 0) :: rest)) :=
  va_put (D := D) (ci := 0) (v := .int (nI n1)) (ty := .int) (C := RX0) (T := TX0) (N := 15) K.1 K.2.1 K.2.2.2.2.1 in_X0 tyX0 tyX0_ok nmX0 K.2.2.2.1 K.2.2.2.2.2.1 w.1 (wX_apart K.2.2.2.2.2.2) w.2 0 rfl rfl 11 (by decide) (K.2.2.2.2.1 _ q49) (fun _ h9 => h9) rfl (by decide +kernel) rfl rfl (Nat.le_of_ble_eq_true rfl) hdg (fun H1 locs1 hP hD hS => kk H1 locs1 ⟨hP, hS⟩)
theorem xp_left {x1 : Int64} (K : GC p s m args c cc nL RX0 D (tyX di dj) h) (w : GW s D h (wX di dj h (C, dv, nt, lf, lh, gr, wo, st, an, lk)) H locs) (hdg : decode cc pc = .ok (.putfield 72, 3))
    (kk : ∀ (H1 : Heap) (locs1 : List Loc), GW s D h (wX di dj h (C, dv, nt, x1, lh, gr, wo, st, an, lk)) H1 locs1 → W p l e R s m args below meth c H1 locs1 cells slots Q (F0 m (pc + 3) ls rest)) : W p l e R s m args below meth c H locs cells slots Q (F0 m pc ls (.long x1 :: .ref (h 0) :: rest)) :=
  va_put (D := D) (ci := 0) (v := .long x1) (ty := .long) (C := RX0) (T := TX0) (N := 15) K.1 K.2.1 K.2.2.2.2.1 in_X0 tyX0 tyX0_ok nmX0 K.2.2.2.1 K.2.2.2.2.2.1 w.1 (wX_apart K.2.2.2.2.2.2) w.2 0 rfl rfl 12 (by decide) (K.2.2.2.2.1 _ q50) (fun _ h9 => h9) rfl (by decide +kernel) rfl rfl (Nat.le_of_ble_eq_true rfl) hdg (fun H1 locs1 hP hD hS => kk H1 locs1 ⟨hP, hS⟩)
theorem xp_likeHealthy {x1 : Int64} (K : GC p s m args c cc nL RX0 D (tyX di dj) h) (w : GW s D h (wX di dj h (C, dv, nt, lf, lh, gr, wo, st, an, lk)) H locs) (hdg : decode cc pc = .ok (.putfield 89, 3))
    (kk : ∀ (H1 : Heap) (locs1 : List Loc), GW s D h (wX di dj h (C, dv, nt, lf, x1, gr, wo, st, an, lk)) H1 locs1 → W p l e R s m args below meth c H1 locs1 cells slots Q (F0 m (pc + 3) ls rest)) : W p l e R s m args below meth c H locs cells slots Q (F0 m pc ls (.long x1 :: .ref (h 0) :: rest)) :=
  va_put (D := D) (ci := 0) (v := .long x1) (ty := .long) (C := RX0) (T := TX0) (N := 15) K.1 K.2.1 K.2.2.2.2.1 in_X0 tyX0 tyX0_ok nmX0 K.2.2.2.1 K.2.2.2.2.2.1 w.1 (wX_apart K.2.2.2.2.2.2) w.2 0 rfl rfl 13 (by decide) (K.2.2.2.2.1 _ q51) (fun _ h9 => h9) rfl (by decide +kernel) rfl rfl (Nat.le_of_ble_eq_true rfl) hdg (fun H1 locs1 hP hD hS => kk H1 locs1 ⟨hP, hS⟩)
theorem xp_grouped0 (K : GC p s m args c cc nL RX0 D (tyX di dj) h) (w : GW s D h (wX di dj h (C, dv, nt, lf, lh, gr, wo, st, an, lk)) H locs) (hdg : decode cc pc = .ok (.putfield 98, 3))
    (kk : ∀ (H1 : Heap) (locs1 : List Loc), GW s D h (wX di dj h (C, dv, nt, lf, lh, 0, wo, st, an, lk)) H1 locs1 → W p l e R s m args below meth c H1 locs1 cells slots Q (F0 m (pc + 3) ls rest)) : W p l e R s m args below meth c H locs cells slots Q (F0 m pc ls (.int (nI 0) :: .ref (h 0) :: rest)) :=
  va_put (D := D) (ci := 0) (v := .int (nI 0)) (ty := .boolean) (C := RX0) (T := TX0) (N := 15) K.1 K.2.1 K.2.2.2.2.1 in_X0 tyX0 tyX0_ok nmX0 K.2.2.2.1 K.2.2.2.2.2.1 w.1 (wX_apart K.2.2.2.2.2.2) w.2 0 rfl rfl 14 (by decide) (K.2.2.2.2.1 _ q52) (fun _ h9 => h9) rfl (by decide +kernel) rfl rfl (Nat.le_of_ble_eq_true rfl) hdg (fun H1 locs1 hP hD hS => kk H1 locs1 ⟨hP, hS⟩)
theorem xp_grouped1 (K : GC p s m args c cc nL RX0 D (tyX di dj) h) (w : GW s D h (wX di dj h (C, dv, nt, lf, lh, gr, wo, st, an, lk)) H locs) (hdg : decode cc pc = .ok (.putfield 98, 3))
    (kk : ∀ (H1 : Heap) (locs1 : List Loc), GW s D h (wX di dj h (C, dv, nt, lf, lh, 1, wo, st, an, lk)) H1 locs1 → W p l e R s m args below meth c H1 locs1 cells slots Q (F0 m (pc + 3) ls rest)) : W p l e R s m args below meth c H locs cells slots Q (F0 m pc ls (.int (nI 1) :: .ref (h 0) :: rest)) :=
  va_put (D := D) (ci := 0) (v := .int (nI 1)) (ty := .boolean) (C := RX0) (T := TX0) (N := 15) K.1 K.2.1 K.2.2.2.2.1 in_X0 tyX0 tyX0_ok nmX0 K.2.2.2.1 K.2.2.2.2.2.1 w.1 (wX_apart K.2.2.2.2.2.2) w.2 0 rfl rfl 14 (by decide) (K.2.2.2.2.1 _ q52) (fun _ h9 => h9) rfl (by decide +kernel) rfl rfl (Nat.le_of_ble_eq_true rfl) hdg (fun H1 locs1 hP hD hS => kk H1 locs1 ⟨hP, hS⟩)
theorem xl_kinds {k : Nat} (K : GC p s m args c cc nL RX0 D (tyX di dj) h) (w : GW s D h (wX di dj h (C, dv, nt, lf, lh, gr, wo, st, an, lk)) H locs) (hk : k < 14) (hdg : decode cc pc = .ok (.iaload, 1))
    (kk : W p l e R s m args below meth c H locs cells slots Q (F0 m (pc + 1) ls (.int (ckd C k) :: rest))) : W p l e R s m args below meth c H locs cells slots Q (F0 m pc ls (.int (nI k) :: .ref (h 1) :: rest)) := by
  have e9 : (nI k).toNatClampNeg = k := nI_clamp (by omega)
  refine va_iald K.1 K.2.1 K.2.2.2.2.2.1 w.1 1 0 rfl rfl (vp_in_nI hk (by decide)) hdg ?_
  rw [e9]
  exact kk
theorem xs_kinds {k : Nat} {x1 : Int32} (K : GC p s m args c cc nL RX0 D (tyX di dj) h) (w : GW s D h (wX di dj h ((g, kd, f1, f2, fd, op), dv, nt, lf, lh, gr, wo, st, an, lk)) H locs) (hk : k < 14) (hdg : decode cc pc = .ok (.iastore, 1))
    (kk : ∀ (H1 : Heap) (locs1 : List Loc), GW s D h (wX di dj h ((g, upd kd k x1, f1, f2, fd, op), dv, nt, lf, lh, gr, wo, st, an, lk)) H1 locs1 → W p l e R s m args below meth c H1 locs1 cells slots Q (F0 m (pc + 1) ls rest)) : W p l e R s m args below meth c H locs cells slots Q (F0 m pc ls (.int x1 :: .int (nI k) :: .ref (h 1) :: rest)) := by
  have e9 : (nI k).toNatClampNeg = k := nI_clamp (by omega)
  refine va_iast K.1 K.2.1 K.2.2.2.2.2.1 w.1 (wX_apart K.2.2.2.2.2.2) w.2 1 0 rfl rfl (vp_in_nI hk (by decide)) hdg (fun H1 locs1 hP hD hS => ?_)
  rw [e9] at hP
  exact kk H1 locs1 ⟨hP, hS⟩
theorem xl_firsts {k : Nat} (K : GC p s m args c cc nL RX0 D (tyX di dj) h) (w : GW s D h (wX di dj h (C, dv, nt, lf, lh, gr, wo, st, an, lk)) H locs) (hk : k < 14) (hdg : decode cc pc = .ok (.iaload, 1))
    (kk : W p l e R s m args below meth c H locs cells slots Q (F0 m (pc + 1) ls (.int (cf1 C k) :: rest))) : W p l e R s m args below meth c H locs cells slots Q (F0 m pc ls (.int (nI k) :: .ref (h 2) :: rest)) := by
  have e9 : (nI k).toNatClampNeg = k := nI_clamp (by omega)
  refine va_iald K.1 K.2.1 K.2.2.2.2.2.1 w.1 2 0 rfl rfl (vp_in_nI hk (by decide)) hdg ?_
  rw [e9]
  exact kk
theorem xs_firsts {k : Nat} {x1 : Int32} (K : GC p s m args c cc nL RX0 D (tyX di dj) h) (w : GW s D h (wX di dj h ((g, kd, f1, f2, fd, op), dv, nt, lf, lh, gr, wo, st, an, lk)) H locs) (hk : k < 14) (hdg : decode cc pc = .ok (.iastore, 1))
    (kk : ∀ (H1 : Heap) (locs1 : List Loc), GW s D h (wX di dj h ((g, kd, upd f1 k x1, f2, fd, op), dv, nt, lf, lh, gr, wo, st, an, lk)) H1 locs1 → W p l e R s m args below meth c H1 locs1 cells slots Q (F0 m (pc + 1) ls rest)) : W p l e R s m args below meth c H locs cells slots Q (F0 m pc ls (.int x1 :: .int (nI k) :: .ref (h 2) :: rest)) := by
  have e9 : (nI k).toNatClampNeg = k := nI_clamp (by omega)
  refine va_iast K.1 K.2.1 K.2.2.2.2.2.1 w.1 (wX_apart K.2.2.2.2.2.2) w.2 2 0 rfl rfl (vp_in_nI hk (by decide)) hdg (fun H1 locs1 hP hD hS => ?_)
  rw [e9] at hP
  exact kk H1 locs1 ⟨hP, hS⟩
theorem xl_seconds {k : Nat} (K : GC p s m args c cc nL RX0 D (tyX di dj) h) (w : GW s D h (wX di dj h (C, dv, nt, lf, lh, gr, wo, st, an, lk)) H locs) (hk : k < 14) (hdg : decode cc pc = .ok (.iaload, 1))
    (kk : W p l e R s m args below meth c H locs cells slots Q (F0 m (pc + 1) ls (.int (cf2 C k) :: rest))) : W p l e R s m args below meth c H locs cells slots Q (F0 m pc ls (.int (nI k) :: .ref (h 3) :: rest)) := by
  have e9 : (nI k).toNatClampNeg = k := nI_clamp (by omega)
  refine va_iald K.1 K.2.1 K.2.2.2.2.2.1 w.1 3 0 rfl rfl (vp_in_nI hk (by decide)) hdg ?_
  rw [e9]
  exact kk
theorem xs_seconds {k : Nat} {x1 : Int32} (K : GC p s m args c cc nL RX0 D (tyX di dj) h) (w : GW s D h (wX di dj h ((g, kd, f1, f2, fd, op), dv, nt, lf, lh, gr, wo, st, an, lk)) H locs) (hk : k < 14) (hdg : decode cc pc = .ok (.iastore, 1))
    (kk : ∀ (H1 : Heap) (locs1 : List Loc), GW s D h (wX di dj h ((g, kd, f1, upd f2 k x1, fd, op), dv, nt, lf, lh, gr, wo, st, an, lk)) H1 locs1 → W p l e R s m args below meth c H1 locs1 cells slots Q (F0 m (pc + 1) ls rest)) : W p l e R s m args below meth c H locs cells slots Q (F0 m pc ls (.int x1 :: .int (nI k) :: .ref (h 3) :: rest)) := by
  have e9 : (nI k).toNatClampNeg = k := nI_clamp (by omega)
  refine va_iast K.1 K.2.1 K.2.2.2.2.2.1 w.1 (wX_apart K.2.2.2.2.2.2) w.2 3 0 rfl rfl (vp_in_nI hk (by decide)) hdg (fun H1 locs1 hP hD hS => ?_)
  rw [e9] at hP
  exact kk H1 locs1 ⟨hP, hS⟩
theorem xl_feeds {k : Nat} (K : GC p s m args c cc nL RX0 D (tyX di dj) h) (w : GW s D h (wX di dj h (C, dv, nt, lf, lh, gr, wo, st, an, lk)) H locs) (hk : k < 3) (hdg : decode cc pc = .ok (.iaload, 1))
    (kk : W p l e R s m args below meth c H locs cells slots Q (F0 m (pc + 1) ls (.int (cfd C k) :: rest))) : W p l e R s m args below meth c H locs cells slots Q (F0 m pc ls (.int (nI k) :: .ref (h 4) :: rest)) := by
  have e9 : (nI k).toNatClampNeg = k := nI_clamp (by omega)
  refine va_iald K.1 K.2.1 K.2.2.2.2.2.1 w.1 4 0 rfl rfl (vp_in_nI hk (by decide)) hdg ?_
  rw [e9]
  exact kk
theorem xs_feeds {k : Nat} {x1 : Int32} (K : GC p s m args c cc nL RX0 D (tyX di dj) h) (w : GW s D h (wX di dj h ((g, kd, f1, f2, fd, op), dv, nt, lf, lh, gr, wo, st, an, lk)) H locs) (hk : k < 3) (hdg : decode cc pc = .ok (.iastore, 1))
    (kk : ∀ (H1 : Heap) (locs1 : List Loc), GW s D h (wX di dj h ((g, kd, f1, f2, upd fd k x1, op), dv, nt, lf, lh, gr, wo, st, an, lk)) H1 locs1 → W p l e R s m args below meth c H1 locs1 cells slots Q (F0 m (pc + 1) ls rest)) : W p l e R s m args below meth c H locs cells slots Q (F0 m pc ls (.int x1 :: .int (nI k) :: .ref (h 4) :: rest)) := by
  have e9 : (nI k).toNatClampNeg = k := nI_clamp (by omega)
  refine va_iast K.1 K.2.1 K.2.2.2.2.2.1 w.1 (wX_apart K.2.2.2.2.2.2) w.2 4 0 rfl rfl (vp_in_nI hk (by decide)) hdg (fun H1 locs1 hP hD hS => ?_)
  rw [e9] at hP
  exact kk H1 locs1 ⟨hP, hS⟩
theorem xl_outputs {k : Nat} (K : GC p s m args c cc nL RX0 D (tyX di dj) h) (w : GW s D h (wX di dj h (C, dv, nt, lf, lh, gr, wo, st, an, lk)) H locs) (hk : k < 2) (hdg : decode cc pc = .ok (.iaload, 1))
    (kk : W p l e R s m args below meth c H locs cells slots Q (F0 m (pc + 1) ls (.int (cop C k) :: rest))) : W p l e R s m args below meth c H locs cells slots Q (F0 m pc ls (.int (nI k) :: .ref (h 5) :: rest)) := by
  have e9 : (nI k).toNatClampNeg = k := nI_clamp (by omega)
  refine va_iald K.1 K.2.1 K.2.2.2.2.2.1 w.1 5 0 rfl rfl (vp_in_nI hk (by decide)) hdg ?_
  rw [e9]
  exact kk
theorem xs_outputs {k : Nat} {x1 : Int32} (K : GC p s m args c cc nL RX0 D (tyX di dj) h) (w : GW s D h (wX di dj h ((g, kd, f1, f2, fd, op), dv, nt, lf, lh, gr, wo, st, an, lk)) H locs) (hk : k < 2) (hdg : decode cc pc = .ok (.iastore, 1))
    (kk : ∀ (H1 : Heap) (locs1 : List Loc), GW s D h (wX di dj h ((g, kd, f1, f2, fd, upd op k x1), dv, nt, lf, lh, gr, wo, st, an, lk)) H1 locs1 → W p l e R s m args below meth c H1 locs1 cells slots Q (F0 m (pc + 1) ls rest)) : W p l e R s m args below meth c H locs cells slots Q (F0 m pc ls (.int x1 :: .int (nI k) :: .ref (h 5) :: rest)) := by
  have e9 : (nI k).toNatClampNeg = k := nI_clamp (by omega)
  refine va_iast K.1 K.2.1 K.2.2.2.2.2.1 w.1 (wX_apart K.2.2.2.2.2.2) w.2 5 0 rfl rfl (vp_in_nI hk (by decide)) hdg (fun H1 locs1 hP hD hS => ?_)
  rw [e9] at hP
  exact kk H1 locs1 ⟨hP, hS⟩
theorem xl_words {k : Nat} (K : GC p s m args c cc nL RX0 D (tyX di dj) h) (w : GW s D h (wX di dj h (C, dv, nt, lf, lh, gr, wo, st, an, lk)) H locs) (hk : k < 21) (hdg : decode cc pc = .ok (.laload, 1))
    (kk : W p l e R s m args below meth c H locs cells slots Q (F0 m (pc + 1) ls (.long (wo k) :: rest))) : W p l e R s m args below meth c H locs cells slots Q (F0 m pc ls (.int (nI k) :: .ref (h 6) :: rest)) := by
  have e9 : (nI k).toNatClampNeg = k := nI_clamp (by omega)
  refine va_lald K.1 K.2.1 K.2.2.2.2.2.1 w.1 6 1 rfl rfl (vp_in_nI hk (by decide)) hdg ?_
  rw [e9]
  exact kk
theorem xs_words {k : Nat} {x1 : Int64} (K : GC p s m args c cc nL RX0 D (tyX di dj) h) (w : GW s D h (wX di dj h (C, dv, nt, lf, lh, gr, wo, st, an, lk)) H locs) (hk : k < 21) (hdg : decode cc pc = .ok (.lastore, 1))
    (kk : ∀ (H1 : Heap) (locs1 : List Loc), GW s D h (wX di dj h (C, dv, nt, lf, lh, gr, vp_updL wo k x1, st, an, lk)) H1 locs1 → W p l e R s m args below meth c H1 locs1 cells slots Q (F0 m (pc + 1) ls rest)) : W p l e R s m args below meth c H locs cells slots Q (F0 m pc ls (.long x1 :: .int (nI k) :: .ref (h 6) :: rest)) := by
  have e9 : (nI k).toNatClampNeg = k := nI_clamp (by omega)
  refine va_last K.1 K.2.1 K.2.2.2.2.2.1 w.1 (wX_apart K.2.2.2.2.2.2) w.2 6 1 rfl rfl (vp_in_nI hk (by decide)) hdg (fun H1 locs1 hP hD hS => ?_)
  rw [e9] at hP
  exact kk H1 locs1 ⟨hP, hS⟩
theorem xl_states {k : Nat} (K : GC p s m args c cc nL RX0 D (tyX di dj) h) (w : GW s D h (wX di dj h (C, dv, nt, lf, lh, gr, wo, st, an, lk)) H locs) (hk : k < 3) (hdg : decode cc pc = .ok (.laload, 1))
    (kk : W p l e R s m args below meth c H locs cells slots Q (F0 m (pc + 1) ls (.long (st k) :: rest))) : W p l e R s m args below meth c H locs cells slots Q (F0 m pc ls (.int (nI k) :: .ref (h 7) :: rest)) := by
  have e9 : (nI k).toNatClampNeg = k := nI_clamp (by omega)
  refine va_lald K.1 K.2.1 K.2.2.2.2.2.1 w.1 7 1 rfl rfl (vp_in_nI hk (by decide)) hdg ?_
  rw [e9]
  exact kk
theorem xs_states {k : Nat} {x1 : Int64} (K : GC p s m args c cc nL RX0 D (tyX di dj) h) (w : GW s D h (wX di dj h (C, dv, nt, lf, lh, gr, wo, st, an, lk)) H locs) (hk : k < 3) (hdg : decode cc pc = .ok (.lastore, 1))
    (kk : ∀ (H1 : Heap) (locs1 : List Loc), GW s D h (wX di dj h (C, dv, nt, lf, lh, gr, wo, vp_updL st k x1, an, lk)) H1 locs1 → W p l e R s m args below meth c H1 locs1 cells slots Q (F0 m (pc + 1) ls rest)) : W p l e R s m args below meth c H locs cells slots Q (F0 m pc ls (.long x1 :: .int (nI k) :: .ref (h 7) :: rest)) := by
  have e9 : (nI k).toNatClampNeg = k := nI_clamp (by omega)
  refine va_last K.1 K.2.1 K.2.2.2.2.2.1 w.1 (wX_apart K.2.2.2.2.2.2) w.2 7 1 rfl rfl (vp_in_nI hk (by decide)) hdg (fun H1 locs1 hP hD hS => ?_)
  rw [e9] at hP
  exact kk H1 locs1 ⟨hP, hS⟩
theorem xl_answers {k : Nat} (K : GC p s m args c cc nL RX0 D (tyX di dj) h) (w : GW s D h (wX di dj h (C, dv, nt, lf, lh, gr, wo, st, an, lk)) H locs) (hk : k < 5) (hdg : decode cc pc = .ok (.laload, 1))
    (kk : W p l e R s m args below meth c H locs cells slots Q (F0 m (pc + 1) ls (.long (an k) :: rest))) : W p l e R s m args below meth c H locs cells slots Q (F0 m pc ls (.int (nI k) :: .ref (h 8) :: rest)) := by
  have e9 : (nI k).toNatClampNeg = k := nI_clamp (by omega)
  refine va_lald K.1 K.2.1 K.2.2.2.2.2.1 w.1 8 1 rfl rfl (vp_in_nI hk (by decide)) hdg ?_
  rw [e9]
  exact kk
theorem xs_answers {k : Nat} {x1 : Int64} (K : GC p s m args c cc nL RX0 D (tyX di dj) h) (w : GW s D h (wX di dj h (C, dv, nt, lf, lh, gr, wo, st, an, lk)) H locs) (hk : k < 5) (hdg : decode cc pc = .ok (.lastore, 1))
    (kk : ∀ (H1 : Heap) (locs1 : List Loc), GW s D h (wX di dj h (C, dv, nt, lf, lh, gr, wo, st, vp_updL an k x1, lk)) H1 locs1 → W p l e R s m args below meth c H1 locs1 cells slots Q (F0 m (pc + 1) ls rest)) : W p l e R s m args below meth c H locs cells slots Q (F0 m pc ls (.long x1 :: .int (nI k) :: .ref (h 8) :: rest)) := by
  have e9 : (nI k).toNatClampNeg = k := nI_clamp (by omega)
  refine va_last K.1 K.2.1 K.2.2.2.2.2.1 w.1 (wX_apart K.2.2.2.2.2.2) w.2 8 1 rfl rfl (vp_in_nI hk (by decide)) hdg (fun H1 locs1 hP hD hS => ?_)
  rw [e9] at hP
  exact kk H1 locs1 ⟨hP, hS⟩
theorem xl_like {k : Nat} (K : GC p s m args c cc nL RX0 D (tyX di dj) h) (w : GW s D h (wX di dj h (C, dv, nt, lf, lh, gr, wo, st, an, lk)) H locs) (hk : k < 42) (hdg : decode cc pc = .ok (.laload, 1))
    (kk : W p l e R s m args below meth c H locs cells slots Q (F0 m (pc + 1) ls (.long (lk k) :: rest))) : W p l e R s m args below meth c H locs cells slots Q (F0 m pc ls (.int (nI k) :: .ref (h 9) :: rest)) := by
  have e9 : (nI k).toNatClampNeg = k := nI_clamp (by omega)
  refine va_lald K.1 K.2.1 K.2.2.2.2.2.1 w.1 9 1 rfl rfl (vp_in_nI hk (by decide)) hdg ?_
  rw [e9]
  exact kk
theorem xs_like {k : Nat} {x1 : Int64} (K : GC p s m args c cc nL RX0 D (tyX di dj) h) (w : GW s D h (wX di dj h (C, dv, nt, lf, lh, gr, wo, st, an, lk)) H locs) (hk : k < 42) (hdg : decode cc pc = .ok (.lastore, 1))
    (kk : ∀ (H1 : Heap) (locs1 : List Loc), GW s D h (wX di dj h (C, dv, nt, lf, lh, gr, wo, st, an, vp_updL lk k x1)) H1 locs1 → W p l e R s m args below meth c H1 locs1 cells slots Q (F0 m (pc + 1) ls rest)) : W p l e R s m args below meth c H locs cells slots Q (F0 m pc ls (.long x1 :: .int (nI k) :: .ref (h 9) :: rest)) := by
  have e9 : (nI k).toNatClampNeg = k := nI_clamp (by omega)
  refine va_last K.1 K.2.1 K.2.2.2.2.2.1 w.1 (wX_apart K.2.2.2.2.2.2) w.2 9 1 rfl rfl (vp_in_nI hk (by decide)) hdg (fun H1 locs1 hP hD hS => ?_)
  rw [e9] at hP
  exact kk H1 locs1 ⟨hP, hS⟩
theorem mg_gates (K : GC p s m args c cc nL RX1 D (tyM di) h) (w : GW s D h (wM di h (C, dv, nt, pt, cy, aw, va)) H locs) (hdg : decode cc pc = .ok (.getfield 41, 3))
    (kk : W p l e R s m args below meth c H locs cells slots Q (F0 m (pc + 3) ls (.int (nI (cg C)) :: rest))) : W p l e R s m args below meth c H locs cells slots Q (F0 m pc ls (.ref (h 0) :: rest)) :=
  va_get (D := D) (ci := 1) (v := .int (nI (cg C))) (C := RX1) (T := TX1) (N := 12) K.1 K.2.1 K.2.2.2.2.1 in_X1 K.2.2.2.1 K.2.2.2.2.2.1 w.1 0 rfl rfl 0 (by decide) (K.2.2.2.2.1 _ q226) (fun _ h9 => h9) rfl hdg kk
theorem mg_kind (K : GC p s m args c cc nL RX1 D (tyM di) h) (w : GW s D h (wM di h (C, dv, nt, pt, cy, aw, va)) H locs) (hdg : decode cc pc = .ok (.getfield 7, 3))
    (kk : W p l e R s m args below meth c H locs cells slots Q (F0 m (pc + 3) ls (.ref (h 1) :: rest))) : W p l e R s m args below meth c H locs cells slots Q (F0 m pc ls (.ref (h 0) :: rest)) :=
  va_get (D := D) (ci := 1) (v := .ref (h 1)) (C := RX1) (T := TX1) (N := 12) K.1 K.2.1 K.2.2.2.2.1 in_X1 K.2.2.2.1 K.2.2.2.2.2.1 w.1 0 rfl rfl 1 (by decide) (K.2.2.2.2.1 _ q227) (fun _ h9 => h9) rfl hdg kk
theorem mg_first (K : GC p s m args c cc nL RX1 D (tyM di) h) (w : GW s D h (wM di h (C, dv, nt, pt, cy, aw, va)) H locs) (hdg : decode cc pc = .ok (.getfield 13, 3))
    (kk : W p l e R s m args below meth c H locs cells slots Q (F0 m (pc + 3) ls (.ref (h 2) :: rest))) : W p l e R s m args below meth c H locs cells slots Q (F0 m pc ls (.ref (h 0) :: rest)) :=
  va_get (D := D) (ci := 1) (v := .ref (h 2)) (C := RX1) (T := TX1) (N := 12) K.1 K.2.1 K.2.2.2.2.1 in_X1 K.2.2.2.1 K.2.2.2.2.2.1 w.1 0 rfl rfl 2 (by decide) (K.2.2.2.2.1 _ q228) (fun _ h9 => h9) rfl hdg kk
theorem mg_second (K : GC p s m args c cc nL RX1 D (tyM di) h) (w : GW s D h (wM di h (C, dv, nt, pt, cy, aw, va)) H locs) (hdg : decode cc pc = .ok (.getfield 16, 3))
    (kk : W p l e R s m args below meth c H locs cells slots Q (F0 m (pc + 3) ls (.ref (h 3) :: rest))) : W p l e R s m args below meth c H locs cells slots Q (F0 m pc ls (.ref (h 0) :: rest)) :=
  va_get (D := D) (ci := 1) (v := .ref (h 3)) (C := RX1) (T := TX1) (N := 12) K.1 K.2.1 K.2.2.2.2.1 in_X1 K.2.2.2.1 K.2.2.2.2.2.1 w.1 0 rfl rfl 3 (by decide) (K.2.2.2.2.1 _ q229) (fun _ h9 => h9) rfl hdg kk
theorem mg_feeds (K : GC p s m args c cc nL RX1 D (tyM di) h) (w : GW s D h (wM di h (C, dv, nt, pt, cy, aw, va)) H locs) (hdg : decode cc pc = .ok (.getfield 19, 3))
    (kk : W p l e R s m args below meth c H locs cells slots Q (F0 m (pc + 3) ls (.ref (h 4) :: rest))) : W p l e R s m args below meth c H locs cells slots Q (F0 m pc ls (.ref (h 0) :: rest)) :=
  va_get (D := D) (ci := 1) (v := .ref (h 4)) (C := RX1) (T := TX1) (N := 12) K.1 K.2.1 K.2.2.2.2.1 in_X1 K.2.2.2.1 K.2.2.2.2.2.1 w.1 0 rfl rfl 4 (by decide) (K.2.2.2.2.1 _ q230) (fun _ h9 => h9) rfl hdg kk
theorem mg_outputs (K : GC p s m args c cc nL RX1 D (tyM di) h) (w : GW s D h (wM di h (C, dv, nt, pt, cy, aw, va)) H locs) (hdg : decode cc pc = .ok (.getfield 22, 3))
    (kk : W p l e R s m args below meth c H locs cells slots Q (F0 m (pc + 3) ls (.ref (h 5) :: rest))) : W p l e R s m args below meth c H locs cells slots Q (F0 m pc ls (.ref (h 0) :: rest)) :=
  va_get (D := D) (ci := 1) (v := .ref (h 5)) (C := RX1) (T := TX1) (N := 12) K.1 K.2.1 K.2.2.2.2.1 in_X1 K.2.2.2.1 K.2.2.2.2.2.1 w.1 0 rfl rfl 5 (by decide) (K.2.2.2.2.1 _ q231) (fun _ h9 => h9) rfl hdg kk
theorem mg_device (K : GC p s m args c cc nL RX1 D (tyM di) h) (w : GW s D h (wM di h (C, dv, nt, pt, cy, aw, va)) H locs) (hdg : decode cc pc = .ok (.getfield 25, 3))
    (kk : W p l e R s m args below meth c H locs cells slots Q (F0 m (pc + 3) ls (.int dv :: rest))) : W p l e R s m args below meth c H locs cells slots Q (F0 m pc ls (.ref (h 0) :: rest)) :=
  va_get (D := D) (ci := 1) (v := .int dv) (C := RX1) (T := TX1) (N := 12) K.1 K.2.1 K.2.2.2.2.1 in_X1 K.2.2.2.1 K.2.2.2.2.2.1 w.1 0 rfl rfl 6 (by decide) (K.2.2.2.2.1 _ q232) (fun _ h9 => h9) rfl hdg kk
theorem mg_noted (K : GC p s m args c cc nL RX1 D (tyM di) h) (w : GW s D h (wM di h (C, dv, nt, pt, cy, aw, va)) H locs) (hdg : decode cc pc = .ok (.getfield 52, 3))
    (kk : W p l e R s m args below meth c H locs cells slots Q (F0 m (pc + 3) ls (.int (nI nt) :: rest))) : W p l e R s m args below meth c H locs cells slots Q (F0 m pc ls (.ref (h 0) :: rest)) :=
  va_get (D := D) (ci := 1) (v := .int (nI nt)) (C := RX1) (T := TX1) (N := 12) K.1 K.2.1 K.2.2.2.2.1 in_X1 K.2.2.2.1 K.2.2.2.2.2.1 w.1 0 rfl rfl 7 (by decide) (K.2.2.2.2.1 _ q233) (fun _ h9 => h9) rfl hdg kk
theorem mg_pattern (K : GC p s m args c cc nL RX1 D (tyM di) h) (w : GW s D h (wM di h (C, dv, nt, pt, cy, aw, va)) H locs) (hdg : decode cc pc = .ok (.getfield 29, 3))
    (kk : W p l e R s m args below meth c H locs cells slots Q (F0 m (pc + 3) ls (.ref (h 6) :: rest))) : W p l e R s m args below meth c H locs cells slots Q (F0 m pc ls (.ref (h 0) :: rest)) :=
  va_get (D := D) (ci := 1) (v := .ref (h 6)) (C := RX1) (T := TX1) (N := 12) K.1 K.2.1 K.2.2.2.2.1 in_X1 K.2.2.2.1 K.2.2.2.2.2.1 w.1 0 rfl rfl 8 (by decide) (K.2.2.2.2.1 _ q234) (fun _ h9 => h9) rfl hdg kk
theorem mg_cycles (K : GC p s m args c cc nL RX1 D (tyM di) h) (w : GW s D h (wM di h (C, dv, nt, pt, cy, aw, va)) H locs) (hdg : decode cc pc = .ok (.getfield 32, 3))
    (kk : W p l e R s m args below meth c H locs cells slots Q (F0 m (pc + 3) ls (.ref (h 7) :: rest))) : W p l e R s m args below meth c H locs cells slots Q (F0 m pc ls (.ref (h 0) :: rest)) :=
  va_get (D := D) (ci := 1) (v := .ref (h 7)) (C := RX1) (T := TX1) (N := 12) K.1 K.2.1 K.2.2.2.2.1 in_X1 K.2.2.2.1 K.2.2.2.2.2.1 w.1 0 rfl rfl 9 (by decide) (K.2.2.2.2.1 _ q235) (fun _ h9 => h9) rfl hdg kk
theorem mg_answer (K : GC p s m args c cc nL RX1 D (tyM di) h) (w : GW s D h (wM di h (C, dv, nt, pt, cy, aw, va)) H locs) (hdg : decode cc pc = .ok (.getfield 35, 3))
    (kk : W p l e R s m args below meth c H locs cells slots Q (F0 m (pc + 3) ls (.ref (h 8) :: rest))) : W p l e R s m args below meth c H locs cells slots Q (F0 m pc ls (.ref (h 0) :: rest)) :=
  va_get (D := D) (ci := 1) (v := .ref (h 8)) (C := RX1) (T := TX1) (N := 12) K.1 K.2.1 K.2.2.2.2.1 in_X1 K.2.2.2.1 K.2.2.2.2.2.1 w.1 0 rfl rfl 10 (by decide) (K.2.2.2.2.1 _ q236) (fun _ h9 => h9) rfl hdg kk
theorem mg_value (K : GC p s m args c cc nL RX1 D (tyM di) h) (w : GW s D h (wM di h (C, dv, nt, pt, cy, aw, va)) H locs) (hdg : decode cc pc = .ok (.getfield 38, 3))
    (kk : W p l e R s m args below meth c H locs cells slots Q (F0 m (pc + 3) ls (.ref (h 9) :: rest))) : W p l e R s m args below meth c H locs cells slots Q (F0 m pc ls (.ref (h 0) :: rest)) :=
  va_get (D := D) (ci := 1) (v := .ref (h 9)) (C := RX1) (T := TX1) (N := 12) K.1 K.2.1 K.2.2.2.2.1 in_X1 K.2.2.2.1 K.2.2.2.2.2.1 w.1 0 rfl rfl 11 (by decide) (K.2.2.2.2.1 _ q237) (fun _ h9 => h9) rfl hdg kk
theorem mp_gates {g1 : Nat} (K : GC p s m args c cc nL RX1 D (tyM di) h) (w : GW s D h (wM di h ((g, kd, f1, f2, fd, op), dv, nt, pt, cy, aw, va)) H locs) (hdg : decode cc pc = .ok (.putfield 41, 3))
    (kk : ∀ (H1 : Heap) (locs1 : List Loc), GW s D h (wM di h ((g1, kd, f1, f2, fd, op), dv, nt, pt, cy, aw, va)) H1 locs1 → W p l e R s m args below meth c H1 locs1 cells slots Q (F0 m (pc + 3) ls rest)) : W p l e R s m args below meth c H locs cells slots Q (F0 m pc ls (.int (nI g1) :: .ref (h 0) :: rest)) :=
  va_put (D := D) (ci := 1) (v := .int (nI g1)) (ty := .int) (C := RX1) (T := TX1) (N := 12) K.1 K.2.1 K.2.2.2.2.1 in_X1 tyX1 tyX1_ok nmX1 K.2.2.2.1 K.2.2.2.2.2.1 w.1 (wM_apart K.2.2.2.2.2.2) w.2 0 rfl rfl 0 (by decide) (K.2.2.2.2.1 _ q226) (fun _ h9 => h9) rfl (by decide +kernel) rfl rfl (Nat.le_of_ble_eq_true rfl) hdg (fun H1 locs1 hP hD hS => kk H1 locs1 ⟨hP, hS⟩)
theorem mp_device {d1 : Int32} (K : GC p s m args c cc nL RX1 D (tyM di) h) (w : GW s D h (wM di h (C, dv, nt, pt, cy, aw, va)) H locs) (hdg : decode cc pc = .ok (.putfield 25, 3))
    (kk : ∀ (H1 : Heap) (locs1 : List Loc), GW s D h (wM di h (C, d1, nt, pt, cy, aw, va)) H1 locs1 → W p l e R s m args below meth c H1 locs1 cells slots Q (F0 m (pc + 3) ls rest)) : W p l e R s m args below meth c H locs cells slots Q (F0 m pc ls (.int d1 :: .ref (h 0) :: rest)) :=
  va_put (D := D) (ci := 1) (v := .int d1) (ty := .int) (C := RX1) (T := TX1) (N := 12) K.1 K.2.1 K.2.2.2.2.1 in_X1 tyX1 tyX1_ok nmX1 K.2.2.2.1 K.2.2.2.2.2.1 w.1 (wM_apart K.2.2.2.2.2.2) w.2 0 rfl rfl 6 (by decide) (K.2.2.2.2.1 _ q232) (fun _ h9 => h9) rfl (by decide +kernel) rfl rfl (Nat.le_of_ble_eq_true rfl) hdg (fun H1 locs1 hP hD hS => kk H1 locs1 ⟨hP, hS⟩)
theorem mp_noted {n1 : Nat} (K : GC p s m args c cc nL RX1 D (tyM di) h) (w : GW s D h (wM di h (C, dv, nt, pt, cy, aw, va)) H locs) (hdg : decode cc pc = .ok (.putfield 52, 3))
    (kk : ∀ (H1 : Heap) (locs1 : List Loc), GW s D h (wM di h (C, dv, n1, pt, cy, aw, va)) H1 locs1 → W p l e R s m args below meth c H1 locs1 cells slots Q (F0 m (pc + 3) ls rest)) : W p l e R s m args below meth c H locs cells slots Q (F0 m pc ls (.int (nI n1) :: .ref (h 0) :: rest)) :=
  va_put (D := D) (ci := 1) (v := .int (nI n1)) (ty := .int) (C := RX1) (T := TX1) (N := 12) K.1 K.2.1 K.2.2.2.2.1 in_X1 tyX1 tyX1_ok nmX1 K.2.2.2.1 K.2.2.2.2.2.1 w.1 (wM_apart K.2.2.2.2.2.2) w.2 0 rfl rfl 7 (by decide) (K.2.2.2.2.1 _ q233) (fun _ h9 => h9) rfl (by decide +kernel) rfl rfl (Nat.le_of_ble_eq_true rfl) hdg (fun H1 locs1 hP hD hS => kk H1 locs1 ⟨hP, hS⟩)
theorem ml_kind {k : Nat} (K : GC p s m args c cc nL RX1 D (tyM di) h) (w : GW s D h (wM di h (C, dv, nt, pt, cy, aw, va)) H locs) (hk : k < 14) (hdg : decode cc pc = .ok (.iaload, 1))
    (kk : W p l e R s m args below meth c H locs cells slots Q (F0 m (pc + 1) ls (.int (ckd C k) :: rest))) : W p l e R s m args below meth c H locs cells slots Q (F0 m pc ls (.int (nI k) :: .ref (h 1) :: rest)) := by
  have e9 : (nI k).toNatClampNeg = k := nI_clamp (by omega)
  refine va_iald K.1 K.2.1 K.2.2.2.2.2.1 w.1 1 0 rfl rfl (vp_in_nI hk (by decide)) hdg ?_
  rw [e9]
  exact kk
theorem ms_kind {k : Nat} {x1 : Int32} (K : GC p s m args c cc nL RX1 D (tyM di) h) (w : GW s D h (wM di h ((g, kd, f1, f2, fd, op), dv, nt, pt, cy, aw, va)) H locs) (hk : k < 14) (hdg : decode cc pc = .ok (.iastore, 1))
    (kk : ∀ (H1 : Heap) (locs1 : List Loc), GW s D h (wM di h ((g, upd kd k x1, f1, f2, fd, op), dv, nt, pt, cy, aw, va)) H1 locs1 → W p l e R s m args below meth c H1 locs1 cells slots Q (F0 m (pc + 1) ls rest)) : W p l e R s m args below meth c H locs cells slots Q (F0 m pc ls (.int x1 :: .int (nI k) :: .ref (h 1) :: rest)) := by
  have e9 : (nI k).toNatClampNeg = k := nI_clamp (by omega)
  refine va_iast K.1 K.2.1 K.2.2.2.2.2.1 w.1 (wM_apart K.2.2.2.2.2.2) w.2 1 0 rfl rfl (vp_in_nI hk (by decide)) hdg (fun H1 locs1 hP hD hS => ?_)
  rw [e9] at hP
  exact kk H1 locs1 ⟨hP, hS⟩
theorem ml_first {k : Nat} (K : GC p s m args c cc nL RX1 D (tyM di) h) (w : GW s D h (wM di h (C, dv, nt, pt, cy, aw, va)) H locs) (hk : k < 14) (hdg : decode cc pc = .ok (.iaload, 1))
    (kk : W p l e R s m args below meth c H locs cells slots Q (F0 m (pc + 1) ls (.int (cf1 C k) :: rest))) : W p l e R s m args below meth c H locs cells slots Q (F0 m pc ls (.int (nI k) :: .ref (h 2) :: rest)) := by
  have e9 : (nI k).toNatClampNeg = k := nI_clamp (by omega)
  refine va_iald K.1 K.2.1 K.2.2.2.2.2.1 w.1 2 0 rfl rfl (vp_in_nI hk (by decide)) hdg ?_
  rw [e9]
  exact kk
theorem ms_first {k : Nat} {x1 : Int32} (K : GC p s m args c cc nL RX1 D (tyM di) h) (w : GW s D h (wM di h ((g, kd, f1, f2, fd, op), dv, nt, pt, cy, aw, va)) H locs) (hk : k < 14) (hdg : decode cc pc = .ok (.iastore, 1))
    (kk : ∀ (H1 : Heap) (locs1 : List Loc), GW s D h (wM di h ((g, kd, upd f1 k x1, f2, fd, op), dv, nt, pt, cy, aw, va)) H1 locs1 → W p l e R s m args below meth c H1 locs1 cells slots Q (F0 m (pc + 1) ls rest)) : W p l e R s m args below meth c H locs cells slots Q (F0 m pc ls (.int x1 :: .int (nI k) :: .ref (h 2) :: rest)) := by
  have e9 : (nI k).toNatClampNeg = k := nI_clamp (by omega)
  refine va_iast K.1 K.2.1 K.2.2.2.2.2.1 w.1 (wM_apart K.2.2.2.2.2.2) w.2 2 0 rfl rfl (vp_in_nI hk (by decide)) hdg (fun H1 locs1 hP hD hS => ?_)
  rw [e9] at hP
  exact kk H1 locs1 ⟨hP, hS⟩
theorem ml_second {k : Nat} (K : GC p s m args c cc nL RX1 D (tyM di) h) (w : GW s D h (wM di h (C, dv, nt, pt, cy, aw, va)) H locs) (hk : k < 14) (hdg : decode cc pc = .ok (.iaload, 1))
    (kk : W p l e R s m args below meth c H locs cells slots Q (F0 m (pc + 1) ls (.int (cf2 C k) :: rest))) : W p l e R s m args below meth c H locs cells slots Q (F0 m pc ls (.int (nI k) :: .ref (h 3) :: rest)) := by
  have e9 : (nI k).toNatClampNeg = k := nI_clamp (by omega)
  refine va_iald K.1 K.2.1 K.2.2.2.2.2.1 w.1 3 0 rfl rfl (vp_in_nI hk (by decide)) hdg ?_
  rw [e9]
  exact kk
theorem ms_second {k : Nat} {x1 : Int32} (K : GC p s m args c cc nL RX1 D (tyM di) h) (w : GW s D h (wM di h ((g, kd, f1, f2, fd, op), dv, nt, pt, cy, aw, va)) H locs) (hk : k < 14) (hdg : decode cc pc = .ok (.iastore, 1))
    (kk : ∀ (H1 : Heap) (locs1 : List Loc), GW s D h (wM di h ((g, kd, f1, upd f2 k x1, fd, op), dv, nt, pt, cy, aw, va)) H1 locs1 → W p l e R s m args below meth c H1 locs1 cells slots Q (F0 m (pc + 1) ls rest)) : W p l e R s m args below meth c H locs cells slots Q (F0 m pc ls (.int x1 :: .int (nI k) :: .ref (h 3) :: rest)) := by
  have e9 : (nI k).toNatClampNeg = k := nI_clamp (by omega)
  refine va_iast K.1 K.2.1 K.2.2.2.2.2.1 w.1 (wM_apart K.2.2.2.2.2.2) w.2 3 0 rfl rfl (vp_in_nI hk (by decide)) hdg (fun H1 locs1 hP hD hS => ?_)
  rw [e9] at hP
  exact kk H1 locs1 ⟨hP, hS⟩
theorem ml_feeds {k : Nat} (K : GC p s m args c cc nL RX1 D (tyM di) h) (w : GW s D h (wM di h (C, dv, nt, pt, cy, aw, va)) H locs) (hk : k < 3) (hdg : decode cc pc = .ok (.iaload, 1))
    (kk : W p l e R s m args below meth c H locs cells slots Q (F0 m (pc + 1) ls (.int (cfd C k) :: rest))) : W p l e R s m args below meth c H locs cells slots Q (F0 m pc ls (.int (nI k) :: .ref (h 4) :: rest)) := by
  have e9 : (nI k).toNatClampNeg = k := nI_clamp (by omega)
  refine va_iald K.1 K.2.1 K.2.2.2.2.2.1 w.1 4 0 rfl rfl (vp_in_nI hk (by decide)) hdg ?_
  rw [e9]
  exact kk
theorem ms_feeds {k : Nat} {x1 : Int32} (K : GC p s m args c cc nL RX1 D (tyM di) h) (w : GW s D h (wM di h ((g, kd, f1, f2, fd, op), dv, nt, pt, cy, aw, va)) H locs) (hk : k < 3) (hdg : decode cc pc = .ok (.iastore, 1))
    (kk : ∀ (H1 : Heap) (locs1 : List Loc), GW s D h (wM di h ((g, kd, f1, f2, upd fd k x1, op), dv, nt, pt, cy, aw, va)) H1 locs1 → W p l e R s m args below meth c H1 locs1 cells slots Q (F0 m (pc + 1) ls rest)) : W p l e R s m args below meth c H locs cells slots Q (F0 m pc ls (.int x1 :: .int (nI k) :: .ref (h 4) :: rest)) := by
  have e9 : (nI k).toNatClampNeg = k := nI_clamp (by omega)
  refine va_iast K.1 K.2.1 K.2.2.2.2.2.1 w.1 (wM_apart K.2.2.2.2.2.2) w.2 4 0 rfl rfl (vp_in_nI hk (by decide)) hdg (fun H1 locs1 hP hD hS => ?_)
  rw [e9] at hP
  exact kk H1 locs1 ⟨hP, hS⟩
theorem ml_outputs {k : Nat} (K : GC p s m args c cc nL RX1 D (tyM di) h) (w : GW s D h (wM di h (C, dv, nt, pt, cy, aw, va)) H locs) (hk : k < 2) (hdg : decode cc pc = .ok (.iaload, 1))
    (kk : W p l e R s m args below meth c H locs cells slots Q (F0 m (pc + 1) ls (.int (cop C k) :: rest))) : W p l e R s m args below meth c H locs cells slots Q (F0 m pc ls (.int (nI k) :: .ref (h 5) :: rest)) := by
  have e9 : (nI k).toNatClampNeg = k := nI_clamp (by omega)
  refine va_iald K.1 K.2.1 K.2.2.2.2.2.1 w.1 5 0 rfl rfl (vp_in_nI hk (by decide)) hdg ?_
  rw [e9]
  exact kk
theorem ms_outputs {k : Nat} {x1 : Int32} (K : GC p s m args c cc nL RX1 D (tyM di) h) (w : GW s D h (wM di h ((g, kd, f1, f2, fd, op), dv, nt, pt, cy, aw, va)) H locs) (hk : k < 2) (hdg : decode cc pc = .ok (.iastore, 1))
    (kk : ∀ (H1 : Heap) (locs1 : List Loc), GW s D h (wM di h ((g, kd, f1, f2, fd, upd op k x1), dv, nt, pt, cy, aw, va)) H1 locs1 → W p l e R s m args below meth c H1 locs1 cells slots Q (F0 m (pc + 1) ls rest)) : W p l e R s m args below meth c H locs cells slots Q (F0 m pc ls (.int x1 :: .int (nI k) :: .ref (h 5) :: rest)) := by
  have e9 : (nI k).toNatClampNeg = k := nI_clamp (by omega)
  refine va_iast K.1 K.2.1 K.2.2.2.2.2.1 w.1 (wM_apart K.2.2.2.2.2.2) w.2 5 0 rfl rfl (vp_in_nI hk (by decide)) hdg (fun H1 locs1 hP hD hS => ?_)
  rw [e9] at hP
  exact kk H1 locs1 ⟨hP, hS⟩
theorem ml_pattern {k : Nat} (K : GC p s m args c cc nL RX1 D (tyM di) h) (w : GW s D h (wM di h (C, dv, nt, pt, cy, aw, va)) H locs) (hk : k < 20) (hdg : decode cc pc = .ok (.iaload, 1))
    (kk : W p l e R s m args below meth c H locs cells slots Q (F0 m (pc + 1) ls (.int (pt k) :: rest))) : W p l e R s m args below meth c H locs cells slots Q (F0 m pc ls (.int (nI k) :: .ref (h 6) :: rest)) := by
  have e9 : (nI k).toNatClampNeg = k := nI_clamp (by omega)
  refine va_iald K.1 K.2.1 K.2.2.2.2.2.1 w.1 6 0 rfl rfl (vp_in_nI hk (by decide)) hdg ?_
  rw [e9]
  exact kk
theorem ms_pattern {k : Nat} {x1 : Int32} (K : GC p s m args c cc nL RX1 D (tyM di) h) (w : GW s D h (wM di h (C, dv, nt, pt, cy, aw, va)) H locs) (hk : k < 20) (hdg : decode cc pc = .ok (.iastore, 1))
    (kk : ∀ (H1 : Heap) (locs1 : List Loc), GW s D h (wM di h (C, dv, nt, upd pt k x1, cy, aw, va)) H1 locs1 → W p l e R s m args below meth c H1 locs1 cells slots Q (F0 m (pc + 1) ls rest)) : W p l e R s m args below meth c H locs cells slots Q (F0 m pc ls (.int x1 :: .int (nI k) :: .ref (h 6) :: rest)) := by
  have e9 : (nI k).toNatClampNeg = k := nI_clamp (by omega)
  refine va_iast K.1 K.2.1 K.2.2.2.2.2.1 w.1 (wM_apart K.2.2.2.2.2.2) w.2 6 0 rfl rfl (vp_in_nI hk (by decide)) hdg (fun H1 locs1 hP hD hS => ?_)
  rw [e9] at hP
  exact kk H1 locs1 ⟨hP, hS⟩
theorem ml_cycles {k : Nat} (K : GC p s m args c cc nL RX1 D (tyM di) h) (w : GW s D h (wM di h (C, dv, nt, pt, cy, aw, va)) H locs) (hk : k < 20) (hdg : decode cc pc = .ok (.iaload, 1))
    (kk : W p l e R s m args below meth c H locs cells slots Q (F0 m (pc + 1) ls (.int (cy k) :: rest))) : W p l e R s m args below meth c H locs cells slots Q (F0 m pc ls (.int (nI k) :: .ref (h 7) :: rest)) := by
  have e9 : (nI k).toNatClampNeg = k := nI_clamp (by omega)
  refine va_iald K.1 K.2.1 K.2.2.2.2.2.1 w.1 7 0 rfl rfl (vp_in_nI hk (by decide)) hdg ?_
  rw [e9]
  exact kk
theorem ms_cycles {k : Nat} {x1 : Int32} (K : GC p s m args c cc nL RX1 D (tyM di) h) (w : GW s D h (wM di h (C, dv, nt, pt, cy, aw, va)) H locs) (hk : k < 20) (hdg : decode cc pc = .ok (.iastore, 1))
    (kk : ∀ (H1 : Heap) (locs1 : List Loc), GW s D h (wM di h (C, dv, nt, pt, upd cy k x1, aw, va)) H1 locs1 → W p l e R s m args below meth c H1 locs1 cells slots Q (F0 m (pc + 1) ls rest)) : W p l e R s m args below meth c H locs cells slots Q (F0 m pc ls (.int x1 :: .int (nI k) :: .ref (h 7) :: rest)) := by
  have e9 : (nI k).toNatClampNeg = k := nI_clamp (by omega)
  refine va_iast K.1 K.2.1 K.2.2.2.2.2.1 w.1 (wM_apart K.2.2.2.2.2.2) w.2 7 0 rfl rfl (vp_in_nI hk (by decide)) hdg (fun H1 locs1 hP hD hS => ?_)
  rw [e9] at hP
  exact kk H1 locs1 ⟨hP, hS⟩
theorem ml_answer {k : Nat} (K : GC p s m args c cc nL RX1 D (tyM di) h) (w : GW s D h (wM di h (C, dv, nt, pt, cy, aw, va)) H locs) (hk : k < 20) (hdg : decode cc pc = .ok (.iaload, 1))
    (kk : W p l e R s m args below meth c H locs cells slots Q (F0 m (pc + 1) ls (.int (aw k) :: rest))) : W p l e R s m args below meth c H locs cells slots Q (F0 m pc ls (.int (nI k) :: .ref (h 8) :: rest)) := by
  have e9 : (nI k).toNatClampNeg = k := nI_clamp (by omega)
  refine va_iald K.1 K.2.1 K.2.2.2.2.2.1 w.1 8 0 rfl rfl (vp_in_nI hk (by decide)) hdg ?_
  rw [e9]
  exact kk
theorem ms_answer {k : Nat} {x1 : Int32} (K : GC p s m args c cc nL RX1 D (tyM di) h) (w : GW s D h (wM di h (C, dv, nt, pt, cy, aw, va)) H locs) (hk : k < 20) (hdg : decode cc pc = .ok (.iastore, 1))
    (kk : ∀ (H1 : Heap) (locs1 : List Loc), GW s D h (wM di h (C, dv, nt, pt, cy, upd aw k x1, va)) H1 locs1 → W p l e R s m args below meth c H1 locs1 cells slots Q (F0 m (pc + 1) ls rest)) : W p l e R s m args below meth c H locs cells slots Q (F0 m pc ls (.int x1 :: .int (nI k) :: .ref (h 8) :: rest)) := by
  have e9 : (nI k).toNatClampNeg = k := nI_clamp (by omega)
  refine va_iast K.1 K.2.1 K.2.2.2.2.2.1 w.1 (wM_apart K.2.2.2.2.2.2) w.2 8 0 rfl rfl (vp_in_nI hk (by decide)) hdg (fun H1 locs1 hP hD hS => ?_)
  rw [e9] at hP
  exact kk H1 locs1 ⟨hP, hS⟩
theorem ml_value {k : Nat} (K : GC p s m args c cc nL RX1 D (tyM di) h) (w : GW s D h (wM di h (C, dv, nt, pt, cy, aw, va)) H locs) (hk : k < 21) (hdg : decode cc pc = .ok (.iaload, 1))
    (kk : W p l e R s m args below meth c H locs cells slots Q (F0 m (pc + 1) ls (.int (va k) :: rest))) : W p l e R s m args below meth c H locs cells slots Q (F0 m pc ls (.int (nI k) :: .ref (h 9) :: rest)) := by
  have e9 : (nI k).toNatClampNeg = k := nI_clamp (by omega)
  refine va_iald K.1 K.2.1 K.2.2.2.2.2.1 w.1 9 0 rfl rfl (vp_in_nI hk (by decide)) hdg ?_
  rw [e9]
  exact kk
theorem ms_value {k : Nat} {x1 : Int32} (K : GC p s m args c cc nL RX1 D (tyM di) h) (w : GW s D h (wM di h (C, dv, nt, pt, cy, aw, va)) H locs) (hk : k < 21) (hdg : decode cc pc = .ok (.iastore, 1))
    (kk : ∀ (H1 : Heap) (locs1 : List Loc), GW s D h (wM di h (C, dv, nt, pt, cy, aw, upd va k x1)) H1 locs1 → W p l e R s m args below meth c H1 locs1 cells slots Q (F0 m (pc + 1) ls rest)) : W p l e R s m args below meth c H locs cells slots Q (F0 m pc ls (.int x1 :: .int (nI k) :: .ref (h 9) :: rest)) := by
  have e9 : (nI k).toNatClampNeg = k := nI_clamp (by omega)
  refine va_iast K.1 K.2.1 K.2.2.2.2.2.1 w.1 (wM_apart K.2.2.2.2.2.2) w.2 9 0 rfl rfl (vp_in_nI hk (by decide)) hdg (fun H1 locs1 hP hD hS => ?_)
  rw [e9] at hP
  exact kk H1 locs1 ⟨hP, hS⟩
end WR
end
section
/-! starting texts out of kit/laws: COUNTS (how many places have a property), NUMBERS (the first index with a property), BITS (shift counts) -/
/-! ===== how many places have a property ===== -/
def fb_ct (p : Nat → Bool) : Nat → Nat
  | 0 => 0
  | n + 1 => fb_ct p n + (if p n then 1 else 0)
theorem fb_ct_succ (p : Nat → Bool) (n : Nat) : fb_ct p (n + 1) = fb_ct p n + (if p n then 1 else 0) := rfl
theorem fb_ct_le (p : Nat → Bool) : ∀ n, fb_ct p n ≤ n
  | 0 => Nat.le_refl _
  | n + 1 => by
    have h := fb_ct_le p n
    rw [fb_ct_succ]
    split <;> omega
theorem fb_ct_step (p : Nat → Bool) (m : Nat) : ∀ n, fb_ct p m ≤ fb_ct p (m + n)
  | 0 => Nat.le_refl _
  | n + 1 => by
    have h := fb_ct_step p m n
    show fb_ct p m ≤ fb_ct p (m + n + 1)
    rw [fb_ct_succ]
    omega
theorem fb_ct_mono (p : Nat → Bool) {m n : Nat} (h : m ≤ n) : fb_ct p m ≤ fb_ct p n := by
  have := fb_ct_step p m (n - m)
  rwa [Nat.add_sub_cancel' h] at this
theorem fb_ct_cong {p q : Nat → Bool} : ∀ {n : Nat}, (∀ k, k < n → p k = q k) → fb_ct p n = fb_ct q n
  | 0, _ => rfl
  | n + 1, h => by
    rw [fb_ct_succ, fb_ct_succ, fb_ct_cong (fun k hk => h k (by omega)), h n (by omega)]
/-- one place changed -/
theorem fb_ct_out (p : Nat → Bool) (b : Bool) {i n : Nat} (h : n ≤ i) : fb_ct (fun k => if k = i then b else p k) n = fb_ct p n :=
  fb_ct_cong fun k hk => if_neg (by omega)
theorem fb_ct_upd (p : Nat → Bool) (b : Bool) {i : Nat} : ∀ {n : Nat}, i < n → fb_ct (fun k => if k = i then b else p k) n + (if p i then 1 else 0) = fb_ct p n + (if b then 1 else 0)
  | 0, h => absurd h (Nat.not_lt_zero i)
  | n + 1, h => by
    rw [fb_ct_succ, fb_ct_succ]
    rcases Nat.lt_or_ge i n with q | q
    · have := fb_ct_upd p b q
      have e : (if n = i then b else p n) = p n := if_neg (by omega)
      rw [e]
      omega
    · have e : i = n := by omega
      subst e
      rw [fb_ct_out p b (Nat.le_refl _)]
      simp only [if_true]
      omega
theorem fb_ct_sub {p q : Nat → Bool} : ∀ {n : Nat}, (∀ k, k < n → p k = true → q k = true) → fb_ct p n ≤ fb_ct q n
  | 0, _ => Nat.le_refl _
  | n + 1, h => by
    have h1 := fb_ct_sub (n := n) (p := p) (q := q) (fun k hk => h k (by omega))
    have h2 := h n (by omega)
    rw [fb_ct_succ, fb_ct_succ]
    cases hp : p n <;> cases hq : q n <;> simp_all <;> omega
theorem fb_ct_or {p q : Nat → Bool} : ∀ {n : Nat}, (∀ k, k < n → ¬ (p k = true ∧ q k = true)) → fb_ct (fun k => p k || q k) n = fb_ct p n + fb_ct q n
  | 0, _ => rfl
  | n + 1, h => by
    have h1 := fb_ct_or (n := n) (p := p) (q := q) (fun k hk => h k (by omega))
    have h2 := h n (by omega)
    rw [fb_ct_succ, fb_ct_succ, fb_ct_succ, h1]
    cases hp : p n <;> cases hq : q n <;> simp_all <;> omega
theorem fb_ct_not (p : Nat → Bool) : ∀ n, fb_ct p n + fb_ct (fun k => !p k) n = n
  | 0 => rfl
  | n + 1 => by
    have h := fb_ct_not p n
    rw [fb_ct_succ, fb_ct_succ]
    cases p n <;> simp <;> omega
theorem fb_ct_split (p : Nat → Bool) (m : Nat) : ∀ n, fb_ct p (m + n) = fb_ct p m + fb_ct (fun k => p (m + k)) n
  | 0 => rfl
  | n + 1 => by
    have h := fb_ct_split p m n
    show fb_ct p (m + n + 1) = _
    rw [fb_ct_succ, fb_ct_succ, h, Nat.add_assoc]
theorem fb_ct_zero {p : Nat → Bool} : ∀ {n : Nat}, fb_ct p n = 0 ↔ ∀ k, k < n → p k = false
  | 0 => ⟨fun _ k hk => absurd hk (Nat.not_lt_zero k), fun _ => rfl⟩
  | n + 1 => by
    have h := fb_ct_zero (p := p) (n := n)
    rw [fb_ct_succ]
    constructor
    · intro e k hk
      have e1 : fb_ct p n = 0 := by omega
      rcases Nat.lt_or_ge k n with q | q
      · exact h.mp e1 k q
      · have ek : k = n := by omega
        subst ek
        cases hp : p k
        · rfl
        · simp [hp] at e
    · intro a
      rw [h.mpr (fun k hk => a k (by omega)), a n (by omega)]
      rfl
theorem fb_ct_pos {p : Nat → Bool} {n : Nat} : 0 < fb_ct p n ↔ ∃ k, k < n ∧ p k = true := by
  constructor
  · intro h
    refine Classical.byContradiction fun hx => ?_
    have := fb_ct_zero.mpr (fun k hk => by
      cases hp : p k
      · rfl
      · exact absurd ⟨k, hk, hp⟩ hx : ∀ k, k < n → p k = false)
    omega
  · rintro ⟨k, hk, hp⟩
    rcases Nat.eq_zero_or_pos (fb_ct p n) with e | e
    · have := fb_ct_zero.mp e k hk
      rw [this] at hp
      cases hp
    · exact e
theorem fb_ct_all {p : Nat → Bool} {n : Nat} : fb_ct p n = n ↔ ∀ k, k < n → p k = true := by
  have h := fb_ct_not p n
  constructor
  · intro e k hk
    have z : fb_ct (fun k => !p k) n = 0 := by omega
    have := fb_ct_zero.mp z k hk
    cases hp : p k
    · simp [hp] at this
    · rfl
  · intro a
    have z : fb_ct (fun k => !p k) n = 0 := fb_ct_zero.mpr (fun k hk => by simp [a k hk])
    omega
/-- the k-th place with the property -/
theorem fb_ct_kth {p : Nat → Bool} {k : Nat} : ∀ {n : Nat}, k < fb_ct p n → ∃ i, i < n ∧ p i = true ∧ fb_ct p i = k
  | 0, h => absurd h (Nat.not_lt_zero k)
  | n + 1, h => by
    rcases Nat.lt_or_ge k (fb_ct p n) with q | q
    · obtain ⟨i, h1, h2⟩ := fb_ct_kth q
      exact ⟨i, by omega, h2⟩
    · rw [fb_ct_succ] at h
      cases hp : p n
      · simp [hp] at h; omega
      · simp [hp] at h
        exact ⟨n, by omega, hp, by omega⟩
theorem fb_ct_kth_one {p : Nat → Bool} {i j : Nat} (hi : p i = true) (hj : p j = true) (e : fb_ct p i = fb_ct p j) : i = j := by
  have key : ∀ a b : Nat, a < b → p a = true → fb_ct p a < fb_ct p b := by
    intro a b hab ha
    have h := fb_ct_mono p (show a + 1 ≤ b from hab)
    rw [fb_ct_succ, ha] at h
    simp at h
    omega
  rcases Nat.lt_trichotomy i j with q | q | q
  · have := key i j q hi; omega
  · exact q
  · have := key j i q hj; omega
/-- the first k < n with p k, n if there is none -/
def fa_first (p : Nat → Bool) : Nat → Nat
  | 0 => 0
  | n + 1 => if fa_first p n < n then fa_first p n else if p n then n else n + 1
theorem fa_first_le (p : Nat → Bool) : ∀ n, fa_first p n ≤ n
  | 0 => Nat.le_refl 0
  | n + 1 => by
    have ih := fa_first_le p n
    unfold fa_first
    split
    · omega
    · split
      · omega
      · omega
theorem fa_first_no (p : Nat → Bool) : ∀ n k, k < fa_first p n → p k = false
  | 0, k, h => absurd h (Nat.not_lt_zero k)
  | n + 1, k, h => by
    have ih := fa_first_no p n
    have hl := fa_first_le p n
    unfold fa_first at h
    split at h
    · exact ih k h
    · rename_i h1
      split at h
      · exact ih k (by omega)
      · rename_i h2
        by_cases e : k = n
        · subst e
          exact Bool.eq_false_iff.mpr h2
        · exact ih k (by omega)
theorem fa_first_yes (p : Nat → Bool) : ∀ n, fa_first p n < n → p (fa_first p n) = true
  | 0, h => absurd h (Nat.not_lt_zero _)
  | n + 1, h => by
    have ih := fa_first_yes p n
    have hl := fa_first_le p n
    unfold fa_first at h ⊢
    split at h
    · rename_i h1
      rw [if_pos h1]
      exact ih h1
    · rename_i h1
      rw [if_neg h1]
      split at h
      · rename_i h2
        rw [if_pos h2]
        exact h2
      · omega
theorem wb_c : ∀ k, k < 64 → ((nI k).toInt64 &&& 63) = lN k := by decide +kernel
theorem wb_cu : ∀ k, k < 64 → ((nI k).toInt64.toUInt64 &&& Int64.toUInt64 63) = UInt64.ofNat k := by decide +kernel
theorem wb_sm : ∀ k, k < 64 → (BitVec.ofNat 64 k).smod 64 = BitVec.ofNat 64 k := by decide +kernel
end
section
/-! bits of a long: lb x j; shifts as the machine has them: lsr, lsh -/
set_option maxRecDepth 100000
def lb (x : Int64) (j : Nat) : Bool := x.toBitVec.getLsbD j
def lsr (x : Int64) (k : Nat) : Int64 := (x.toUInt64 >>> ((nI k).toInt64.toUInt64 &&& Int64.toUInt64 63)).toInt64
def lsh (x : Int64) (k : Nat) : Int64 := x <<< ((nI k).toInt64 &&& 63)
theorem lb_and (x y : Int64) (j : Nat) : lb (x &&& y) j = (lb x j && lb y j) := by
  unfold lb; rw [Int64.toBitVec_and, BitVec.getLsbD_and]
theorem lb_or (x y : Int64) (j : Nat) : lb (x ||| y) j = (lb x j || lb y j) := by
  unfold lb; rw [Int64.toBitVec_or, BitVec.getLsbD_or]
theorem lb_xor (x y : Int64) (j : Nat) : lb (x ^^^ y) j = (lb x j ^^ lb y j) := by
  unfold lb; rw [Int64.toBitVec_xor, BitVec.getLsbD_xor]
theorem lb_m1 : ∀ j, j < 64 → lb (-1) j = true := by decide +kernel
theorem lb_0 (j : Nat) : lb 0 j = false := by
  show (0#64).getLsbD j = false
  simp
theorem lb_1 : ∀ j, j < 64 → lb 1 j = decide (j = 0) := by decide +kernel
theorem lb_not (x : Int64) {j : Nat} (h : j < 64) : lb (x ^^^ (-1)) j = !lb x j := by rw [lb_xor, lb_m1 j h, Bool.xor_true]
theorem lb_ext {x y : Int64} (h : ∀ j, j < 64 → lb x j = lb y j) : x = y := Int64.toBitVec_inj.mp (BitVec.eq_of_getLsbD_eq fun i hi => h i hi)
theorem lb_neg (x : Int64) : x < 0 ↔ lb x 63 = true := by
  have h1 : x.toBitVec.msb = decide (x.toBitVec.toInt < 0) := BitVec.msb_eq_toInt
  have h2 : x.toBitVec.msb = x.toBitVec.getLsbD 63 := by rw [BitVec.msb_eq_getLsbD_last]
  rw [Int64.lt_iff_toInt_lt, Int64.toInt_zero]
  show x.toBitVec.toInt < 0 ↔ x.toBitVec.getLsbD 63 = true
  rw [← h2, h1, decide_eq_true_iff]
theorem lsr_bv (x : Int64) {k : Nat} (hk : k < 64) : (lsr x k).toBitVec = x.toBitVec >>> k := by
  unfold lsr
  rw [wb_cu k hk]
  apply BitVec.eq_of_toNat_eq
  show (x.toUInt64 >>> UInt64.ofNat k).toNat = _
  have h1 : (UInt64.ofNat k).toNat = k := by
    show (BitVec.ofNat 64 k).toNat = k
    rw [BitVec.toNat_ofNat, Nat.mod_eq_of_lt (by omega)]
  rw [UInt64.toNat_shiftRight, h1, Nat.mod_eq_of_lt hk, BitVec.toNat_ushiftRight]
  rfl
theorem lb_lsr (x : Int64) {k : Nat} (hk : k < 64) (j : Nat) : lb (lsr x k) j = lb x (k + j) := by
  unfold lb
  rw [lsr_bv x hk, BitVec.getLsbD_ushiftRight]
theorem lsr_1 (x : Int64) {k : Nat} (hk : k < 64) : lsr x k &&& 1 = if lb x k = true then 1 else 0 := by
  apply lb_ext
  intro j hj
  rw [lb_and, lb_lsr x hk, lb_1 j hj]
  by_cases h0 : j = 0
  · subst h0
    rw [Nat.add_zero]
    cases h : lb x k
    · rw [if_neg (by decide), lb_0]; rfl
    · rw [if_pos rfl]; rfl
  · have e : decide (j = 0) = false := decide_eq_false h0
    rw [e, Bool.and_false]
    split
    · rw [lb_1 j hj, e]
    · rw [lb_0]
theorem lsr_is (x : Int64) {k : Nat} (hk : k < 64) : lsr x k &&& 1 = 1 ↔ lb x k = true := by
  rw [lsr_1 x hk]
  cases h : lb x k
  · exact ⟨fun z => absurd z (by decide), fun z => absurd z (by decide)⟩
  · exact ⟨fun _ => rfl, fun _ => rfl⟩
theorem lb_bit : ∀ k, k < 64 → ∀ j, j < 64 → lb (lsh 1 k) j = decide (j = k) := by decide +kernel
theorem lb_low : ∀ k, k < 43 → ∀ j, j < 64 → lb (lsh 1 k - 1) j = decide (j < k) := by decide +kernel
/-- one bit of a long, as an int, moved up -/
theorem a_bit : ∀ b, b < 5 → (1 : Int64).toInt32 <<< (nI b &&& 31) = nI (2 ^ b) ∧ (0 : Int64).toInt32 <<< (nI b &&& 31) = nI 0 := by decide +kernel
theorem ans_bit (x : Int64) {k b : Nat} (hk : k < 64) (hb : b < 5) : (lsr x k &&& 1).toInt32 <<< (nI b &&& 31) = nI ((lb x k).toNat * 2 ^ b) := by
  rw [lsr_1 x hk]
  cases h : lb x k
  · rw [if_neg (by decide), (a_bit b hb).2]
    congr 1
    rw [Bool.toNat_false, Nat.zero_mul]
  · rw [if_pos rfl, (a_bit b hb).1]
    congr 1
    rw [Bool.toNat_true, Nat.one_mul]
/-- a bit of a small number -/
theorem p_bit : ∀ p, p < 128 → ∀ i, i < 7 → (nI p >>> (nI i &&& 31)) &&& nI 1 = nI (p.testBit i).toNat := by decide +kernel
theorem p_and15 : ∀ p, p < 128 → nI p &&& nI 15 = nI (p % 16) := by decide +kernel
theorem p_shr4 : ∀ p, p < 128 → nI p >>> (nI 4 &&& 31) = nI (p / 16) := by decide +kernel
theorem p_tb15 : ∀ p, p < 128 → ∀ i, i < 4 → (p % 16).testBit i = p.testBit i := by decide +kernel
theorem p_tb16 : ∀ p, p < 128 → ∀ i, i < 3 → (p / 16).testBit i = p.testBit (4 + i) := by decide +kernel
end
section
/-! how many bits are set, as the component counts them; the lowest bit -/
set_option maxRecDepth 100000
/-- k digits c of w bits each, the lowest first -/
def dg (w : Nat) : Nat → (Nat → Nat) → Nat
  | 0, _ => 0
  | k + 1, c => c 0 + 2 ^ w * dg w k (fun i => c (i + 1))
theorem dg_step {w a b A B : Nat} (ha : a < 2 ^ w) (hb : b < 2 ^ w) : (a + 2 ^ w * A) &&& (b + 2 ^ w * B) = (a &&& b) + 2 ^ w * (A &&& B) := by
  have hab : a &&& b < 2 ^ w := Nat.lt_of_le_of_lt Nat.and_le_left ha
  apply Nat.eq_of_testBit_eq
  intro j
  rw [Nat.testBit_and, Nat.add_comm a, Nat.add_comm b, Nat.add_comm (a &&& b), Nat.testBit_two_pow_mul_add _ ha, Nat.testBit_two_pow_mul_add _ hb, Nat.testBit_two_pow_mul_add _ hab]
  by_cases h : j < w
  · rw [if_pos h, if_pos h, if_pos h, Nat.testBit_and]
  · rw [if_neg h, if_neg h, if_neg h, Nat.testBit_and]
theorem dg_and (w : Nat) : ∀ (k : Nat) (c d : Nat → Nat), (∀ i, c i < 2 ^ w) → (∀ i, d i < 2 ^ w) → dg w k c &&& dg w k d = dg w k (fun i => c i &&& d i)
  | 0, _, _, _, _ => by
    show (0 &&& 0 : Nat) = 0
    decide
  | k + 1, c, d, hc, hd => by
    show (c 0 + 2 ^ w * dg w k (fun i => c (i + 1))) &&& (d 0 + 2 ^ w * dg w k (fun i => d (i + 1))) = (c 0 &&& d 0) + 2 ^ w * dg w k (fun i => c (i + 1) &&& d (i + 1))
    rw [dg_step (hc 0) (hd 0), dg_and w k _ _ (fun i => hc (i + 1)) (fun i => hd (i + 1))]
theorem dg_add (w : Nat) : ∀ (k : Nat) (c d : Nat → Nat), dg w k c + dg w k d = dg w k (fun i => c i + d i)
  | 0, _, _ => rfl
  | k + 1, c, d => by
    show (c 0 + 2 ^ w * dg w k (fun i => c (i + 1))) + (d 0 + 2 ^ w * dg w k (fun i => d (i + 1))) = (c 0 + d 0) + 2 ^ w * dg w k (fun i => c (i + 1) + d (i + 1))
    rw [← dg_add w k, Nat.mul_add]
    omega
theorem dg_cong (w : Nat) : ∀ (k : Nat) (c d : Nat → Nat), (∀ i, c i = d i) → dg w k c = dg w k d := by
  intro k c d h
  rw [show c = d from funext h]
theorem dg_two (w : Nat) : ∀ (k : Nat) (c : Nat → Nat), dg w (2 * k) c = dg (2 * w) k (fun i => c (2 * i) + 2 ^ w * c (2 * i + 1))
  | 0, _ => rfl
  | k + 1, c => by
    show c 0 + 2 ^ w * (c 1 + 2 ^ w * dg w (2 * k) (fun i => c (i + 1 + 1))) = (c 0 + 2 ^ w * c 1) + 2 ^ (2 * w) * dg (2 * w) k (fun i => c (2 * (i + 1)) + 2 ^ w * c (2 * (i + 1) + 1))
    rw [dg_two w k, Nat.two_mul w, Nat.pow_add, Nat.mul_add, Nat.mul_assoc, Nat.add_assoc]
    rfl
theorem dg_shift {w k : Nat} {c : Nat → Nat} (h : c 0 < 2 ^ w) : dg w (k + 1) c / 2 ^ w = dg w k (fun i => c (i + 1)) := by
  show (c 0 + 2 ^ w * dg w k (fun i => c (i + 1))) / 2 ^ w = _
  rw [Nat.add_mul_div_left _ _ (Nat.two_pow_pos w), Nat.div_eq_of_lt h, Nat.zero_add]
theorem dg_pad (w : Nat) : ∀ (k : Nat) (c : Nat → Nat), c k = 0 → dg w (k + 1) c = dg w k c
  | 0, c, h => by
    show c 0 + 2 ^ w * 0 = 0
    rw [h, Nat.mul_zero]
  | k + 1, c, h => by
    show c 0 + 2 ^ w * dg w (k + 1) (fun i => c (i + 1)) = c 0 + 2 ^ w * dg w k (fun i => c (i + 1))
    rw [dg_pad w k _ h]
theorem dg_lt (w : Nat) : ∀ (k : Nat) (c : Nat → Nat), (∀ i, c i < 2 ^ w) → dg w k c < 2 ^ (w * k)
  | 0, _, _ => by
    show 0 < 2 ^ (w * 0)
    exact Nat.two_pow_pos _
  | k + 1, c, h => by
    show c 0 + 2 ^ w * dg w k (fun i => c (i + 1)) < 2 ^ (w * (k + 1))
    have h1 := dg_lt w k (fun i => c (i + 1)) (fun i => h (i + 1))
    have h2 := h 0
    rw [Nat.mul_succ, Nat.add_comm (w * k) w, Nat.pow_add]
    have h3 : 2 ^ w * (dg w k (fun i => c (i + 1)) + 1) ≤ 2 ^ w * 2 ^ (w * k) := Nat.mul_le_mul_left _ h1
    rw [Nat.mul_add, Nat.mul_one] at h3
    omega
theorem dg_bits : ∀ (k n : Nat), n < 2 ^ k → n = dg 1 k (fun i => (n.testBit i).toNat)
  | 0, n, h => by
    show n = 0
    rw [Nat.pow_zero] at h
    omega
  | k + 1, n, h => by
    have h1 : n / 2 < 2 ^ k := by rw [Nat.pow_succ] at h; omega
    have h2 := dg_bits k (n / 2) h1
    show n = (n.testBit 0).toNat + 2 ^ 1 * dg 1 k (fun i => (n.testBit (i + 1)).toNat)
    have e : (fun i => (n.testBit (i + 1)).toNat) = fun i => ((n / 2).testBit i).toNat := funext fun i => by rw [Nat.testBit_succ]
    rw [e, ← h2, Nat.testBit_zero]
    rcases Nat.mod_two_eq_zero_or_one n with z | z
    · rw [show decide (n % 2 = 1) = false from decide_eq_false (by omega)]
      show n = 0 + 2 ^ 1 * (n / 2)
      omega
    · rw [show decide (n % 2 = 1) = true from decide_eq_true z]
      show n = 1 + 2 ^ 1 * (n / 2)
      omega
def tn (x : Int64) : Nat := x.toBitVec.toNat
theorem tn_lt (x : Int64) : tn x < 18446744073709551616 := x.toBitVec.isLt
theorem tn_and (x y : Int64) : tn (x &&& y) = tn x &&& tn y := by
  unfold tn; rw [Int64.toBitVec_and, BitVec.toNat_and]
theorem tn_add (x y : Int64) : tn (x + y) = (tn x + tn y) % 18446744073709551616 := by
  unfold tn; rw [Int64.toBitVec_add, BitVec.toNat_add]
theorem tn_sub (x y : Int64) : tn (x - y) = (18446744073709551616 - tn y + tn x) % 18446744073709551616 := by
  unfold tn; rw [Int64.toBitVec_sub, BitVec.toNat_sub]
theorem tn_mul (x y : Int64) : tn (x * y) = (tn x * tn y) % 18446744073709551616 := by
  unfold tn; rw [Int64.toBitVec_mul, BitVec.toNat_mul]
theorem tn_lsr (x : Int64) {k : Nat} (hk : k < 64) : tn (lsr x k) = tn x / 2 ^ k := by
  unfold tn; rw [lsr_bv x hk, BitVec.toNat_ushiftRight, Nat.shiftRight_eq_div_pow]
theorem tn_lb (x : Int64) (j : Nat) : (tn x).testBit j = lb x j := by
  unfold tn lb
  rw [BitVec.testBit_toNat]
theorem b_and1 : ∀ a, a < 2 → ∀ b, b < 2 → (a + 2 ^ 1 * b) &&& 1 = a := by decide
theorem c_and3 : ∀ a, a < 3 → ∀ b, b < 3 → (a + 2 ^ 2 * b) &&& 3 = a := by decide
theorem e_and15 : ∀ a, a < 9 → ∀ b, b < 9 → (a + 2 ^ 4 * b) &&& 15 = a := by decide
/-- the sum of the bytes -/
theorem dg_sum (s : Nat → Nat) (h : ∀ i, s i < 9) : dg 8 8 s * 72340172838076673 % 18446744073709551616 / 72057594037927936 = s 0 + s 1 + s 2 + s 3 + s 4 + s 5 + s 6 + s 7 := by
  have e : dg 8 8 s = s 0 + 256 * (s 1 + 256 * (s 2 + 256 * (s 3 + 256 * (s 4 + 256 * (s 5 + 256 * (s 6 + 256 * s 7)))))) := by
    show s 0 + 2 ^ 8 * (s 1 + 2 ^ 8 * (s 2 + 2 ^ 8 * (s 3 + 2 ^ 8 * (s 4 + 2 ^ 8 * (s 5 + 2 ^ 8 * (s 6 + 2 ^ 8 * (s 7 + 2 ^ 8 * 0))))))) = _
    omega
  rw [e]
  have h0 := h 0
  have h1 := h 1
  have h2 := h 2
  have h3 := h 3
  have h4 := h 4
  have h5 := h 5
  have h6 := h 6
  have h7 := h 7
  generalize s 0 = a0 at *
  generalize s 1 = a1 at *
  generalize s 2 = a2 at *
  generalize s 3 = a3 at *
  generalize s 4 = a4 at *
  generalize s 5 = a5 at *
  generalize s 6 = a6 at *
  generalize s 7 = a7 at *
  have e2 : (a0 + 256 * (a1 + 256 * (a2 + 256 * (a3 + 256 * (a4 + 256 * (a5 + 256 * (a6 + 256 * a7))))))) * 72340172838076673
      = 18446744073709551616 * ((a1 + a2 + a3 + a4 + a5 + a6 + a7) + 256 * (a2 + a3 + a4 + a5 + a6 + a7) + 65536 * (a3 + a4 + a5 + a6 + a7) + 16777216 * (a4 + a5 + a6 + a7) + 4294967296 * (a5 + a6 + a7) + 1099511627776 * (a6 + a7) + 281474976710656 * a7)
        + (72057594037927936 * (a0 + a1 + a2 + a3 + a4 + a5 + a6 + a7) + (a0 + 256 * (a0 + a1) + 65536 * (a0 + a1 + a2) + 16777216 * (a0 + a1 + a2 + a3) + 4294967296 * (a0 + a1 + a2 + a3 + a4) + 1099511627776 * (a0 + a1 + a2 + a3 + a4 + a5) + 281474976710656 * (a0 + a1 + a2 + a3 + a4 + a5 + a6))) := by
    omega
  rw [e2, Nat.mul_add_mod]
  have hl : a0 + 256 * (a0 + a1) + 65536 * (a0 + a1 + a2) + 16777216 * (a0 + a1 + a2 + a3) + 4294967296 * (a0 + a1 + a2 + a3 + a4) + 1099511627776 * (a0 + a1 + a2 + a3 + a4 + a5) + 281474976710656 * (a0 + a1 + a2 + a3 + a4 + a5 + a6) < 72057594037927936 := by omega
  generalize a0 + 256 * (a0 + a1) + 65536 * (a0 + a1 + a2) + 16777216 * (a0 + a1 + a2 + a3) + 4294967296 * (a0 + a1 + a2 + a3 + a4) + 1099511627776 * (a0 + a1 + a2 + a3 + a4 + a5) + 281474976710656 * (a0 + a1 + a2 + a3 + a4 + a5 + a6) = lo at hl ⊢
  have ht : a0 + a1 + a2 + a3 + a4 + a5 + a6 + a7 < 256 := by omega
  generalize a0 + a1 + a2 + a3 + a4 + a5 + a6 + a7 = su at ht ⊢
  omega
set_option maxHeartbeats 4000000 in
theorem ones_ok (x x0 x1 x2 : Int64) (h0 : x0 = x - (lsr x 1 &&& 6148914691236517205)) (h1 : x1 = (x0 &&& 3689348814741910323) + (lsr x0 2 &&& 3689348814741910323)) (h2 : x2 = (x1 + lsr x1 4) &&& 1085102592571150095) :
    (lsr (x2 * 72340172838076673) 56).toInt32 = nI (fb_ct (lb x) 64) := by
  -- digits of one bit
  obtain ⟨b, hb⟩ : ∃ b : Nat → Nat, b = fun i => ((tn x).testBit i).toNat := ⟨_, rfl⟩
  have hb2 : ∀ i, b i < 2 := fun i => by rw [hb]; show ((tn x).testBit i).toNat < 2; cases (tn x).testBit i <;> decide
  have hb64 : ∀ i, 64 ≤ i → b i = 0 := fun i hi => by
    rw [hb]
    show ((tn x).testBit i).toNat = 0
    rw [Nat.testBit_lt_two_pow (Nat.lt_of_lt_of_le (tn_lt x) (Nat.pow_le_pow_right (show 0 < 2 by decide) hi))]
    rfl
  have n0 : tn x = dg 1 64 b := by rw [hb]; exact dg_bits 64 (tn x) (tn_lt x)
  have n1 : tn x = dg 2 32 (fun i => b (2 * i) + 2 ^ 1 * b (2 * i + 1)) := n0.trans (dg_two 1 32 b)
  have n2 : tn x / 2 ^ 1 = dg 2 32 (fun i => b (2 * i + 1) + 2 ^ 1 * b (2 * i + 1 + 1)) := by
    rw [n0]
    refine (dg_shift (w := 1) (k := 63) (c := b) (hb2 0)).trans ?_
    rw [← dg_pad 1 63 (fun i => b (i + 1)) (hb64 64 (by decide))]
    exact dg_two 1 32 (fun i => b (i + 1))
  have k5 : tn 6148914691236517205 = dg 2 32 (fun _ => 1) := by decide +kernel
  have m1 : tn (lsr x 1 &&& 6148914691236517205) = dg 2 32 (fun i => b (2 * i + 1)) := by
    rw [tn_and, tn_lsr x (by decide), n2, k5, dg_and 2 32 _ _ (fun i => by have := hb2 (2 * i + 1); have := hb2 (2 * i + 1 + 1); omega) (fun _ => by decide)]
    exact dg_cong 2 32 _ _ (fun i => b_and1 _ (hb2 _) _ (hb2 _))
  obtain ⟨c, hc⟩ : ∃ c : Nat → Nat, c = fun i => b (2 * i) + b (2 * i + 1) := ⟨_, rfl⟩
  have hc3 : ∀ i, c i < 3 := fun i => by have := hb2 (2 * i); have := hb2 (2 * i + 1); rw [hc]; show b (2 * i) + b (2 * i + 1) < 3; omega
  have hc32 : ∀ i, 32 ≤ i → c i = 0 := fun i hi => by rw [hc]; show b (2 * i) + b (2 * i + 1) = 0; rw [hb64 _ (by omega), hb64 _ (by omega)]
  have s0 : dg 2 32 (fun i => b (2 * i + 1)) + dg 2 32 c = tn x := by
    rw [dg_add, n1]
    exact dg_cong 2 32 _ _ (fun i => by rw [hc]; show b (2 * i + 1) + (b (2 * i) + b (2 * i + 1)) = b (2 * i) + 2 ^ 1 * b (2 * i + 1); omega)
  have t0 : tn x0 = dg 2 32 c := by
    rw [h0, tn_sub, m1]
    have := tn_lt x
    omega
  have t0a : tn x0 = dg 4 16 (fun i => c (2 * i) + 2 ^ 2 * c (2 * i + 1)) := t0.trans (dg_two 2 16 c)
  have t0b : tn x0 / 2 ^ 2 = dg 4 16 (fun i => c (2 * i + 1) + 2 ^ 2 * c (2 * i + 1 + 1)) := by
    rw [t0]
    refine (dg_shift (w := 2) (k := 31) (c := c) (Nat.lt_trans (hc3 0) (by decide))).trans ?_
    rw [← dg_pad 2 31 (fun i => c (i + 1)) (hc32 32 (by decide))]
    exact dg_two 2 16 (fun i => c (i + 1))
  have k3 : tn 3689348814741910323 = dg 4 16 (fun _ => 3) := by decide +kernel
  have u1 : tn (x0 &&& 3689348814741910323) = dg 4 16 (fun i => c (2 * i)) := by
    rw [tn_and, t0a, k3, dg_and 4 16 _ _ (fun i => by have := hc3 (2 * i); have := hc3 (2 * i + 1); omega) (fun _ => by decide)]
    exact dg_cong 4 16 _ _ (fun i => c_and3 _ (hc3 _) _ (hc3 _))
  have u2 : tn (lsr x0 2 &&& 3689348814741910323) = dg 4 16 (fun i => c (2 * i + 1)) := by
    rw [tn_and, tn_lsr x0 (by decide), t0b, k3, dg_and 4 16 _ _ (fun i => by have := hc3 (2 * i + 1); have := hc3 (2 * i + 1 + 1); omega) (fun _ => by decide)]
    exact dg_cong 4 16 _ _ (fun i => c_and3 _ (hc3 _) _ (hc3 _))
  obtain ⟨d, hd⟩ : ∃ d : Nat → Nat, d = fun i => c (2 * i) + c (2 * i + 1) := ⟨_, rfl⟩
  have hd5 : ∀ i, d i < 5 := fun i => by have := hc3 (2 * i); have := hc3 (2 * i + 1); rw [hd]; show c (2 * i) + c (2 * i + 1) < 5; omega
  have hd16 : ∀ i, 16 ≤ i → d i = 0 := fun i hi => by rw [hd]; show c (2 * i) + c (2 * i + 1) = 0; rw [hc32 _ (by omega), hc32 _ (by omega)]
  have t1 : tn x1 = dg 4 16 d := by
    have hlt : dg 4 16 d < 2 ^ 64 := dg_lt 4 16 d (fun i => Nat.lt_trans (hd5 i) (by decide))
    rw [h1, tn_add, u1, u2, dg_add, ← hd]
    exact Nat.mod_eq_of_lt hlt
  have t1b : tn x1 / 2 ^ 4 = dg 4 16 (fun i => d (i + 1)) := by
    rw [t1]
    refine (dg_shift (w := 4) (k := 15) (c := d) (Nat.lt_trans (hd5 0) (by decide))).trans ?_
    rw [dg_pad 4 15 (fun i => d (i + 1)) (hd16 16 (by decide))]
  have t2 : tn (x1 + lsr x1 4) = dg 8 8 (fun i => (d (2 * i) + d (2 * i + 1)) + 2 ^ 4 * (d (2 * i + 1) + d (2 * i + 1 + 1))) := by
    have hlt : dg 4 16 (fun i => d i + d (i + 1)) < 2 ^ 64 := dg_lt 4 16 _ (fun i => by have := hd5 i; have := hd5 (i + 1); omega)
    rw [tn_add, tn_lsr x1 (by decide), t1b, t1, dg_add]
    exact (Nat.mod_eq_of_lt hlt).trans (dg_two 4 8 (fun i => d i + d (i + 1)))
  have kf : tn 1085102592571150095 = dg 8 8 (fun _ => 15) := by decide +kernel
  have t3 : tn x2 = dg 8 8 (fun i => d (2 * i) + d (2 * i + 1)) := by
    rw [h2, tn_and, t2, kf, dg_and 8 8 _ _ (fun i => by have := hd5 (2 * i); have := hd5 (2 * i + 1); have := hd5 (2 * i + 1 + 1); omega) (fun _ => by decide)]
    exact dg_cong 8 8 _ _ (fun i => e_and15 _ (by have := hd5 (2 * i); have := hd5 (2 * i + 1); omega) _ (by have := hd5 (2 * i + 1); have := hd5 (2 * i + 1 + 1); omega))
  have k1 : tn 72340172838076673 = 72340172838076673 := by decide +kernel
  have t4 : tn (lsr (x2 * 72340172838076673) 56) = (d 0 + d 1) + (d 2 + d 3) + (d 4 + d 5) + (d 6 + d 7) + (d 8 + d 9) + (d 10 + d 11) + (d 12 + d 13) + (d 14 + d 15) := by
    rw [tn_lsr _ (by decide), tn_mul, k1, t3]
    exact dg_sum (fun i => d (2 * i) + d (2 * i + 1)) (fun i => by have := hd5 (2 * i); have := hd5 (2 * i + 1); show d (2 * i) + d (2 * i + 1) < 9; omega)
  have t5 : fb_ct (lb x) 64 = (d 0 + d 1) + (d 2 + d 3) + (d 4 + d 5) + (d 6 + d 7) + (d 8 + d 9) + (d 10 + d 11) + (d 12 + d 13) + (d 14 + d 15) := by
    have step : ∀ n, fb_ct (lb x) (n + 1) = fb_ct (lb x) n + b n := fun n => by
      rw [fb_ct_succ, hb]
      show _ = fb_ct (lb x) n + ((tn x).testBit n).toNat
      rw [tn_lb]
      cases lb x n <;> rfl
    have step4 : ∀ n, fb_ct (lb x) (4 * n + 4) = fb_ct (lb x) (4 * n) + d n := fun n => by
      rw [show 4 * n + 4 = 4 * n + 3 + 1 by omega, step, show 4 * n + 3 = 4 * n + 2 + 1 by omega, step, show 4 * n + 2 = 4 * n + 1 + 1 by omega, step, step, hd]
      show _ = fb_ct (lb x) (4 * n) + (c (2 * n) + c (2 * n + 1))
      rw [hc]
      show _ = fb_ct (lb x) (4 * n) + ((b (2 * (2 * n)) + b (2 * (2 * n) + 1)) + (b (2 * (2 * n + 1)) + b (2 * (2 * n + 1) + 1)))
      rw [show 2 * (2 * n) = 4 * n by omega, show 2 * (2 * n + 1) = 4 * n + 1 + 1 by omega]
      omega
    have z := step4 0
    have z1 := step4 1
    have z2 := step4 2
    have z3 := step4 3
    have z4 := step4 4
    have z5 := step4 5
    have z6 := step4 6
    have z7 := step4 7
    have z8 := step4 8
    have z9 := step4 9
    have z10 := step4 10
    have z11 := step4 11
    have z12 := step4 12
    have z13 := step4 13
    have z14 := step4 14
    have z15 := step4 15
    have zz : fb_ct (lb x) (4 * 0) = 0 := rfl
    simp only [Nat.reduceMul, Nat.reduceAdd] at z z1 z2 z3 z4 z5 z6 z7 z8 z9 z10 z11 z12 z13 z14 z15 zz
    omega
  rw [t5, ← t4]
  show (lsr (x2 * 72340172838076673) 56).toInt32 = Int32.ofNat (tn (lsr (x2 * 72340172838076673) 56))
  apply Int32.toBitVec_inj.mp
  apply BitVec.eq_of_toNat_eq
  show ((lsr (x2 * 72340172838076673) 56).toBitVec.signExtend 32).toNat = (BitVec.ofNat 32 (tn (lsr (x2 * 72340172838076673) 56))).toNat
  rw [BitVec.signExtend_eq_setWidth_of_le _ (by decide), BitVec.toNat_setWidth, BitVec.toNat_ofNat]
  rfl
/-- the lowest bit set, t: as the component finds it -/
theorem low_ok (x : Int64) {t : Nat} (ht : t < 64) (h1 : lb x t = true) (h0 : ∀ j, j < t → lb x j = false) : fb_ct (lb ((x &&& -x) - 1)) 64 = t := by
  have hx : 0 < tn x := by
    rcases Nat.eq_zero_or_pos (tn x) with z | z
    · have := tn_lb x t
      rw [z, h1, Nat.zero_testBit] at this
      cases this
    · exact z
  have hl := tn_lt x
  have en : tn (-x) = 18446744073709551616 - tn x := by
    unfold tn
    rw [Int64.toBitVec_neg, BitVec.toNat_neg]
    show (18446744073709551616 - tn x) % 18446744073709551616 = 18446744073709551616 - tn x
    omega
  -- x - 1 has the low bits set, bit t not, the others as x
  obtain ⟨q, hq⟩ : ∃ q, tn x = 2 ^ t * q := by
    refine ⟨tn x / 2 ^ t, ?_⟩
    have hm : tn x % 2 ^ t = 0 := by
      apply Nat.eq_of_testBit_eq
      intro j
      rw [Nat.testBit_mod_two_pow, Nat.zero_testBit, tn_lb]
      by_cases hj : j < t
      · rw [h0 j hj, Bool.and_false]
      · rw [decide_eq_false hj, Bool.false_and]
    have := Nat.div_add_mod (tn x) (2 ^ t)
    omega
  have hpt : 0 < 2 ^ t := Nat.two_pow_pos t
  have hq1 : q % 2 = 1 := by
    have := tn_lb x t
    rw [hq, h1] at this
    have e := Nat.testBit_two_pow_mul_add q hpt t
    rw [Nat.add_zero, if_neg (Nat.lt_irrefl t), Nat.sub_self, Nat.testBit_zero] at e
    rw [this] at e
    exact of_decide_eq_true e.symm
  have ea : tn (x &&& -x) = 2 ^ t := by
    rw [tn_and, en]
    have e1 : 18446744073709551616 - tn x = 2 ^ 64 - ((tn x - 1) + 1) := by omega
    rw [e1]
    apply Nat.eq_of_testBit_eq
    intro j
    rw [Nat.testBit_and, Nat.testBit_two_pow_sub_succ (by omega), Nat.testBit_two_pow]
    have e2 : tn x - 1 = 2 ^ t * (q - 1) + (2 ^ t - 1) := by
      have : 2 ^ t * q = 2 ^ t * (q - 1) + 2 ^ t := by
        obtain ⟨r, rfl⟩ : ∃ r, q = r + 1 := ⟨q - 1, by omega⟩
        rw [Nat.add_sub_cancel, Nat.mul_add, Nat.mul_one]
      omega
    rw [e2, Nat.testBit_two_pow_mul_add _ (show 2 ^ t - 1 < 2 ^ t by omega)]
    rcases Nat.lt_trichotomy j t with hj | hj | hj
    · rw [tn_lb, h0 j hj, Bool.false_and, decide_eq_false (by omega)]
    · subst hj
      rw [tn_lb, h1, if_neg (Nat.lt_irrefl j), Nat.sub_self, Nat.testBit_zero, decide_eq_true ht, decide_eq_true rfl, decide_eq_false (by omega)]
      rfl
    · rw [if_neg (by omega), decide_eq_false (show ¬ t = j by omega)]
      have e3 : (tn x).testBit j = q.testBit (j - t) := by
        have e := Nat.testBit_two_pow_mul_add q hpt j
        rw [Nat.add_zero, if_neg (by omega)] at e
        rw [hq]
        exact e
      have e4 : (q - 1).testBit (j - t) = q.testBit (j - t) := by
        obtain ⟨k, hk⟩ : ∃ k, j - t = k + 1 := ⟨j - t - 1, by omega⟩
        rw [hk, Nat.testBit_succ, Nat.testBit_succ, show (q - 1) / 2 = q / 2 by omega]
      rw [e3, e4]
      cases q.testBit (j - t)
      · rfl
      · simp
  have es : tn ((x &&& -x) - 1) = 2 ^ t - 1 := by
    have hlt : 2 ^ t < 2 ^ 64 := Nat.pow_lt_pow_right (by decide) ht
    have o1 : tn 1 = 1 := by decide +kernel
    rw [tn_sub, ea, o1]
    omega
  have bits : ∀ j, lb ((x &&& -x) - 1) j = decide (j < t) := fun j => by
    rw [← tn_lb, es, Nat.testBit_two_pow_sub_one]
  have e5 := fb_ct_split (lb ((x &&& -x) - 1)) t (64 - t)
  have z1 : fb_ct (lb ((x &&& -x) - 1)) t = t := fb_ct_all.mpr (fun k hk => by rw [bits k]; exact decide_eq_true hk)
  have z2 : fb_ct (fun k => lb ((x &&& -x) - 1) (t + k)) (64 - t) = 0 := fb_ct_zero.mpr (fun k hk => by show lb ((x &&& -x) - 1) (t + k) = false; rw [bits (t + k)]; exact decide_eq_false (by omega))
  rw [show t + (64 - t) = 64 by omega, z1, z2] at e5
  exact e5
/-- all bits of a word beyond K are off: counting 64 is counting K -/
theorem ct_cut {p : Nat → Bool} {K : Nat} (hK : K ≤ 64) (h : ∀ j, K ≤ j → j < 64 → p j = false) : fb_ct p 64 = fb_ct p K := by
  have e := fb_ct_split p K (64 - K)
  rw [show K + (64 - K) = 64 by omega, (fb_ct_zero (p := fun k => p (K + k)) (n := 64 - K)).mpr (fun k hk => h (K + k) (by omega) (by omega))] at e
  exact e
end
section
/-! the circuit's meaning, in plain words: what line n carries in the circuit with fault j (63: none), the states after c cycles, the answer -/
set_option maxRecDepth 100000
abbrev cN (x : Int32) : Nat := x.toNatClampNeg
def gateB (k : Int32) (x y : Bool) : Bool := if k = nI 0 then x && y else if k = nI 1 then x || y else if k = nI 2 then x ^^ y else if k = nI 3 then !(x && y) else if k = nI 4 then !(x || y) else !x
/-- fault j forces line n -/
def fo (j n : Nat) (v : Bool) : Bool := if j = 2 * n then false else if j = 2 * n + 1 then true else v
def raw (C : Cfg) (inp st : Nat → Bool) (t : Nat → Bool) (n : Nat) : Bool := if n < 4 then inp n else if n < 7 then st (n - 4) else gateB (ckd C (n - 7)) (t (cN (cf1 C (n - 7)))) (t (cN (cf2 C (n - 7))))
def tbl (C : Cfg) (j : Nat) (inp st : Nat → Bool) : Nat → Nat → Bool
  | 0 => fun _ => false
  | n + 1 => fun x => if x = n then fo j n (raw C inp st (tbl C j inp st n) n) else tbl C j inp st n x
/-- the states after c cycles of pattern p -/
def stc (C : Cfg) (j p : Nat) : Nat → Nat → Bool
  | 0 => fun k => p.testBit (4 + k)
  | c + 1 => fun k => tbl C j (fun i => p.testBit i) (stc C j p c) (7 + cg C) (cN (cfd C k))
/-- the lines in cycle c (from 0) -/
def lnv (C : Cfg) (j p c : Nat) : Nat → Bool := tbl C j (fun i => p.testBit i) (stc C j p c) (7 + cg C)
/-- bit b of the answer after c cycles -/
def ansB (C : Cfg) (j p c b : Nat) : Bool := if b < 3 then stc C j p c b else lnv C j p (c - 1) (cN (cop C (b - 3)))
/-- five bits as a number -/
def s5 (f : Nat → Bool) : Nat := (f 0).toNat + (f 1).toNat * 2 + (f 2).toNat * 4 + (f 3).toNat * 8 + (f 4).toNat * 16
def ansN (C : Cfg) (j p c : Nat) : Nat := s5 (ansB C j p c)
/-- the circuit is one: at most 14 gates, each fed by lines ahead of it, feeds and outputs are lines -/
def CW (C : Cfg) : Prop := cg C ≤ 14 ∧ (∀ i, i < cg C → (∃ a, a < 7 + i ∧ cf1 C i = nI a) ∧ ∃ a, a < 7 + i ∧ cf2 C i = nI a) ∧ (∀ k, k < 3 → ∃ a, a < 7 + cg C ∧ cfd C k = nI a) ∧ ∀ k, k < 2 → ∃ a, a < 7 + cg C ∧ cop C k = nI a
def isL (g : Nat) (a : Int32) : Prop := ∃ j, j < 7 + g ∧ a = nI j
def isF (g : Nat) (a : Int32) : Prop := ∃ j, j < 2 * (7 + g) ∧ a = nI j
def isP (a : Int32) : Prop := ∃ j, j < 128 ∧ a = nI j
def isC (a : Int32) : Prop := ∃ j, 1 ≤ j ∧ j ≤ 4 ∧ a = nI j
/-- the bit that stands for a fault of the model's (-1: none) -/
def FJ (C : Cfg) (f : Int32) (j : Nat) : Prop := (f = -1 ∧ j = 63) ∨ (f = nI j ∧ j < 2 * (7 + cg C))
/-- fault j would have given all that was noted -/
def exB (C : Cfg) (n : Nat) (pt cy aw : Nat → Int32) (j : Nat) : Bool := decide (∀ i, i < n → nI (ansN C j (cN (pt i)) (cN (cy i))) = aw i)
/-- faults j and k answer alike to all patterns of one cycle -/
def alN (n : Nat) (C : Cfg) (j k : Nat) : Bool := decide (∀ p, p < n → ansN C j p 1 = ansN C k p 1)
def alB (C : Cfg) (j k : Nat) : Bool := alN 128 C j k
theorem alB_iff {C : Cfg} {j k : Nat} : alB C j k = true ↔ ∀ p, p < 128 → ansN C j p 1 = ansN C k p 1 := decide_eq_true_iff
theorem exB_iff {C : Cfg} {n : Nat} {pt cy aw : Nat → Int32} {j : Nat} : exB C n pt cy aw j = true ↔ ∀ i, i < n → nI (ansN C j (cN (pt i)) (cN (cy i))) = aw i := decide_eq_true_iff
theorem cN_nI {n : Nat} (h : n < 2 ^ 31) : cN (nI n) = n := nI_clamp h
theorem tbl_new (C : Cfg) (j : Nat) (inp st : Nat → Bool) (n : Nat) : tbl C j inp st (n + 1) n = fo j n (raw C inp st (tbl C j inp st n) n) := if_pos rfl
theorem tbl_old (C : Cfg) (j : Nat) (inp st : Nat → Bool) {n x : Nat} (h : x < n) : tbl C j inp st (n + 1) x = tbl C j inp st n x := if_neg (by omega)
theorem tbl_cong (C : Cfg) (j : Nat) {inp inp' st st' : Nat → Bool} (hi : ∀ i, i < 4 → inp i = inp' i) (hs : ∀ k, k < 3 → st k = st' k) : ∀ n, tbl C j inp st n = tbl C j inp' st' n
  | 0 => rfl
  | n + 1 => by
    have ih := tbl_cong C j hi hs n
    funext x
    show (if x = n then fo j n (raw C inp st (tbl C j inp st n) n) else tbl C j inp st n x) = if x = n then fo j n (raw C inp' st' (tbl C j inp' st' n) n) else tbl C j inp' st' n x
    rw [ih]
    have e : raw C inp st (tbl C j inp' st' n) n = raw C inp' st' (tbl C j inp' st' n) n := by
      unfold raw
      by_cases h4 : n < 4
      · rw [if_pos h4, if_pos h4, hi n h4]
      · rw [if_neg h4, if_neg h4]
        by_cases h7 : n < 7
        · rw [if_pos h7, if_pos h7, hs (n - 4) (by omega)]
        · rw [if_neg h7, if_neg h7]
    rw [e]
theorem s5_lt (f : Nat → Bool) : s5 f < 32 := by
  unfold s5
  cases f 0 <;> cases f 1 <;> cases f 2 <;> cases f 3 <;> cases f 4 <;> decide
theorem s5_cong {f g : Nat → Bool} (h : ∀ b, b < 5 → f b = g b) : s5 f = s5 g := by
  unfold s5
  rw [h 0 (by decide), h 1 (by decide), h 2 (by decide), h 3 (by decide), h 4 (by decide)]
theorem s5_bit (f : Nat → Bool) : ∀ b, b < 5 → (s5 f).testBit b = f b := by
  intro b hb
  unfold s5
  rcases (show b = 0 ∨ b = 1 ∨ b = 2 ∨ b = 3 ∨ b = 4 by omega) with rfl | rfl | rfl | rfl | rfl <;> cases f 0 <;> cases f 1 <;> cases f 2 <;> cases f 3 <;> cases f 4 <;> rfl
theorem s5_inj {f g : Nat → Bool} : s5 f = s5 g ↔ ∀ b, b < 5 → f b = g b := by
  refine ⟨fun h b hb => ?_, s5_cong⟩
  rw [← s5_bit f b hb, ← s5_bit g b hb, h]
theorem ansN_lt (C : Cfg) (j p c : Nat) : ansN C j p c < 32 := s5_lt _
theorem ansN_eq (C : Cfg) (j k p c : Nat) : ansN C j p c = ansN C k p c ↔ ∀ b, b < 5 → ansB C j p c b = ansB C k p c b := s5_inj
theorem nI_small {a b : Nat} (ha : a < 32) (hb : b < 32) : nI a = nI b ↔ a = b := nI_eq (by omega) (by omega)
theorem isL_iff {g : Nat} (hg : g ≤ 14) (a : Int32) : isL g a ↔ ¬ a < 0 ∧ ¬ nI (7 + g) ≤ a := by
  constructor
  · rintro ⟨j, hj, rfl⟩
    exact ⟨nI_pos (by omega), nI_ge hj (by omega)⟩
  · rintro ⟨h1, h2⟩
    rcases pk_ix a (n := 7 + g) (by omega) with h | h | ⟨j, hj, e⟩
    · exact absurd h h1
    · exact absurd h h2
    · exact ⟨j, hj, e⟩
theorem isF_iff {g : Nat} (hg : g ≤ 14) (a : Int32) : isF g a ↔ ¬ a < 0 ∧ ¬ nI (2 * (7 + g)) ≤ a := by
  constructor
  · rintro ⟨j, hj, rfl⟩
    exact ⟨nI_pos (by omega), nI_ge hj (by omega)⟩
  · rintro ⟨h1, h2⟩
    rcases pk_ix a (n := 2 * (7 + g)) (by omega) with h | h | ⟨j, hj, e⟩
    · exact absurd h h1
    · exact absurd h h2
    · exact ⟨j, hj, e⟩
theorem le_of_nlt32 {a b : Int32} (h : ¬ a < b) : b ≤ a := by
  rw [Int32.lt_iff_toInt_lt] at h
  rw [Int32.le_iff_toInt_le]
  omega
theorem isP_iff (a : Int32) : isP a ↔ ¬ a < 0 ∧ ¬ nI 127 < a := by
  constructor
  · rintro ⟨j, hj, rfl⟩
    exact ⟨nI_pos (by omega), nI_nlt (by omega) (by decide)⟩
  · rintro ⟨h1, h2⟩
    obtain ⟨j, hj, e⟩ := nI_of2 (M := nI 127) (n := 127) (nI_toInt (by decide)) h1 (le_of_nlt32 h2)
    exact ⟨j, by omega, e⟩
theorem isC_iff (a : Int32) : isC a ↔ ¬ a < nI 1 ∧ ¬ nI 4 < a := by
  constructor
  · rintro ⟨j, h1, h4, rfl⟩
    exact ⟨nI_nlt h1 (by omega), nI_nlt h4 (by decide)⟩
  · rintro ⟨h1, h2⟩
    have h0 : ¬ a < 0 := fun z => h1 (by
      rw [Int32.lt_iff_toInt_lt] at z ⊢
      rw [Int32.toInt_zero] at z
      rw [nI_toInt (by decide)]
      omega)
    obtain ⟨j, hj, e⟩ := nI_of2 (M := nI 4) (n := 4) (nI_toInt (by decide)) h0 (le_of_nlt32 h2)
    refine ⟨j, ?_, hj, e⟩
    rcases Nat.lt_or_ge j 1 with z | z
    · exact absurd (by rw [e]; exact nI_lt z (by decide)) h1
    · exact z
theorem FJ_lt {C : Cfg} {f : Int32} {j : Nat} (hC : CW C) (h : FJ C f j) : j < 64 := by
  have := hC.1
  rcases h with ⟨-, rfl⟩ | ⟨-, h⟩
  · decide
  · omega
end
section
/-! what each call answers, in words that both sides share -/
set_option maxRecDepth 100000
abbrev kf (C : Cfg) : Nat := 2 * (7 + cg C)
theorem kf_le {C : Cfg} (h : CW C) : kf C ≤ 42 := by
  have := h.1
  show 2 * (7 + cg C) ≤ 42
  omega
def isN (n : Nat) (a : Int32) : Prop := ∃ j, j < n ∧ a = nI j
/-- the first fault that answers like f -/
def ear (C : Cfg) (f : Nat) : Nat := fa_first (fun k => alB C k f) f
/-- how far the groups are split: patterns ahead of q, and b bits of the answer to q -/
def GQ (C : Cfg) (lh : Int64) (lk : Nat → Int64) (q b : Nat) : Prop :=
  (∀ f, f < kf C → ∀ j, j < 64 → (lb (lk f) j = true ↔ (j < kf C ∧ (∀ p, p < q → ansN C f p 1 = ansN C j p 1) ∧ ∀ i, i < b → ansB C f q 1 i = ansB C j q 1 i))) ∧
  ∀ j, j < 64 → (lb lh j = true ↔ ((∀ p, p < q → ansN C 63 p 1 = ansN C j p 1) ∧ ∀ i, i < b → ansB C 63 q 1 i = ansB C j q 1 i))
def GI (C : Cfg) (lh : Int64) (lk : Nat → Int64) : Prop := GQ C lh lk 128 0
/-- the component holds this circuit, device, number noted, set left; its groups are right if it says so -/
def XK (C : Cfg) (dv : Int32) (nt : Nat) (lf : Int64) (u : XS) : Prop := ∃ (lh : Int64) (gr : Nat) (wo st an lk : Nat → Int64), u = (C, dv, nt, lf, lh, gr, wo, st, an, lk) ∧ (gr = 0 ∨ gr = 1 ∧ GI C lh lk)
/-- the model holds this circuit, device and notes -/
def MK (C : Cfg) (dv : Int32) (nt : Nat) (pt cy aw : Nat → Int32) (u : MS) : Prop := ∃ va : Nat → Int32, u = (C, dv, nt, pt, cy, aw, va)
def gateC (C : Cfg) (k a b : Int32) : Cfg := (cg C + 1, upd (ckd C) (cg C) k, upd (cf1 C) (cg C) a, upd (cf2 C) (cg C) (if k = nI 5 then a else b), cfd C, cop C)
def feedC (C : Cfg) (k : Nat) (a : Int32) : Cfg := (cg C, ckd C, cf1 C, cf2 C, upd (cfd C) k a, cop C)
def outC (C : Cfg) (k : Nat) (a : Int32) : Cfg := (cg C, ckd C, cf1 C, cf2 C, cfd C, upd (cop C) k a)
def Rgate (C : Cfg) (k a b r : Int32) (ok : Bool) : Prop :=
  (¬ isN 6 k ∧ r = -1 ∧ ok = false) ∨ (isN 6 k ∧ (¬ isL (cg C) a ∨ (k ≠ nI 5 ∧ ¬ isL (cg C) b)) ∧ r = -2 ∧ ok = false) ∨
  (isN 6 k ∧ isL (cg C) a ∧ (k = nI 5 ∨ isL (cg C) b) ∧ cg C = 14 ∧ r = -3 ∧ ok = false) ∨ (isN 6 k ∧ isL (cg C) a ∧ (k = nI 5 ∨ isL (cg C) b) ∧ cg C ≠ 14 ∧ r = nI (7 + cg C) ∧ ok = true)
/-- feed and output: n places, v what stood there -/
def Rput (C : Cfg) (n : Nat) (v : Nat → Int32) (k a r : Int32) (o : Option Nat) : Prop :=
  (¬ isN n k ∧ r = -1 ∧ o = none) ∨ (isN n k ∧ ¬ isL (cg C) a ∧ r = -2 ∧ o = none) ∨ (isL (cg C) a ∧ ∃ j, j < n ∧ k = nI j ∧ r = v j ∧ o = some j)
def Rinj (C : Cfg) (a r : Int32) (ok : Bool) : Prop := (a ≠ -1 ∧ ¬ isF (cg C) a ∧ r = -1 ∧ ok = false) ∨ ((a = -1 ∨ isF (cg C) a) ∧ r = nI 0 ∧ ok = true)
/-- observe: o is pattern and cycles if it was noted -/
def Robs (C : Cfg) (nt jd : Nat) (a b r : Int32) (o : Option (Nat × Nat)) : Prop :=
  (¬ isP a ∧ r = -1 ∧ o = none) ∨ (isP a ∧ ¬ isC b ∧ r = -2 ∧ o = none) ∨ (isP a ∧ isC b ∧ nt = 20 ∧ r = -3 ∧ o = none) ∨
  (nt ≠ 20 ∧ ∃ x y, x < 128 ∧ 1 ≤ y ∧ y ≤ 4 ∧ a = nI x ∧ b = nI y ∧ r = nI (ansN C jd x y) ∧ o = some (x, y))
/-- a call with pattern and cycles, v what it answers -/
def Rask (v : Nat → Nat → Nat) (a b r : Int32) : Prop :=
  (¬ isP a ∧ r = -1) ∨ (isP a ∧ ¬ isC b ∧ r = -2) ∨ (∃ x y, x < 128 ∧ 1 ≤ y ∧ y ≤ 4 ∧ a = nI x ∧ b = nI y ∧ r = nI (v x y))
def RaskF (C : Cfg) (f a b r : Int32) : Prop :=
  (¬ isF (cg C) f ∧ r = -1) ∨ (isF (cg C) f ∧ ¬ isP a ∧ r = -2) ∨ (isF (cg C) f ∧ isP a ∧ ¬ isC b ∧ r = -3) ∨ (∃ j x y, j < kf C ∧ f = nI j ∧ x < 128 ∧ 1 ≤ y ∧ y ≤ 4 ∧ a = nI x ∧ b = nI y ∧ r = nI (ansN C j x y))
def detN (C : Cfg) (x y : Nat) : Nat := fb_ct (fun j => decide (ansN C j x y ≠ ansN C 63 x y)) (kf C)
/-- pattern q tells two faults of p apart -/
def mix (C : Cfg) (p : Nat → Bool) (q : Nat) : Prop := ∃ i j, i < kf C ∧ j < kf C ∧ p i = true ∧ p j = true ∧ ansN C i q 1 ≠ ansN C j q 1
def Rnext (C : Cfg) (p : Nat → Bool) (r : Int32) : Prop := (∃ q, q < 128 ∧ mix C p q ∧ (∀ i, i < q → ¬ mix C p i) ∧ r = nI q) ∨ ((∀ q, q < 128 → ¬ mix C p q) ∧ r = -1)
def Rlead (C : Cfg) (a r : Int32) : Prop := (¬ isF (cg C) a ∧ r = -1) ∨ ∃ f, f < kf C ∧ a = nI f ∧ r = nI (ear C f)
/-- f is the first of its group, and the group meets p -/
def grpB (C : Cfg) (p : Nat → Bool) (f : Nat) : Bool := decide (ear C f = f) && decide (0 < fb_ct (fun j => alB C f j && p j) (kf C))
theorem al_refl (C : Cfg) (f : Nat) : alB C f f = true := alB_iff.mpr fun _ _ => rfl
theorem al_symm (C : Cfg) (f g : Nat) : alB C f g = alB C g f := by
  rw [Bool.eq_iff_iff, alB_iff, alB_iff]
  exact ⟨fun h p hp => (h p hp).symm, fun h p hp => (h p hp).symm⟩
theorem ear_le (C : Cfg) (f : Nat) : ear C f ≤ f := fa_first_le _ _
theorem ear_al (C : Cfg) (f : Nat) : alB C (ear C f) f = true := by
  rcases Nat.lt_or_ge (ear C f) f with h | h
  · exact fa_first_yes (fun k => alB C k f) f h
  · have e : ear C f = f := Nat.le_antisymm (ear_le C f) h
    rw [e]
    exact al_refl C f
theorem ear_no (C : Cfg) {f k : Nat} (h : k < ear C f) : alB C k f = false := fa_first_no (fun k => alB C k f) f k h
theorem GI_lk {C : Cfg} {lh : Int64} {lk : Nat → Int64} (h : GI C lh lk) {f j : Nat} (hf : f < kf C) (hj : j < 64) : lb (lk f) j = (decide (j < kf C) && alB C f j) := by
  rw [Bool.eq_iff_iff, h.1 f hf j hj, Bool.and_eq_true, decide_eq_true_iff, alB_iff]
  exact ⟨fun z => ⟨z.1, z.2.1⟩, fun z => ⟨z.1, z.2, fun i hi => absurd hi (by omega)⟩⟩
theorem GI_lh {C : Cfg} {lh : Int64} {lk : Nat → Int64} (h : GI C lh lk) {j : Nat} (hj : j < 64) : lb lh j = alB C 63 j := by
  rw [Bool.eq_iff_iff, h.2 j hj, alB_iff]
  exact ⟨fun z => z.1, fun z => ⟨z, fun i hi => absurd hi (by omega)⟩⟩
/-- the lowest bit of like f -/
theorem GI_low {C : Cfg} {lh : Int64} {lk : Nat → Int64} (hC : CW C) (h : GI C lh lk) {f : Nat} (hf : f < kf C) : ear C f < 64 ∧ lb (lk f) (ear C f) = true ∧ ∀ j, j < ear C f → lb (lk f) j = false := by
  have h1 := ear_le C f
  have h2 := kf_le hC
  refine ⟨by omega, ?_, fun j hj => ?_⟩
  · rw [GI_lk h hf (by omega), al_symm, ear_al, decide_eq_true (show ear C f < kf C by omega)]; rfl
  · rw [GI_lk h hf (by omega), al_symm, ear_no C hj, Bool.and_false]
theorem sp_1 {x : Int64} (a : Int64) {f : Nat} (h : lb x f = true) : ∀ j, j < 64 → lb (a &&& x) j = (lb a j && (lb x f == lb x j)) := fun j _ => by
  rw [lb_and, h]; cases lb x j <;> rfl
theorem sp_0 {x : Int64} (a : Int64) {f : Nat} (h : lb x f = false) : ∀ j, j < 64 → lb (a &&& (x ^^^ (-1))) j = (lb a j && (lb x f == lb x j)) := fun j hj => by
  rw [lb_and, lb_not x hj, h]; cases lb x j <;> rfl
/-- one more bit splits the groups -/
theorem GQ_split {C : Cfg} {lh lh1 x : Int64} {lk lk1 : Nat → Int64} {q b : Nat} (hC : CW C) (h : GQ C lh lk q b) (hx : ∀ j, j < 64 → lb x j = ansB C j q 1 b) (h1 : ∀ f, f < kf C → ∀ j, j < 64 → lb (lk1 f) j = (lb (lk f) j && (lb x f == lb x j))) (h2 : ∀ j, j < 64 → lb lh1 j = (lb lh j && (lb x 63 == lb x j))) : GQ C lh1 lk1 q (b + 1) := by
  have hg := kf_le hC
  refine ⟨fun f hf j hj => ?_, fun j hj => ?_⟩
  · rw [h1 f hf j hj, Bool.and_eq_true, beq_iff_eq, h.1 f hf j hj, hx f (by omega), hx j hj]
    constructor
    · rintro ⟨⟨a1, a2, a3⟩, a4⟩
      exact ⟨a1, a2, lt_s a3 a4⟩
    · rintro ⟨a1, a2, a3⟩
      exact ⟨⟨a1, a2, fun i hi => a3 i (by omega)⟩, a3 b (by omega)⟩
  · rw [h2 j hj, Bool.and_eq_true, beq_iff_eq, h.2 j hj, hx 63 (by omega), hx j hj]
    constructor
    · rintro ⟨⟨a2, a3⟩, a4⟩
      exact ⟨a2, lt_s a3 a4⟩
    · rintro ⟨a2, a3⟩
      exact ⟨⟨a2, fun i hi => a3 i (by omega)⟩, a3 b (by omega)⟩
theorem GQ_next {C : Cfg} {lh : Int64} {lk : Nat → Int64} {q : Nat} (h : GQ C lh lk q 5) : GQ C lh lk (q + 1) 0 := by
  refine ⟨fun f hf j hj => ?_, fun j hj => ?_⟩
  · rw [h.1 f hf j hj]
    constructor
    · rintro ⟨a1, a2, a3⟩
      exact ⟨a1, lt_s a2 ((ansN_eq C f j q 1).mpr a3), fun i hi => absurd hi (by omega)⟩
    · rintro ⟨a1, a2, -⟩
      exact ⟨a1, fun p hp => a2 p (by omega), (ansN_eq C f j q 1).mp (a2 q (by omega))⟩
  · rw [h.2 j hj]
    constructor
    · rintro ⟨a2, a3⟩
      exact ⟨lt_s a2 ((ansN_eq C 63 j q 1).mpr a3), fun i hi => absurd hi (by omega)⟩
    · rintro ⟨a2, -⟩
      exact ⟨fun p hp => a2 p (by omega), (ansN_eq C 63 j q 1).mp (a2 q (by omega))⟩
theorem GQ_0 {C : Cfg} {lk : Nat → Int64} (hC : CW C) (h : ∀ f, f < 42 → ∀ j, j < 64 → lb (lk f) j = decide (j < kf C)) : GQ C (-1) lk 0 0 := by
  have hg := kf_le hC
  refine ⟨fun f hf j hj => ?_, fun j hj => ?_⟩
  · rw [h f (by omega) j hj, decide_eq_true_iff]
    exact ⟨fun z => ⟨z, fun _ hp => absurd hp (by omega), fun _ hp => absurd hp (by omega)⟩, fun z => z.1⟩
  · rw [lb_m1 j hj]
    exact ⟨fun _ => ⟨fun _ hp => absurd hp (by omega), fun _ hp => absurd hp (by omega)⟩, fun _ => rfl⟩
/-- like f meets a set -/
theorem GI_meet {C : Cfg} {lh x : Int64} {lk : Nat → Int64} (hC : CW C) (h : GI C lh lk) {f : Nat} (hf : f < kf C) : (lk f &&& x) ≠ 0 ↔ 0 < fb_ct (fun j => alB C f j && lb x j) (kf C) := by
  have hg := kf_le hC
  rw [fb_ct_pos]
  constructor
  · intro hn
    apply Classical.byContradiction
    intro hc
    apply hn
    apply lb_ext
    intro j hj
    rw [lb_0, lb_and, GI_lk h hf hj]
    cases e : (decide (j < kf C) && alB C f j && lb x j)
    · rfl
    · rw [Bool.and_eq_true, Bool.and_eq_true, decide_eq_true_iff] at e
      exact absurd ⟨j, e.1.1, by rw [Bool.and_eq_true]; exact ⟨e.1.2, e.2⟩⟩ hc
  · rintro ⟨j, hj, hb⟩ hz
    rw [Bool.and_eq_true] at hb
    have := congrArg (fun y => lb y j) hz
    simp only [lb_0, lb_and] at this
    rw [GI_lk h hf (by omega), decide_eq_true hj, hb.1, hb.2] at this
    cases this
theorem ne_of_mix_bits {C : Cfg} {p : Nat → Bool} {q : Nat} (h : ∀ b, b < 5 → ∀ i j, i < kf C → j < kf C → p i = true → p j = true → ansB C i q 1 b = ansB C j q 1 b) : ¬ mix C p q := by
  rintro ⟨i, j, hi, hj, pi, pj, hne⟩
  exact hne ((ansN_eq C i j q 1).mpr fun b hb => h b hb i j hi hj pi pj)
theorem mix_of {C : Cfg} {p : Nat → Bool} {q b i j : Nat} (hb : b < 5) (hi : i < kf C) (hj : j < kf C) (pi : p i = true) (pj : p j = true) (h : ansB C i q 1 b ≠ ansB C j q 1 b) : mix C p q := ⟨i, j, hi, hj, pi, pj, fun z => h ((ansN_eq C i j q 1).mp z b hb)⟩
/-- what 'on' says: nothing wanted is on, or all of it -/
theorem on_0 {C : Cfg} {x wt lf : Int64} {q b : Nat} (hC : CW C) (hx : ∀ j, j < 64 → lb x j = ansB C j q 1 b) (hw : ∀ j, j < 64 → lb wt j = (lb lf j && decide (j < kf C))) (h : x &&& wt = 0) : ∀ i j, i < kf C → j < kf C → lb lf i = true → lb lf j = true → ansB C i q 1 b = ansB C j q 1 b := by
  have hg := kf_le hC
  have key : ∀ i, i < kf C → lb lf i = true → ansB C i q 1 b = false := fun i hi pi => by
    have := congrArg (fun y => lb y i) h
    simp only [lb_0, lb_and] at this
    rw [hx i (by omega), hw i (by omega), pi, decide_eq_true hi] at this
    simpa using this
  intro i j hi hj pi pj
  rw [key i hi pi, key j hj pj]
theorem on_1 {C : Cfg} {x wt lf : Int64} {q b : Nat} (hC : CW C) (hx : ∀ j, j < 64 → lb x j = ansB C j q 1 b) (hw : ∀ j, j < 64 → lb wt j = (lb lf j && decide (j < kf C))) (h : x &&& wt = wt) : ∀ i j, i < kf C → j < kf C → lb lf i = true → lb lf j = true → ansB C i q 1 b = ansB C j q 1 b := by
  have hg := kf_le hC
  have key : ∀ i, i < kf C → lb lf i = true → ansB C i q 1 b = true := fun i hi pi => by
    have := congrArg (fun y => lb y i) h
    simp only [lb_and] at this
    rw [hx i (by omega), hw i (by omega), pi, decide_eq_true hi] at this
    simpa using this
  intro i j hi hj pi pj
  rw [key i hi pi, key j hj pj]
theorem on_mix {C : Cfg} {x wt lf : Int64} {q b : Nat} (hC : CW C) (hb : b < 5) (hx : ∀ j, j < 64 → lb x j = ansB C j q 1 b) (hw : ∀ j, j < 64 → lb wt j = (lb lf j && decide (j < kf C))) (h0 : x &&& wt ≠ 0) (h1 : x &&& wt ≠ wt) : mix C (lb lf) q := by
  apply Classical.byContradiction
  intro hm
  have hall : ∀ i j, i < kf C → j < kf C → lb lf i = true → lb lf j = true → ansB C i q 1 b = ansB C j q 1 b := fun i j hi hj pi pj => Classical.byContradiction fun z => hm (mix_of hb hi hj pi pj z)
  apply h0
  apply lb_ext
  intro j hj
  rw [lb_0, lb_and, hx j hj, hw j hj]
  cases e : (ansB C j q 1 b && (lb lf j && decide (j < kf C)))
  · rfl
  · rw [Bool.and_eq_true, Bool.and_eq_true, decide_eq_true_iff] at e
    exfalso
    apply h1
    apply lb_ext
    intro i hi
    rw [lb_and, hx i hi, hw i hi]
    cases e2 : (lb lf i && decide (i < kf C))
    · rw [Bool.and_false]
    · rw [Bool.and_eq_true, decide_eq_true_iff] at e2
      rw [hall i j e2.2 e.2.2 e2.1 e.2.1, e.1]; rfl
end
section
/-! the component: rooms, call words; its small methods -/
set_option maxRecDepth 100000
abbrev rmX0_drop : Room := { frames := 0, cells := 0, slots := 0, locals := 0 }
abbrev rmX0_gate : Room := { frames := 1, cells := 0, slots := 0, locals := 21 }
abbrev rmX0_isLine : Room := { frames := 0, cells := 0, slots := 0, locals := 0 }
abbrev rmX0_feed : Room := { frames := 1, cells := 0, slots := 0, locals := 21 }
abbrev rmX0_output : Room := { frames := 1, cells := 0, slots := 0, locals := 21 }
abbrev rmX0_lines : Room := { frames := 0, cells := 0, slots := 0, locals := 0 }
abbrev rmX0_inject : Room := { frames := 1, cells := 0, slots := 0, locals := 21 }
abbrev rmX0_isFault : Room := { frames := 0, cells := 0, slots := 0, locals := 0 }
abbrev rmX0_observe : Room := { frames := 3, cells := 0, slots := 0, locals := 72 }
abbrev rmX0_isPattern : Room := { frames := 0, cells := 0, slots := 0, locals := 0 }
abbrev rmX0_isCycles : Room := { frames := 0, cells := 0, slots := 0, locals := 0 }
abbrev rmX0_runAll : Room := { frames := 2, cells := 0, slots := 0, locals := 48 }
abbrev rmX0_settle : Room := { frames := 1, cells := 0, slots := 0, locals := 24 }
abbrev rmX0_stuck : Room := { frames := 0, cells := 0, slots := 0, locals := 0 }
abbrev rmX0_combine : Room := { frames := 0, cells := 0, slots := 0, locals := 0 }
abbrev rmX0_answerOf : Room := { frames := 0, cells := 0, slots := 0, locals := 0 }
abbrev rmX0_forget : Room := { frames := 0, cells := 0, slots := 0, locals := 0 }
abbrev rmX0_observations : Room := { frames := 0, cells := 0, slots := 0, locals := 0 }
abbrev rmX0_response : Room := { frames := 3, cells := 0, slots := 0, locals := 72 }
abbrev rmX0_responseWith : Room := { frames := 3, cells := 0, slots := 0, locals := 72 }
abbrev rmX0_candidates : Room := { frames := 1, cells := 0, slots := 0, locals := 23 }
abbrev rmX0_faults : Room := { frames := 0, cells := 0, slots := 0, locals := 0 }
abbrev rmX0_ones : Room := { frames := 0, cells := 0, slots := 0, locals := 0 }
abbrev rmX0_candidate : Room := { frames := 0, cells := 0, slots := 0, locals := 0 }
abbrev rmX0_healthy : Room := { frames := 0, cells := 0, slots := 0, locals := 0 }
abbrev rmX0_nextPattern : Room := { frames := 3, cells := 0, slots := 0, locals := 72 }
abbrev rmX0_detected : Room := { frames := 3, cells := 0, slots := 0, locals := 72 }
abbrev rmX0_hidden : Room := { frames := 4, cells := 0, slots := 0, locals := 94 }
abbrev rmX0_group : Room := { frames := 3, cells := 0, slots := 0, locals := 72 }
abbrev rmX0_split : Room := { frames := 0, cells := 0, slots := 0, locals := 0 }
abbrev rmX0_leader : Room := { frames := 4, cells := 0, slots := 0, locals := 94 }
abbrev rmX0_lowest : Room := { frames := 1, cells := 0, slots := 0, locals := 23 }
abbrev rmX0_groups : Room := { frames := 5, cells := 0, slots := 0, locals := 118 }
abbrev rmX0_groupsWith : Room := { frames := 4, cells := 0, slots := 0, locals := 94 }
abbrev rmX0_candidateGroups : Room := { frames := 5, cells := 0, slots := 0, locals := 118 }
theorem cwX0_X0_isLine {R : Room} {s : State} {args : Array Value} (hts : ∀ w ∈ lw_all, w.before args s = true) (hR : rmX0_isLine.frames + 1 ≤ R.frames ∧ 8 + (2 + 11) + rmX0_isLine.locals ≤ R.locals) : CallW R s args RX0 RX0 45 yX0_isLine cX0_isLine 2 (some .boolean) (ws_ yX0_isLine cX0_isLine 2 (some .boolean)) rmX0_isLine 0 0 1 := cwV 1 hts (lw_V q90 q92 qs1 q23 q93) rfl rfl rfl (by decide +kernel) hR
theorem cwX0_X0_drop {R : Room} {s : State} {args : Array Value} (hts : ∀ w ∈ lw_all, w.before args s = true) (hR : rmX0_drop.frames + 1 ≤ R.frames ∧ 8 + (1 + 11) + rmX0_drop.locals ≤ R.locals) : CallW R s args RX0 RX0 42 yX0_drop cX0_drop 1 none (ws_ yX0_drop cX0_drop 1 none) rmX0_drop 0 0 0 := cwV 0 hts (lw_V q33 q35 qs0 q23 q36) rfl rfl rfl (by decide +kernel) hR
theorem cwX0_X0_isFault {R : Room} {s : State} {args : Array Value} (hts : ∀ w ∈ lw_all, w.before args s = true) (hR : rmX0_isFault.frames + 1 ≤ R.frames ∧ 8 + (2 + 11) + rmX0_isFault.locals ≤ R.locals) : CallW R s args RX0 RX0 52 yX0_isFault cX0_isFault 2 (some .boolean) (ws_ yX0_isFault cX0_isFault 2 (some .boolean)) rmX0_isFault 0 0 1 := cwV 1 hts (lw_V q110 q112 qs2 q23 q113) rfl rfl rfl (by decide +kernel) hR
theorem cwX0_X0_isPattern {R : Room} {s : State} {args : Array Value} (hts : ∀ w ∈ lw_all, w.before args s = true) (hR : rmX0_isPattern.frames + 1 ≤ R.frames ∧ 8 + (1 + 11) + rmX0_isPattern.locals ≤ R.locals) : CallB R s args RX0 55 yX0_isPattern cX0_isPattern 1 (some .boolean) (ws_ yX0_isPattern cX0_isPattern 1 (some .boolean)) rmX0_isPattern 0 0 1 ∧ (Cond.static yX0_isPattern).before args s = true := va_cwS 1 hts (lw_S q118 q119 q23 q120) rfl rfl rfl (by decide +kernel) hR
theorem cwX0_X0_isCycles {R : Room} {s : State} {args : Array Value} (hts : ∀ w ∈ lw_all, w.before args s = true) (hR : rmX0_isCycles.frames + 1 ≤ R.frames ∧ 8 + (1 + 11) + rmX0_isCycles.locals ≤ R.locals) : CallB R s args RX0 58 yX0_isCycles cX0_isCycles 1 (some .boolean) (ws_ yX0_isCycles cX0_isCycles 1 (some .boolean)) rmX0_isCycles 0 0 1 ∧ (Cond.static yX0_isCycles).before args s = true := va_cwS 1 hts (lw_S q121 q122 q23 q123) rfl rfl rfl (by decide +kernel) hR
theorem cwX0_X0_runAll {R : Room} {s : State} {args : Array Value} (hts : ∀ w ∈ lw_all, w.before args s = true) (hR : rmX0_runAll.frames + 1 ≤ R.frames ∧ 8 + (5 + 11) + rmX0_runAll.locals ≤ R.locals) : CallW R s args RX0 RX0 64 yX0_runAll cX0_runAll 5 none (ws_ yX0_runAll cX0_runAll 5 none) rmX0_runAll 0 0 2 := cwV 2 hts (lw_V q124 q126 qs3 q23 q127) rfl rfl rfl (by decide +kernel) hR
theorem cwX0_X0_answerOf {R : Room} {s : State} {args : Array Value} (hts : ∀ w ∈ lw_all, w.before args s = true) (hR : rmX0_answerOf.frames + 1 ≤ R.frames ∧ 8 + (4 + 11) + rmX0_answerOf.locals ≤ R.locals) : CallW R s args RX0 RX0 68 yX0_answerOf cX0_answerOf 4 (some .int) (ws_ yX0_answerOf cX0_answerOf 4 (some .int)) rmX0_answerOf 0 0 1 := cwV 1 hts (lw_V q138 q140 qs5 q23 q141) rfl rfl rfl (by decide +kernel) hR
theorem cwX0_X0_settle {R : Room} {s : State} {args : Array Value} (hts : ∀ w ∈ lw_all, w.before args s = true) (hR : rmX0_settle.frames + 1 ≤ R.frames ∧ 8 + (5 + 11) + rmX0_settle.locals ≤ R.locals) : CallW R s args RX0 RX0 110 yX0_settle cX0_settle 5 none (ws_ yX0_settle cX0_settle 5 none) rmX0_settle 0 0 1 := cwV 1 hts (lw_V q128 q130 qs4 q23 q131) rfl rfl rfl (by decide +kernel) hR
theorem cwX0_X0_stuck {R : Room} {s : State} {args : Array Value} (hts : ∀ w ∈ lw_all, w.before args s = true) (hR : rmX0_stuck.frames + 1 ≤ R.frames ∧ 8 + (3 + 11) + rmX0_stuck.locals ≤ R.locals) : CallB R s args RX0 114 yX0_stuck cX0_stuck 3 (some .long) (ws_ yX0_stuck cX0_stuck 3 (some .long)) rmX0_stuck 0 0 2 ∧ (Cond.static yX0_stuck).before args s = true := va_cwS 2 hts (lw_S q132 q133 q23 q134) rfl rfl rfl (by decide +kernel) hR
theorem cwX0_X0_combine {R : Room} {s : State} {args : Array Value} (hts : ∀ w ∈ lw_all, w.before args s = true) (hR : rmX0_combine.frames + 1 ≤ R.frames ∧ 8 + (5 + 11) + rmX0_combine.locals ≤ R.locals) : CallB R s args RX0 118 yX0_combine cX0_combine 5 (some .long) (ws_ yX0_combine cX0_combine 5 (some .long)) rmX0_combine 0 0 3 ∧ (Cond.static yX0_combine).before args s = true := va_cwS 3 hts (lw_S q135 q136 q23 q137) rfl rfl rfl (by decide +kernel) hR
theorem cwX0_X0_faults {R : Room} {s : State} {args : Array Value} (hts : ∀ w ∈ lw_all, w.before args s = true) (hR : rmX0_faults.frames + 1 ≤ R.frames ∧ 8 + (1 + 11) + rmX0_faults.locals ≤ R.locals) : CallW R s args RX0 RX0 78 yX0_faults cX0_faults 1 (some .long) (ws_ yX0_faults cX0_faults 1 (some .long)) rmX0_faults 0 0 0 := cwV 0 hts (lw_V q162 q164 qs6 q23 q165) rfl rfl rfl (by decide +kernel) hR
theorem cwX0_X0_ones {R : Room} {s : State} {args : Array Value} (hts : ∀ w ∈ lw_all, w.before args s = true) (hR : rmX0_ones.frames + 1 ≤ R.frames ∧ 8 + (4 + 11) + rmX0_ones.locals ≤ R.locals) : CallB R s args RX0 82 yX0_ones cX0_ones 4 (some .int) (ws_ yX0_ones cX0_ones 4 (some .int)) rmX0_ones 0 0 1 ∧ (Cond.static yX0_ones).before args s = true := va_cwS 1 hts (lw_S q166 q167 q23 q168) rfl rfl rfl (by decide +kernel) hR
theorem cwX0_X0_group {R : Room} {s : State} {args : Array Value} (hts : ∀ w ∈ lw_all, w.before args s = true) (hR : rmX0_group.frames + 1 ≤ R.frames ∧ 8 + (3 + 11) + rmX0_group.locals ≤ R.locals) : CallW R s args RX0 RX0 86 yX0_group cX0_group 3 none (ws_ yX0_group cX0_group 3 none) rmX0_group 0 0 0 := cwV 0 hts (lw_V q193 q195 qs7 q23 q196) rfl rfl rfl (by decide +kernel) hR
theorem cwX0_X0_split {R : Room} {s : State} {args : Array Value} (hts : ∀ w ∈ lw_all, w.before args s = true) (hR : rmX0_split.frames + 1 ≤ R.frames ∧ 8 + (4 + 11) + rmX0_split.locals ≤ R.locals) : CallW R s args RX0 RX0 122 yX0_split cX0_split 4 none (ws_ yX0_split cX0_split 4 none) rmX0_split 0 0 1 := cwV 1 hts (lw_V q197 q199 qs8 q23 q200) rfl rfl rfl (by decide +kernel) hR
theorem cwX0_X0_lowest {R : Room} {s : State} {args : Array Value} (hts : ∀ w ∈ lw_all, w.before args s = true) (hR : rmX0_lowest.frames + 1 ≤ R.frames ∧ 8 + (4 + 11) + rmX0_lowest.locals ≤ R.locals) : CallB R s args RX0 92 yX0_lowest cX0_lowest 4 (some .int) (ws_ yX0_lowest cX0_lowest 4 (some .int)) rmX0_lowest 0 0 1 ∧ (Cond.static yX0_lowest).before args s = true := va_cwS 1 hts (lw_S q205 q206 q23 q207) rfl rfl rfl (by decide +kernel) hR
theorem cwX0_X0_groupsWith {R : Room} {s : State} {args : Array Value} (hts : ∀ w ∈ lw_all, w.before args s = true) (hR : rmX0_groupsWith.frames + 1 ≤ R.frames ∧ 8 + (5 + 11) + rmX0_groupsWith.locals ≤ R.locals) : CallW R s args RX0 RX0 95 yX0_groupsWith cX0_groupsWith 5 (some .int) (ws_ yX0_groupsWith cX0_groupsWith 5 (some .int)) rmX0_groupsWith 0 0 1 := cwV 1 hts (lw_V q212 q214 qs9 q23 q215) rfl rfl rfl (by decide +kernel) hR
theorem stuck_ok (x : Int64) {i : Nat} (hi : i < 21) : ∀ j, j < 64 → lb ((x &&& (lsh 1 (2 * i) ^^^ (-1))) ||| lsh 1 (2 * i + 1)) j = fo j i (lb x j) := by
  intro j hj
  rw [lb_or, lb_and, lb_not _ hj, lb_bit _ (by omega) j hj, lb_bit _ (by omega) j hj]
  unfold fo
  by_cases h1 : j = 2 * i
  · rw [if_pos h1, decide_eq_true h1, decide_eq_false (show ¬ j = 2 * i + 1 by omega)]
    simp
  · rw [if_neg h1, decide_eq_false h1]
    by_cases h2 : j = 2 * i + 1
    · rw [if_pos h2, decide_eq_true h2]
      simp
    · rw [if_neg h2, decide_eq_false h2]
      simp
theorem cmb_0 {k : Int32} (a b : Int64) (h0 : k = 0) : ∀ j, j < 64 → lb (a &&& b) j = gateB k (lb a j) (lb b j) := fun j hj => by
  rw [gateB, if_pos (show k = nI 0 from h0), lb_and]
theorem cmb_1 {k : Int32} (a b : Int64) (h0 : ¬ k = 0) (h1 : k = nI 1) : ∀ j, j < 64 → lb (a ||| b) j = gateB k (lb a j) (lb b j) := fun j hj => by
  rw [gateB, if_neg (show ¬ k = nI 0 from h0), if_pos h1, lb_or]
theorem cmb_2 {k : Int32} (a b : Int64) (h0 : ¬ k = 0) (h1 : ¬ k = nI 1) (h2 : k = nI 2) : ∀ j, j < 64 → lb (a ^^^ b) j = gateB k (lb a j) (lb b j) := fun j hj => by
  rw [gateB, if_neg (show ¬ k = nI 0 from h0), if_neg h1, if_pos h2, lb_xor]
theorem cmb_3 {k : Int32} (a b : Int64) (h0 : ¬ k = 0) (h1 : ¬ k = nI 1) (h2 : ¬ k = nI 2) (h3 : k = nI 3) : ∀ j, j < 64 → lb ((a &&& b) ^^^ (-1)) j = gateB k (lb a j) (lb b j) := fun j hj => by
  rw [gateB, if_neg (show ¬ k = nI 0 from h0), if_neg h1, if_neg h2, if_pos h3, lb_not _ hj, lb_and]
theorem cmb_4 {k : Int32} (a b : Int64) (h0 : ¬ k = 0) (h1 : ¬ k = nI 1) (h2 : ¬ k = nI 2) (h3 : ¬ k = nI 3) (h4 : k = nI 4) : ∀ j, j < 64 → lb ((a ||| b) ^^^ (-1)) j = gateB k (lb a j) (lb b j) := fun j hj => by
  rw [gateB, if_neg (show ¬ k = nI 0 from h0), if_neg h1, if_neg h2, if_neg h3, if_pos h4, lb_not _ hj, lb_or]
theorem cmb_5 {k : Int32} (a b : Int64) (h0 : ¬ k = 0) (h1 : ¬ k = nI 1) (h2 : ¬ k = nI 2) (h3 : ¬ k = nI 3) (h4 : ¬ k = nI 4) : ∀ j, j < 64 → lb (a ^^^ (-1)) j = gateB k (lb a j) (lb b j) := fun j hj => by
  rw [gateB, if_neg (show ¬ k = nI 0 from h0), if_neg h1, if_neg h2, if_neg h3, if_neg h4, lb_not _ hj]
theorem ct_mask {x r : Int64} {K : Nat} (hK : K ≤ 64) (h : ∀ j, j < 64 → lb r j = decide (j < K)) : fb_ct (lb (x &&& r)) 64 = fb_ct (lb x) K := by
  rw [ct_cut hK (fun j h1 h2 => by rw [lb_and, h j h2, decide_eq_false (by omega), Bool.and_false])]
  exact fb_ct_cong (fun k hk => by rw [lb_and, h k (by omega), decide_eq_true hk, Bool.and_true])
/-- the first bits of a number, by their weights -/
def ps (f : Nat → Bool) : Nat → Nat
  | 0 => 0
  | n + 1 => ps f n + (f n).toNat * 2 ^ n
theorem ps5 (f : Nat → Bool) : ps f 5 = s5 f := by
  show 0 + (f 0).toNat * 2 ^ 0 + (f 1).toNat * 2 ^ 1 + (f 2).toNat * 2 ^ 2 + (f 3).toNat * 2 ^ 3 + (f 4).toNat * 2 ^ 4 = _
  unfold s5
  omega
/-- what candidate(i) answers of the first K faults with the property p -/
def candR (p : Nat → Bool) (K : Nat) (a r : Int32) : Prop := (∃ f, f < K ∧ p f = true ∧ a = nI (fb_ct p f) ∧ r = nI f) ∨ ((∀ f, f < K → p f = true → a ≠ nI (fb_ct p f)) ∧ r = -1)
theorem sub0 (a b : Int32) : a - b = 0 ↔ a = b := by
  constructor
  · intro h; grind
  · intro h; grind
theorem sub1 (a b : Int32) : (a - b) + Int32.ofInt (-1) = a - (b + 1) := by
  have e : Int32.ofInt (-1) = -1 := by decide
  rw [e]; grind
set_option maxHeartbeats 4000000 in
set_option maxRecDepth 100000 in
/-- X0_isPattern -/
theorem metX0_isPattern (l : Launch) (a : Int32) : Met l yX0_isPattern (ws_ yX0_isPattern cX0_isPattern 1 (some .boolean)) rmX0_isPattern (va_Pc [.int a] (fun _ => True)) (vp_Si (fun r => (r = nI 1 ∧ isP a) ∨ (r = nI 0 ∧ ¬ isP a))) 0 0 (fun _ => False) := by
  refine s_met (own := RX0) rfl (by decide) (Nat.le_of_ble_eq_true rfl) ?_
  intro p e s m args below meth c ls K hr hlk hl
  obtain ⟨hx, hb, hml, hown, hts⟩ := id K
  have hR : rmX0_isPattern.frames ≤ rmX0_isPattern.frames ∧ rmX0_isPattern.locals ≤ rmX0_isPattern.locals := ⟨Nat.le_refl _, Nat.le_refl _⟩
  have hl : lv_has ls 1 [(0, .int a)] := hl
  refine lv_iload_n hx hb dX0_isPattern_0 rfl (lv_at hl 0 rfl) ?_
  refine lv_if_lt (tgt := 14) hx hb dX0_isPattern_1 (by decide) (fun c1 => ?_) (fun c1 => ?_)
  · refine lv_iconst (v := nI 0) hx hb dX0_isPattern_14 (by decide) ?_
    exact W.zret (v := (nI 0)) hx hb hr (by decide) (fun t ht hW => ⟨_, rfl, (by first | exact Or.inl ⟨rfl, (isP_iff a).mpr ⟨c1, c7⟩⟩ | exact Or.inr ⟨rfl, fun z => ((isP_iff a).mp z).1 c1⟩ | exact Or.inr ⟨rfl, fun z => ((isP_iff a).mp z).2 c7⟩), ht⟩) (fun q h => by cases h) dX0_isPattern_15
  · refine lv_iload_n hx hb dX0_isPattern_4 rfl (lv_at hl 0 rfl) ?_
    refine lv_bipush (v := nI 127) hx hb dX0_isPattern_5 (by decide) ?_
    refine lv_icmp_gt (tgt := 14) hx hb dX0_isPattern_7 (by decide) (fun c7 => ?_) (fun c7 => ?_)
    · refine lv_iconst (v := nI 0) hx hb dX0_isPattern_14 (by decide) ?_
      exact W.zret (v := (nI 0)) hx hb hr (by decide) (fun t ht hW => ⟨_, rfl, (by first | exact Or.inl ⟨rfl, (isP_iff a).mpr ⟨c1, c7⟩⟩ | exact Or.inr ⟨rfl, fun z => ((isP_iff a).mp z).1 c1⟩ | exact Or.inr ⟨rfl, fun z => ((isP_iff a).mp z).2 c7⟩), ht⟩) (fun q h => by cases h) dX0_isPattern_15
    · refine lv_iconst (v := nI 1) hx hb dX0_isPattern_10 (by decide) ?_
      refine lv_goto (tgt := 15) hx hb dX0_isPattern_11 (by decide) ?_
      exact W.zret (v := (nI 1)) hx hb hr (by decide) (fun t ht hW => ⟨_, rfl, (by first | exact Or.inl ⟨rfl, (isP_iff a).mpr ⟨c1, c7⟩⟩ | exact Or.inr ⟨rfl, fun z => ((isP_iff a).mp z).1 c1⟩ | exact Or.inr ⟨rfl, fun z => ((isP_iff a).mp z).2 c7⟩), ht⟩) (fun q h => by cases h) dX0_isPattern_15
set_option maxHeartbeats 4000000 in
set_option maxRecDepth 100000 in
/-- X0_isCycles -/
theorem metX0_isCycles (l : Launch) (a : Int32) : Met l yX0_isCycles (ws_ yX0_isCycles cX0_isCycles 1 (some .boolean)) rmX0_isCycles (va_Pc [.int a] (fun _ => True)) (vp_Si (fun r => (r = nI 1 ∧ isC a) ∨ (r = nI 0 ∧ ¬ isC a))) 0 0 (fun _ => False) := by
  refine s_met (own := RX0) rfl (by decide) (Nat.le_of_ble_eq_true rfl) ?_
  intro p e s m args below meth c ls K hr hlk hl
  obtain ⟨hx, hb, hml, hown, hts⟩ := id K
  have hR : rmX0_isCycles.frames ≤ rmX0_isCycles.frames ∧ rmX0_isCycles.locals ≤ rmX0_isCycles.locals := ⟨Nat.le_refl _, Nat.le_refl _⟩
  have hl : lv_has ls 1 [(0, .int a)] := hl
  refine lv_iload_n hx hb dX0_isCycles_0 rfl (lv_at hl 0 rfl) ?_
  refine lv_iconst (v := nI 1) hx hb dX0_isCycles_1 (by decide) ?_
  refine lv_icmp_lt (tgt := 14) hx hb dX0_isCycles_2 (by decide) (fun c2 => ?_) (fun c2 => ?_)
  · refine lv_iconst (v := nI 0) hx hb dX0_isCycles_14 (by decide) ?_
    exact W.zret (v := (nI 0)) hx hb hr (by decide) (fun t ht hW => ⟨_, rfl, (by first | exact Or.inl ⟨rfl, (isC_iff a).mpr ⟨c2, c7⟩⟩ | exact Or.inr ⟨rfl, fun z => ((isC_iff a).mp z).1 c2⟩ | exact Or.inr ⟨rfl, fun z => ((isC_iff a).mp z).2 c7⟩), ht⟩) (fun q h => by cases h) dX0_isCycles_15
  · refine lv_iload_n hx hb dX0_isCycles_5 rfl (lv_at hl 0 rfl) ?_
    refine lv_iconst (v := nI 4) hx hb dX0_isCycles_6 (by decide) ?_
    refine lv_icmp_gt (tgt := 14) hx hb dX0_isCycles_7 (by decide) (fun c7 => ?_) (fun c7 => ?_)
    · refine lv_iconst (v := nI 0) hx hb dX0_isCycles_14 (by decide) ?_
      exact W.zret (v := (nI 0)) hx hb hr (by decide) (fun t ht hW => ⟨_, rfl, (by first | exact Or.inl ⟨rfl, (isC_iff a).mpr ⟨c2, c7⟩⟩ | exact Or.inr ⟨rfl, fun z => ((isC_iff a).mp z).1 c2⟩ | exact Or.inr ⟨rfl, fun z => ((isC_iff a).mp z).2 c7⟩), ht⟩) (fun q h => by cases h) dX0_isCycles_15
    · refine lv_iconst (v := nI 1) hx hb dX0_isCycles_10 (by decide) ?_
      refine lv_goto (tgt := 15) hx hb dX0_isCycles_11 (by decide) ?_
      exact W.zret (v := (nI 1)) hx hb hr (by decide) (fun t ht hW => ⟨_, rfl, (by first | exact Or.inl ⟨rfl, (isC_iff a).mpr ⟨c2, c7⟩⟩ | exact Or.inr ⟨rfl, fun z => ((isC_iff a).mp z).1 c2⟩ | exact Or.inr ⟨rfl, fun z => ((isC_iff a).mp z).2 c7⟩), ht⟩) (fun q h => by cases h) dX0_isCycles_15
set_option maxHeartbeats 4000000 in
set_option maxRecDepth 100000 in
/-- stuck(i, x): the two faults of line i forced -/
theorem metX0_stuck (l : Launch) (i : Nat) (x : Int64) (hi : i < 21) : Met l yX0_stuck (ws_ yX0_stuck cX0_stuck 3 (some .long)) rmX0_stuck (va_Pc [.int (nI i), .long x] (fun _ => True)) (vp_Sl (fun r => ∀ j, j < 64 → lb r j = fo j i (lb x j))) 0 0 (fun _ => False) := by
  refine s_met (own := RX0) rfl (by decide) (Nat.le_of_ble_eq_true rfl) ?_
  intro p e s m args below meth c ls K hr hlk hl
  obtain ⟨hx, hb, hml, hown, hts⟩ := id K
  have hR : rmX0_stuck.frames ≤ rmX0_stuck.frames ∧ rmX0_stuck.locals ≤ rmX0_stuck.locals := ⟨Nat.le_refl _, Nat.le_refl _⟩
  have hl : lv_has ls 3 [(0, .int (nI i)), (1, .long x)] := hl
  refine lv_lload_n hx hb dX0_stuck_0 rfl (lv_at hl 1 rfl) ?_
  refine lv_lconst (v := 1) hx hb dX0_stuck_1 (by decide) ?_
  refine lv_iconst (v := nI 2) hx hb dX0_stuck_2 (by decide) ?_
  refine lv_iload_n hx hb dX0_stuck_3 rfl (lv_at hl 0 rfl) ?_
  refine n_imul hx hb dX0_stuck_4 ?_
  refine lv_lshl (v := lsh 1 (2 * i)) hx hb dX0_stuck_5 rfl ?_
  refine lv_ldc2 hx hb hown (hts _ q37) dX0_stuck_6 ?_
  refine lv_lxor hx hb dX0_stuck_9 ?_
  refine lv_land hx hb dX0_stuck_10 ?_
  refine lv_lconst (v := 1) hx hb dX0_stuck_11 (by decide) ?_
  refine lv_iconst (v := nI 2) hx hb dX0_stuck_12 (by decide) ?_
  refine lv_iload_n hx hb dX0_stuck_13 rfl (lv_at hl 0 rfl) ?_
  refine n_imul hx hb dX0_stuck_14 ?_
  refine lv_iconst (v := nI 1) hx hb dX0_stuck_15 (by decide) ?_
  refine n_iadd hx hb dX0_stuck_16 ?_
  refine lv_lshl (v := lsh 1 ((2 * i) + 1)) hx hb dX0_stuck_17 rfl ?_
  refine lv_lor hx hb dX0_stuck_18 ?_
  exact W.lret (v := ((x &&& ((lsh 1 (2 * i)) ^^^ (-1))) ||| (lsh 1 ((2 * i) + 1)))) hx hb hr (fun t ht hW => ⟨_, rfl, (stuck_ok x hi), ht⟩) (fun q h => by cases h) dX0_stuck_19
set_option maxHeartbeats 4000000 in
set_option maxRecDepth 100000 in
/-- combine(k, a, b) -/
theorem metX0_combine (l : Launch) (k : Int32) (a b : Int64) : Met l yX0_combine (ws_ yX0_combine cX0_combine 5 (some .long)) rmX0_combine (va_Pc [.int k, .long a, .long b] (fun _ => True)) (vp_Sl (fun r => ∀ j, j < 64 → lb r j = gateB k (lb a j) (lb b j))) 0 0 (fun _ => False) := by
  refine s_met (own := RX0) rfl (by decide) (Nat.le_of_ble_eq_true rfl) ?_
  intro p e s m args below meth c ls K hr hlk hl
  obtain ⟨hx, hb, hml, hown, hts⟩ := id K
  have hR : rmX0_combine.frames ≤ rmX0_combine.frames ∧ rmX0_combine.locals ≤ rmX0_combine.locals := ⟨Nat.le_refl _, Nat.le_refl _⟩
  have hl : lv_has ls 5 [(0, .int k), (1, .long a), (3, .long b)] := hl
  refine lv_iload_n hx hb dX0_combine_0 rfl (lv_at hl 0 rfl) ?_
  refine lv_if_ne (tgt := 8) hx hb dX0_combine_1 (by decide) (fun c1 => ?_) (fun c1 => ?_)
  · refine lv_iload_n hx hb dX0_combine_8 rfl (lv_at hl 0 rfl) ?_
    refine lv_iconst (v := nI 1) hx hb dX0_combine_9 (by decide) ?_
    refine lv_icmp_ne (tgt := 17) hx hb dX0_combine_10 (by decide) (fun c10 => ?_) (fun c10 => ?_)
    · refine lv_iload_n hx hb dX0_combine_17 rfl (lv_at hl 0 rfl) ?_
      refine lv_iconst (v := nI 2) hx hb dX0_combine_18 (by decide) ?_
      refine lv_icmp_ne (tgt := 26) hx hb dX0_combine_19 (by decide) (fun c19 => ?_) (fun c19 => ?_)
      · refine lv_iload_n hx hb dX0_combine_26 rfl (lv_at hl 0 rfl) ?_
        refine lv_iconst (v := nI 3) hx hb dX0_combine_27 (by decide) ?_
        refine lv_icmp_ne (tgt := 39) hx hb dX0_combine_28 (by decide) (fun c28 => ?_) (fun c28 => ?_)
        · refine lv_iload_n hx hb dX0_combine_39 rfl (lv_at hl 0 rfl) ?_
          refine lv_iconst (v := nI 4) hx hb dX0_combine_40 (by decide) ?_
          refine lv_icmp_ne (tgt := 54) hx hb dX0_combine_41 (by decide) (fun c41 => ?_) (fun c41 => ?_)
          · refine lv_lload_n hx hb dX0_combine_54 rfl (lv_at hl 1 rfl) ?_
            refine lv_ldc2 hx hb hown (hts _ q37) dX0_combine_55 ?_
            refine lv_lxor hx hb dX0_combine_58 ?_
            exact W.lret (v := (a ^^^ (-1))) hx hb hr (fun t ht hW => ⟨_, rfl, (cmb_5 a b c1 c10 c19 c28 c41), ht⟩) (fun q h => by cases h) dX0_combine_59
          · refine lv_lload_n hx hb dX0_combine_44 rfl (lv_at hl 1 rfl) ?_
            refine lv_lload_n hx hb dX0_combine_45 rfl (lv_at hl 2 rfl) ?_
            refine lv_lor hx hb dX0_combine_46 ?_
            refine lv_ldc2 hx hb hown (hts _ q37) dX0_combine_47 ?_
            refine lv_lxor hx hb dX0_combine_50 ?_
            refine lv_goto (tgt := 59) hx hb dX0_combine_51 (by decide) ?_
            exact W.lret (v := ((a ||| b) ^^^ (-1))) hx hb hr (fun t ht hW => ⟨_, rfl, (cmb_4 a b c1 c10 c19 c28 c41), ht⟩) (fun q h => by cases h) dX0_combine_59
        · refine lv_lload_n hx hb dX0_combine_31 rfl (lv_at hl 1 rfl) ?_
          refine lv_lload_n hx hb dX0_combine_32 rfl (lv_at hl 2 rfl) ?_
          refine lv_land hx hb dX0_combine_33 ?_
          refine lv_ldc2 hx hb hown (hts _ q37) dX0_combine_34 ?_
          refine lv_lxor hx hb dX0_combine_37 ?_
          exact W.lret (v := ((a &&& b) ^^^ (-1))) hx hb hr (fun t ht hW => ⟨_, rfl, (cmb_3 a b c1 c10 c19 c28), ht⟩) (fun q h => by cases h) dX0_combine_38
      · refine lv_lload_n hx hb dX0_combine_22 rfl (lv_at hl 1 rfl) ?_
        refine lv_lload_n hx hb dX0_combine_23 rfl (lv_at hl 2 rfl) ?_
        refine lv_lxor hx hb dX0_combine_24 ?_
        exact W.lret (v := (a ^^^ b)) hx hb hr (fun t ht hW => ⟨_, rfl, (cmb_2 a b c1 c10 c19), ht⟩) (fun q h => by cases h) dX0_combine_25
    · refine lv_lload_n hx hb dX0_combine_13 rfl (lv_at hl 1 rfl) ?_
      refine lv_lload_n hx hb dX0_combine_14 rfl (lv_at hl 2 rfl) ?_
      refine lv_lor hx hb dX0_combine_15 ?_
      exact W.lret (v := (a ||| b)) hx hb hr (fun t ht hW => ⟨_, rfl, (cmb_1 a b c1 c10), ht⟩) (fun q h => by cases h) dX0_combine_16
  · refine lv_lload_n hx hb dX0_combine_4 rfl (lv_at hl 1 rfl) ?_
    refine lv_lload_n hx hb dX0_combine_5 rfl (lv_at hl 2 rfl) ?_
    refine lv_land hx hb dX0_combine_6 ?_
    exact W.lret (v := (a &&& b)) hx hb hr (fun t ht hW => ⟨_, rfl, (cmb_0 a b c1), ht⟩) (fun q h => by cases h) dX0_combine_7
set_option maxHeartbeats 4000000 in
set_option maxRecDepth 100000 in
/-- ones(x): how many bits are set -/
theorem metX0_ones (l : Launch) (x : Int64) : Met l yX0_ones (ws_ yX0_ones cX0_ones 4 (some .int)) rmX0_ones (va_Pc [.long x] (fun _ => True)) (vp_Si (fun r => r = nI (fb_ct (lb x) 64))) 0 0 (fun _ => False) := by
  refine s_met (own := RX0) rfl (by decide) (Nat.le_of_ble_eq_true rfl) ?_
  intro p e s m args below meth c ls K hr hlk hl
  obtain ⟨hx, hb, hml, hown, hts⟩ := id K
  have hR : rmX0_ones.frames ≤ rmX0_ones.frames ∧ rmX0_ones.locals ≤ rmX0_ones.locals := ⟨Nat.le_refl _, Nat.le_refl _⟩
  have hl : lv_has ls 4 [(0, .long x)] := hl
  refine lv_lload_n hx hb dX0_ones_0 rfl (lv_at hl 0 rfl) ?_
  refine lv_lload_n hx hb dX0_ones_1 rfl (lv_at hl 0 rfl) ?_
  refine lv_iconst (v := nI 1) hx hb dX0_ones_2 (by decide) ?_
  refine lv_lushr (v := lsr x 1) hx hb dX0_ones_3 rfl ?_
  refine lv_ldc2 hx hb hown (hts _ q169) dX0_ones_4 ?_
  refine lv_land hx hb dX0_ones_7 ?_
  refine lv_lsub hx hb dX0_ones_8 ?_
  refine lv_topl (fun x0 e0 => ?_)
  refine lv_lstore_n (lv' := [(2, .long x0), (0, .long x)]) hx hb dX0_ones_9 rfl hl (by decide) rfl (fun ls hl => ?_)
  refine lv_lload_n hx hb dX0_ones_10 rfl (lv_at hl 0 rfl) ?_
  refine lv_ldc2 hx hb hown (hts _ q170) dX0_ones_11 ?_
  refine lv_land hx hb dX0_ones_14 ?_
  refine lv_lload_n hx hb dX0_ones_15 rfl (lv_at hl 0 rfl) ?_
  refine lv_iconst (v := nI 2) hx hb dX0_ones_16 (by decide) ?_
  refine lv_lushr (v := lsr x0 2) hx hb dX0_ones_17 rfl ?_
  refine lv_ldc2 hx hb hown (hts _ q170) dX0_ones_18 ?_
  refine lv_land hx hb dX0_ones_21 ?_
  refine lv_ladd hx hb dX0_ones_22 ?_
  refine lv_topl (fun x1 e1 => ?_)
  refine lv_lstore_n (lv' := [(2, .long x1), (0, .long x)]) hx hb dX0_ones_23 rfl hl (by decide) rfl (fun ls hl => ?_)
  refine lv_lload_n hx hb dX0_ones_24 rfl (lv_at hl 0 rfl) ?_
  refine lv_lload_n hx hb dX0_ones_25 rfl (lv_at hl 0 rfl) ?_
  refine lv_iconst (v := nI 4) hx hb dX0_ones_26 (by decide) ?_
  refine lv_lushr (v := lsr x1 4) hx hb dX0_ones_27 rfl ?_
  refine lv_ladd hx hb dX0_ones_28 ?_
  refine lv_ldc2 hx hb hown (hts _ q171) dX0_ones_29 ?_
  refine lv_land hx hb dX0_ones_32 ?_
  refine lv_topl (fun x2 e2 => ?_)
  refine lv_lstore_n (lv' := [(2, .long x2), (0, .long x)]) hx hb dX0_ones_33 rfl hl (by decide) rfl (fun ls hl => ?_)
  refine lv_lload_n hx hb dX0_ones_34 rfl (lv_at hl 0 rfl) ?_
  refine lv_ldc2 hx hb hown (hts _ q172) dX0_ones_35 ?_
  refine lv_lmul hx hb dX0_ones_38 ?_
  refine lv_bipush (v := nI 56) hx hb dX0_ones_39 (by decide) ?_
  refine lv_lushr (v := lsr (x2 * 72340172838076673) 56) hx hb dX0_ones_41 rfl ?_
  refine lv_l2i (v := (lsr (x2 * 72340172838076673) 56).toInt32) hx hb dX0_ones_42 rfl ?_
  exact W.iret (v := ((lsr (x2 * 72340172838076673) 56).toInt32)) hx hb hr (fun t ht hW => ⟨_, rfl, (ones_ok x x0 x1 x2 e0 e1 e2), ht⟩) (fun q h => by cases h) dX0_ones_43
set_option maxHeartbeats 4000000 in
set_option maxRecDepth 100000 in
/-- lowest(x): the lowest bit set -/
theorem metX0_lowest (l : Launch) (x : Int64) (k9 : Nat) (hk9 : k9 < 64) (h1 : lb x k9 = true) (h0 : ∀ j, j < k9 → lb x j = false) : Met l yX0_lowest (ws_ yX0_lowest cX0_lowest 4 (some .int)) rmX0_lowest (va_Pc [.long x] (fun _ => True)) (vp_Si (fun r => r = nI k9)) 0 0 (fun _ => False) := by
  refine s_met (own := RX0) rfl (by decide) (Nat.le_of_ble_eq_true rfl) ?_
  intro p e s m args below meth c ls K hr hlk hl
  obtain ⟨hx, hb, hml, hown, hts⟩ := id K
  have hR : rmX0_lowest.frames ≤ rmX0_lowest.frames ∧ rmX0_lowest.locals ≤ rmX0_lowest.locals := ⟨Nat.le_refl _, Nat.le_refl _⟩
  have hl : lv_has ls 4 [(0, .long x)] := hl
  refine lv_lload_n hx hb dX0_lowest_0 rfl (lv_at hl 0 rfl) ?_
  refine lv_lload_n hx hb dX0_lowest_1 rfl (lv_at hl 0 rfl) ?_
  refine lv_lneg hx hb dX0_lowest_2 ?_
  refine lv_land hx hb dX0_lowest_3 ?_
  refine lv_lstore_n (lv' := [(2, .long (x &&& (-x))), (0, .long x)]) hx hb dX0_lowest_4 rfl hl (by decide) rfl (fun ls hl => ?_)
  refine lv_lload_n hx hb dX0_lowest_5 rfl (lv_at hl 0 rfl) ?_
  refine lv_lconst (v := 1) hx hb dX0_lowest_6 (by decide) ?_
  refine lv_lsub hx hb dX0_lowest_7 ?_
  refine s_calli (rest := []) K (metX0_ones l ((x &&& (-x)) - 1)) (cwX0_X0_ones hts ⟨Nat.le_trans (by decide) hR.1, Nat.le_trans (by decide) hR.2⟩) rfl hl.1 rfl (Nat.le_of_ble_eq_true rfl) dX0_lowest_8 ⟨Nat.zero_le _, Nat.zero_le _⟩ (fun r hr1 => ?_)
  exact W.iret (v := r) hx hb hr (fun t ht hW => ⟨_, rfl, (by rw [hr1, low_ok x hk9 h1 h0]), ht⟩) (fun q h => by cases h) dX0_lowest_11
set_option maxHeartbeats 4000000 in
set_option maxRecDepth 100000 in
/-- X0_isLine -/
theorem metX0_isLine (l : Launch) (D : va_G) (di dj : ClassId) (h : Nat → Nat) (hD : xD h) (C : Cfg) (dv : Int32) (nt : Nat) (lf lh : Int64) (gr : Nat) (wo st an lk : Nat → Int64) (hC : CW C) (a : Int32) : Met l yX0_isLine (ws_ yX0_isLine cX0_isLine 2 (some .boolean)) rmX0_isLine (GPc D (tyX di dj) h [.int a] (wX di dj h (C, dv, nt, lf, lh, gr, wo, st, an, lk))) (vp_Si (fun r => (r = nI 1 ∧ isL (cg C) a) ∨ (r = nI 0 ∧ ¬ isL (cg C) a))) 0 0 (fun _ => False) := by
  refine g_met (own := RX0) rfl (by decide) hD (Nat.le_of_ble_eq_true rfl) ?_
  intro p e s m args below meth c ls K hr hlk w hl
  obtain ⟨hx, hb, hml, hown, hts, hK, -⟩ := id K
  have hR : rmX0_isLine.frames ≤ rmX0_isLine.frames ∧ rmX0_isLine.locals ≤ rmX0_isLine.locals := ⟨Nat.le_refl _, Nat.le_refl _⟩
  have hl : lv_has ls 2 [(0, .ref (h 0)), (1, .int a)] := hl
  refine lv_iload_n hx hb dX0_isLine_0 rfl (lv_at hl 1 rfl) ?_
  refine lv_if_lt (tgt := 19) hx hb dX0_isLine_1 (by decide) (fun c1 => ?_) (fun c1 => ?_)
  · refine lv_iconst (v := nI 0) hx hb dX0_isLine_19 (by decide) ?_
    exact W.zret (v := (nI 0)) hx hb hr (by decide) (fun t ht hW => ⟨_, rfl, (by first | exact Or.inl ⟨rfl, (isL_iff hC.1 a).mpr ⟨c1, c12⟩⟩ | exact Or.inr ⟨rfl, fun z => ((isL_iff hC.1 a).mp z).1 c1⟩ | exact Or.inr ⟨rfl, fun z => ((isL_iff hC.1 a).mp z).2 c12⟩), ht⟩) (fun q h => by cases h) dX0_isLine_20
  · refine lv_iload_n hx hb dX0_isLine_4 rfl (lv_at hl 1 rfl) ?_
    refine lv_bipush (v := nI 7) hx hb dX0_isLine_5 (by decide) ?_
    refine lv_aload_n hx hb dX0_isLine_7 rfl (lv_at hl 0 rfl) ?_
    refine xg_gates K w dX0_isLine_8 ?_
    refine n_iadd hx hb dX0_isLine_11 ?_
    refine lv_icmp_ge (tgt := 19) hx hb dX0_isLine_12 (by decide) (fun c12 => ?_) (fun c12 => ?_)
    · refine lv_iconst (v := nI 0) hx hb dX0_isLine_19 (by decide) ?_
      exact W.zret (v := (nI 0)) hx hb hr (by decide) (fun t ht hW => ⟨_, rfl, (by first | exact Or.inl ⟨rfl, (isL_iff hC.1 a).mpr ⟨c1, c12⟩⟩ | exact Or.inr ⟨rfl, fun z => ((isL_iff hC.1 a).mp z).1 c1⟩ | exact Or.inr ⟨rfl, fun z => ((isL_iff hC.1 a).mp z).2 c12⟩), ht⟩) (fun q h => by cases h) dX0_isLine_20
    · refine lv_iconst (v := nI 1) hx hb dX0_isLine_15 (by decide) ?_
      refine lv_goto (tgt := 20) hx hb dX0_isLine_16 (by decide) ?_
      exact W.zret (v := (nI 1)) hx hb hr (by decide) (fun t ht hW => ⟨_, rfl, (by first | exact Or.inl ⟨rfl, (isL_iff hC.1 a).mpr ⟨c1, c12⟩⟩ | exact Or.inr ⟨rfl, fun z => ((isL_iff hC.1 a).mp z).1 c1⟩ | exact Or.inr ⟨rfl, fun z => ((isL_iff hC.1 a).mp z).2 c12⟩), ht⟩) (fun q h => by cases h) dX0_isLine_20
set_option maxHeartbeats 4000000 in
set_option maxRecDepth 100000 in
/-- X0_isFault -/
theorem metX0_isFault (l : Launch) (D : va_G) (di dj : ClassId) (h : Nat → Nat) (hD : xD h) (C : Cfg) (dv : Int32) (nt : Nat) (lf lh : Int64) (gr : Nat) (wo st an lk : Nat → Int64) (hC : CW C) (a : Int32) : Met l yX0_isFault (ws_ yX0_isFault cX0_isFault 2 (some .boolean)) rmX0_isFault (GPc D (tyX di dj) h [.int a] (wX di dj h (C, dv, nt, lf, lh, gr, wo, st, an, lk))) (vp_Si (fun r => (r = nI 1 ∧ isF (cg C) a) ∨ (r = nI 0 ∧ ¬ isF (cg C) a))) 0 0 (fun _ => False) := by
  refine g_met (own := RX0) rfl (by decide) hD (Nat.le_of_ble_eq_true rfl) ?_
  intro p e s m args below meth c ls K hr hlk w hl
  obtain ⟨hx, hb, hml, hown, hts, hK, -⟩ := id K
  have hR : rmX0_isFault.frames ≤ rmX0_isFault.frames ∧ rmX0_isFault.locals ≤ rmX0_isFault.locals := ⟨Nat.le_refl _, Nat.le_refl _⟩
  have hl : lv_has ls 2 [(0, .ref (h 0)), (1, .int a)] := hl
  refine lv_iload_n hx hb dX0_isFault_0 rfl (lv_at hl 1 rfl) ?_
  refine lv_if_lt (tgt := 21) hx hb dX0_isFault_1 (by decide) (fun c1 => ?_) (fun c1 => ?_)
  · refine lv_iconst (v := nI 0) hx hb dX0_isFault_21 (by decide) ?_
    exact W.zret (v := (nI 0)) hx hb hr (by decide) (fun t ht hW => ⟨_, rfl, (by first | exact Or.inl ⟨rfl, (isF_iff hC.1 a).mpr ⟨c1, c14⟩⟩ | exact Or.inr ⟨rfl, fun z => ((isF_iff hC.1 a).mp z).1 c1⟩ | exact Or.inr ⟨rfl, fun z => ((isF_iff hC.1 a).mp z).2 c14⟩), ht⟩) (fun q h => by cases h) dX0_isFault_22
  · refine lv_iload_n hx hb dX0_isFault_4 rfl (lv_at hl 1 rfl) ?_
    refine lv_iconst (v := nI 2) hx hb dX0_isFault_5 (by decide) ?_
    refine lv_bipush (v := nI 7) hx hb dX0_isFault_6 (by decide) ?_
    refine lv_aload_n hx hb dX0_isFault_8 rfl (lv_at hl 0 rfl) ?_
    refine xg_gates K w dX0_isFault_9 ?_
    refine n_iadd hx hb dX0_isFault_12 ?_
    refine n_imul hx hb dX0_isFault_13 ?_
    refine lv_icmp_ge (tgt := 21) hx hb dX0_isFault_14 (by decide) (fun c14 => ?_) (fun c14 => ?_)
    · refine lv_iconst (v := nI 0) hx hb dX0_isFault_21 (by decide) ?_
      exact W.zret (v := (nI 0)) hx hb hr (by decide) (fun t ht hW => ⟨_, rfl, (by first | exact Or.inl ⟨rfl, (isF_iff hC.1 a).mpr ⟨c1, c14⟩⟩ | exact Or.inr ⟨rfl, fun z => ((isF_iff hC.1 a).mp z).1 c1⟩ | exact Or.inr ⟨rfl, fun z => ((isF_iff hC.1 a).mp z).2 c14⟩), ht⟩) (fun q h => by cases h) dX0_isFault_22
    · refine lv_iconst (v := nI 1) hx hb dX0_isFault_17 (by decide) ?_
      refine lv_goto (tgt := 22) hx hb dX0_isFault_18 (by decide) ?_
      exact W.zret (v := (nI 1)) hx hb hr (by decide) (fun t ht hW => ⟨_, rfl, (by first | exact Or.inl ⟨rfl, (isF_iff hC.1 a).mpr ⟨c1, c14⟩⟩ | exact Or.inr ⟨rfl, fun z => ((isF_iff hC.1 a).mp z).1 c1⟩ | exact Or.inr ⟨rfl, fun z => ((isF_iff hC.1 a).mp z).2 c14⟩), ht⟩) (fun q h => by cases h) dX0_isFault_22
set_option maxHeartbeats 4000000 in
set_option maxRecDepth 100000 in
/-- faults(): a bit for every fault -/
theorem metX0_faults (l : Launch) (D : va_G) (di dj : ClassId) (h : Nat → Nat) (hD : xD h) (C : Cfg) (dv : Int32) (nt : Nat) (lf lh : Int64) (gr : Nat) (wo st an lk : Nat → Int64) (hC : CW C)  : Met l yX0_faults (ws_ yX0_faults cX0_faults 1 (some .long)) rmX0_faults (GPc D (tyX di dj) h [] (wX di dj h (C, dv, nt, lf, lh, gr, wo, st, an, lk))) (vp_Sl (fun r => ∀ j, j < 64 → lb r j = decide (j < 2 * (7 + cg C)))) 0 0 (fun _ => False) := by
  refine g_met (own := RX0) rfl (by decide) hD (Nat.le_of_ble_eq_true rfl) ?_
  intro p e s m args below meth c ls K hr hlk w hl
  obtain ⟨hx, hb, hml, hown, hts, hK, -⟩ := id K
  have hR : rmX0_faults.frames ≤ rmX0_faults.frames ∧ rmX0_faults.locals ≤ rmX0_faults.locals := ⟨Nat.le_refl _, Nat.le_refl _⟩
  have hl : lv_has ls 1 [(0, .ref (h 0))] := hl
  refine lv_lconst (v := 1) hx hb dX0_faults_0 (by decide) ?_
  refine lv_iconst (v := nI 2) hx hb dX0_faults_1 (by decide) ?_
  refine lv_bipush (v := nI 7) hx hb dX0_faults_2 (by decide) ?_
  refine lv_aload_n hx hb dX0_faults_4 rfl (lv_at hl 0 rfl) ?_
  refine xg_gates K w dX0_faults_5 ?_
  refine n_iadd hx hb dX0_faults_8 ?_
  refine n_imul hx hb dX0_faults_9 ?_
  refine lv_lshl (v := lsh 1 (2 * (7 + (cg C)))) hx hb dX0_faults_10 rfl ?_
  refine lv_lconst (v := 1) hx hb dX0_faults_11 (by decide) ?_
  refine lv_lsub hx hb dX0_faults_12 ?_
  exact W.lret (v := ((lsh 1 (2 * (7 + (cg C)))) - 1)) hx hb hr (fun t ht hW => ⟨_, rfl, (fun j hj => lb_low _ (by have := hC.1; omega) j hj), ht⟩) (fun q h => by cases h) dX0_faults_13
set_option maxHeartbeats 4000000 in
set_option maxRecDepth 100000 in
/-- drop() -/
theorem metX0_drop (l : Launch) (D : va_G) (di dj : ClassId) (h : Nat → Nat) (hD : xD h) (C : Cfg) (dv : Int32) (nt : Nat) (lf lh : Int64) (gr : Nat) (wo st an lk : Nat → Int64)   : Met l yX0_drop (ws_ yX0_drop cX0_drop 1 none) rmX0_drop (GPc D (tyX di dj) h [] (wX di dj h (C, dv, nt, lf, lh, gr, wo, st, an, lk))) (GQv D h (wX di dj h) (fun u => u = (C, dv, 0, -1, lh, 0, wo, st, an, lk))) 0 0 (xB h) := by
  refine g_met (own := RX0) rfl (by decide) hD (Nat.le_of_ble_eq_true rfl) ?_
  intro p e s m args below meth c ls K hr hlk w hl
  obtain ⟨hx, hb, hml, hown, hts, hK, -⟩ := id K
  have hR : rmX0_drop.frames ≤ rmX0_drop.frames ∧ rmX0_drop.locals ≤ rmX0_drop.locals := ⟨Nat.le_refl _, Nat.le_refl _⟩
  have hl : lv_has ls 1 [(0, .ref (h 0))] := hl
  refine lv_aload_n hx hb dX0_drop_0 rfl (lv_at hl 0 rfl) ?_
  refine lv_iconst (v := nI 0) hx hb dX0_drop_1 (by decide) ?_
  refine xp_noted K w dX0_drop_2 (fun H locs w => ?_)
  refine lv_aload_n hx hb dX0_drop_5 rfl (lv_at hl 0 rfl) ?_
  refine lv_ldc2 hx hb hown (hts _ q37) dX0_drop_6 ?_
  refine xp_left K w dX0_drop_9 (fun H locs w => ?_)
  refine lv_aload_n hx hb dX0_drop_12 rfl (lv_at hl 0 rfl) ?_
  refine lv_iconst (v := nI 0) hx hb dX0_drop_13 (by decide) ?_
  refine xp_grouped0 K w dX0_drop_14 (fun H locs w => ?_)
  exact W.vret hx hb hr (fun t ht hW => ⟨⟨(C, dv, 0, (-1), lh, 0, wo, st, an, lk), rfl, rfl, (by show va_P D vwCl _ t.heap; rw [ht]; exact w.1)⟩, w.2.F ht⟩) w.2.2.2 dX0_drop_17
set_option maxHeartbeats 4000000 in
set_option maxRecDepth 100000 in
/-- forget() -/
theorem metX0_forget (l : Launch) (D : va_G) (di dj : ClassId) (h : Nat → Nat) (hD : xD h) (C : Cfg) (dv : Int32) (nt : Nat) (lf lh : Int64) (gr : Nat) (wo st an lk : Nat → Int64)   : Met l yX0_forget (ws_ yX0_forget cX0_forget 2 (some .int)) rmX0_forget (GPc D (tyX di dj) h [] (wX di dj h (C, dv, nt, lf, lh, gr, wo, st, an, lk))) (GQi D h (wX di dj h) (fun r u => r = nI nt ∧ u = (C, dv, 0, -1, lh, gr, wo, st, an, lk))) 0 0 (xB h) := by
  refine g_met (own := RX0) rfl (by decide) hD (Nat.le_of_ble_eq_true rfl) ?_
  intro p e s m args below meth c ls K hr hlk w hl
  obtain ⟨hx, hb, hml, hown, hts, hK, -⟩ := id K
  have hR : rmX0_forget.frames ≤ rmX0_forget.frames ∧ rmX0_forget.locals ≤ rmX0_forget.locals := ⟨Nat.le_refl _, Nat.le_refl _⟩
  have hl : lv_has ls 2 [(0, .ref (h 0))] := hl
  refine lv_aload_n hx hb dX0_forget_0 rfl (lv_at hl 0 rfl) ?_
  refine xg_noted K w dX0_forget_1 ?_
  refine lv_istore_n (lv' := [(1, .int (nI nt)), (0, .ref (h 0))]) hx hb dX0_forget_4 rfl hl (by decide) rfl (fun ls hl => ?_)
  refine lv_aload_n hx hb dX0_forget_5 rfl (lv_at hl 1 rfl) ?_
  refine lv_iconst (v := nI 0) hx hb dX0_forget_6 (by decide) ?_
  refine xp_noted K w dX0_forget_7 (fun H locs w => ?_)
  refine lv_aload_n hx hb dX0_forget_10 rfl (lv_at hl 1 rfl) ?_
  refine lv_ldc2 hx hb hown (hts _ q37) dX0_forget_11 ?_
  refine xp_left K w dX0_forget_14 (fun H locs w => ?_)
  refine lv_iload_n hx hb dX0_forget_17 rfl (lv_at hl 0 rfl) ?_
  exact W.iret (v := (nI nt)) hx hb hr (fun t ht hW => ⟨⟨_, (C, dv, 0, (-1), lh, gr, wo, st, an, lk), rfl, ⟨rfl, rfl⟩, (by show va_P D vwCl _ t.heap; rw [ht]; exact w.1)⟩, w.2.F ht⟩) w.2.2.2 dX0_forget_18
set_option maxHeartbeats 4000000 in
set_option maxRecDepth 100000 in
/-- lines() -/
theorem metX0_lines (l : Launch) (D : va_G) (di dj : ClassId) (h : Nat → Nat) (hD : xD h) (C : Cfg) (dv : Int32) (nt : Nat) (lf lh : Int64) (gr : Nat) (wo st an lk : Nat → Int64)   : Met l yX0_lines (ws_ yX0_lines cX0_lines 1 (some .int)) rmX0_lines (GPc D (tyX di dj) h [] (wX di dj h (C, dv, nt, lf, lh, gr, wo, st, an, lk))) (vp_Si (fun r => r = nI (7 + cg C))) 0 0 (fun _ => False) := by
  refine g_met (own := RX0) rfl (by decide) hD (Nat.le_of_ble_eq_true rfl) ?_
  intro p e s m args below meth c ls K hr hlk w hl
  obtain ⟨hx, hb, hml, hown, hts, hK, -⟩ := id K
  have hR : rmX0_lines.frames ≤ rmX0_lines.frames ∧ rmX0_lines.locals ≤ rmX0_lines.locals := ⟨Nat.le_refl _, Nat.le_refl _⟩
  have hl : lv_has ls 1 [(0, .ref (h 0))] := hl
  refine lv_bipush (v := nI 7) hx hb dX0_lines_0 (by decide) ?_
  refine lv_aload_n hx hb dX0_lines_2 rfl (lv_at hl 0 rfl) ?_
  refine xg_gates K w dX0_lines_3 ?_
  refine n_iadd hx hb dX0_lines_6 ?_
  exact W.iret (v := (nI (7 + (cg C)))) hx hb hr (fun t ht hW => ⟨_, rfl, rfl, ht⟩) (fun q h => by cases h) dX0_lines_7
set_option maxHeartbeats 4000000 in
set_option maxRecDepth 100000 in
/-- observations() -/
theorem metX0_observations (l : Launch) (D : va_G) (di dj : ClassId) (h : Nat → Nat) (hD : xD h) (C : Cfg) (dv : Int32) (nt : Nat) (lf lh : Int64) (gr : Nat) (wo st an lk : Nat → Int64)   : Met l yX0_observations (ws_ yX0_observations cX0_observations 1 (some .int)) rmX0_observations (GPc D (tyX di dj) h [] (wX di dj h (C, dv, nt, lf, lh, gr, wo, st, an, lk))) (vp_Si (fun r => r = nI nt)) 0 0 (fun _ => False) := by
  refine g_met (own := RX0) rfl (by decide) hD (Nat.le_of_ble_eq_true rfl) ?_
  intro p e s m args below meth c ls K hr hlk w hl
  obtain ⟨hx, hb, hml, hown, hts, hK, -⟩ := id K
  have hR : rmX0_observations.frames ≤ rmX0_observations.frames ∧ rmX0_observations.locals ≤ rmX0_observations.locals := ⟨Nat.le_refl _, Nat.le_refl _⟩
  have hl : lv_has ls 1 [(0, .ref (h 0))] := hl
  refine lv_aload_n hx hb dX0_observations_0 rfl (lv_at hl 0 rfl) ?_
  refine xg_noted K w dX0_observations_1 ?_
  exact W.iret (v := (nI nt)) hx hb hr (fun t ht hW => ⟨_, rfl, rfl, ht⟩) (fun q h => by cases h) dX0_observations_4
set_option maxHeartbeats 4000000 in
set_option maxRecDepth 100000 in
/-- healthy() -/
theorem metX0_healthy (l : Launch) (D : va_G) (di dj : ClassId) (h : Nat → Nat) (hD : xD h) (C : Cfg) (dv : Int32) (nt : Nat) (lf lh : Int64) (gr : Nat) (wo st an lk : Nat → Int64)   : Met l yX0_healthy (ws_ yX0_healthy cX0_healthy 1 (some .int)) rmX0_healthy (GPc D (tyX di dj) h [] (wX di dj h (C, dv, nt, lf, lh, gr, wo, st, an, lk))) (vp_Si (fun r => r = nI (lb lf 63).toNat)) 0 0 (fun _ => False) := by
  refine g_met (own := RX0) rfl (by decide) hD (Nat.le_of_ble_eq_true rfl) ?_
  intro p e s m args below meth c ls K hr hlk w hl
  obtain ⟨hx, hb, hml, hown, hts, hK, -⟩ := id K
  have hR : rmX0_healthy.frames ≤ rmX0_healthy.frames ∧ rmX0_healthy.locals ≤ rmX0_healthy.locals := ⟨Nat.le_refl _, Nat.le_refl _⟩
  have hl : lv_has ls 1 [(0, .ref (h 0))] := hl
  refine lv_aload_n hx hb dX0_healthy_0 rfl (lv_at hl 0 rfl) ?_
  refine xg_left K w dX0_healthy_1 ?_
  refine lv_lconst (v := 0) hx hb dX0_healthy_4 (by decide) ?_
  refine n_lcmpge (tgt := 13) hx hb dX0_healthy_5 dX0_healthy_6 (by decide) (fun c5 => ?_) (fun c5 => ?_)
  · refine lv_iconst (v := nI 0) hx hb dX0_healthy_13 (by decide) ?_
    exact W.iret (v := (nI 0)) hx hb hr (fun t ht hW => ⟨_, rfl, (by rw [show lb lf 63 = false from Bool.eq_false_iff.mpr fun z => c5 ((lb_neg lf).mpr z)]; rfl), ht⟩) (fun q h => by cases h) dX0_healthy_14
  · refine lv_iconst (v := nI 1) hx hb dX0_healthy_9 (by decide) ?_
    refine lv_goto (tgt := 14) hx hb dX0_healthy_10 (by decide) ?_
    exact W.iret (v := (nI 1)) hx hb hr (fun t ht hW => ⟨_, rfl, (by rw [(lb_neg lf).mp c5]; rfl), ht⟩) (fun q h => by cases h) dX0_healthy_14
set_option maxHeartbeats 4000000 in
set_option maxRecDepth 100000 in
/-- candidates(): how many faults are left -/
theorem metX0_candidates (l : Launch) (D : va_G) (di dj : ClassId) (h : Nat → Nat) (hD : xD h) (C : Cfg) (dv : Int32) (nt : Nat) (lf lh : Int64) (gr : Nat) (wo st an lk : Nat → Int64) (hC : CW C)  : Met l yX0_candidates (ws_ yX0_candidates cX0_candidates 1 (some .int)) rmX0_candidates (GPc D (tyX di dj) h [] (wX di dj h (C, dv, nt, lf, lh, gr, wo, st, an, lk))) (vp_Si (fun r => r = nI (fb_ct (lb lf) (2 * (7 + cg C))))) 0 0 (fun _ => False) := by
  refine g_met (own := RX0) rfl (by decide) hD (Nat.le_of_ble_eq_true rfl) ?_
  intro p e s m args below meth c ls K hr hlk w hl
  obtain ⟨hx, hb, hml, hown, hts, hK, -⟩ := id K
  have hR : rmX0_candidates.frames ≤ rmX0_candidates.frames ∧ rmX0_candidates.locals ≤ rmX0_candidates.locals := ⟨Nat.le_refl _, Nat.le_refl _⟩
  have hl : lv_has ls 1 [(0, .ref (h 0))] := hl
  refine lv_aload_n hx hb dX0_candidates_0 rfl (lv_at hl 0 rfl) ?_
  refine xg_left K w dX0_candidates_1 ?_
  refine lv_aload_n hx hb dX0_candidates_4 rfl (lv_at hl 0 rfl) ?_
  refine g_readl (ci := 0) (q := (RX0, TX0, 15)) (rest := [.long lf]) K w (metX0_faults l D di dj h hD C dv nt lf lh gr wo st an lk hC) (cwX0_X0_faults hts ⟨Nat.le_trans (by decide) hR.1, Nat.le_trans (by decide) hR.2⟩) rfl rfl rfl hl.1 rfl (Nat.le_of_ble_eq_true rfl) dX0_candidates_5 ⟨Nat.zero_le _, Nat.zero_le _⟩ (fun r1 hr1 => ?_)
  refine lv_land hx hb dX0_candidates_8 ?_
  refine s_calli (rest := []) K.sc (metX0_ones l (lf &&& r1)) (cwX0_X0_ones hts ⟨Nat.le_trans (by decide) hR.1, Nat.le_trans (by decide) hR.2⟩) rfl hl.1 rfl (Nat.le_of_ble_eq_true rfl) dX0_candidates_9 ⟨Nat.zero_le _, Nat.zero_le _⟩ (fun r2 hr2 => ?_)
  exact W.iret (v := r2) hx hb hr (fun t ht hW => ⟨_, rfl, (by rw [hr2, ct_mask (by have := hC.1; omega) hr1]), ht⟩) (fun q h => by cases h) dX0_candidates_12
end
section
/-! the component: answerOf, candidate, settle, runAll -/
set_option maxRecDepth 100000
/-- the words of the first n lines are the table's -/
def TI (C : Cfg) (x : Nat) (st wo : Nat → Int64) (n : Nat) : Prop := ∀ k, k < n → ∀ j, j < 64 → lb (wo k) j = tbl C j (fun i => x.testBit i) (fun k => lb (st k) j) n k
theorem TI_0 {C : Cfg} {x : Nat} {st wo : Nat → Int64} : TI C x st wo 0 := fun k hk => absurd hk (by omega)
theorem TI_step {C : Cfg} {x n : Nat} {st wo : Nat → Int64} {r : Int64} (h : TI C x st wo n) (hr : ∀ j, j < 64 → lb r j = fo j n (raw C (fun i => x.testBit i) (fun k => lb (st k) j) (tbl C j (fun i => x.testBit i) (fun k => lb (st k) j) n) n)) : TI C x st (vp_updL wo n r) (n + 1) := by
  intro k hk j hj
  by_cases e : k = n
  · subst e
    rw [pk_uLs, tbl_new]
    exact hr j hj
  · rw [pk_uLn e, tbl_old C j _ _ (show k < n by omega)]
    exact h k (by omega) j hj
theorem TI_in {C : Cfg} {x n : Nat} {st wo : Nat → Int64} {r v : Int64} (h : TI C x st wo n) (hn : n < 4) (hr : ∀ j, j < 64 → lb r j = fo j n (lb v j)) (hv : ∀ j, j < 64 → lb v j = x.testBit n) : TI C x st (vp_updL wo n r) (n + 1) :=
  TI_step h (fun j hj => by rw [hr j hj, hv j hj]; unfold raw; rw [if_pos hn])
theorem TI_st {C : Cfg} {x k : Nat} {st wo : Nat → Int64} {r : Int64} (h : TI C x st wo (4 + k)) (hk : k < 3) (hr : ∀ j, j < 64 → lb r j = fo j (4 + k) (lb (st k) j)) : TI C x st (vp_updL wo (4 + k) r) (4 + (k + 1)) :=
  TI_step h (fun j hj => by
    rw [hr j hj]; unfold raw
    rw [if_neg (by omega), if_pos (by omega), show 4 + k - 4 = k by omega])
theorem TI_gate {C : Cfg} {x g a1 a2 : Nat} {st wo : Nat → Int64} {r v : Int64} (hC : CW C) (h : TI C x st wo (7 + g)) (hg : g < cg C) (e1 : cf1 C g = nI a1) (h1 : a1 < 7 + g) (e2 : cf2 C g = nI a2) (h2 : a2 < 7 + g) (hr : ∀ j, j < 64 → lb r j = fo j (7 + g) (lb v j)) (hv : ∀ j, j < 64 → lb v j = gateB (ckd C g) (lb (wo a1) j) (lb (wo a2) j)) : TI C x st (vp_updL wo (7 + g) r) (7 + (g + 1)) :=
  TI_step h (fun j hj => by
    have := hC.1
    rw [hr j hj, hv j hj]; unfold raw
    rw [if_neg (by omega), if_neg (by omega), show 7 + g - 7 = g by omega, e1, e2, cN_nI (by omega), cN_nI (by omega), h a1 h1 j hj, h a2 h2 j hj])
/-- the states are those after c cycles; the words, if there was one, those of the last cycle -/
def BI (C : Cfg) (x : Nat) (st wo : Nat → Int64) (c : Nat) : Prop := (∀ k, k < 3 → ∀ j, j < 64 → lb (st k) j = stc C j x c k) ∧ (1 ≤ c → ∀ k, k < 7 + cg C → ∀ j, j < 64 → lb (wo k) j = lnv C j x (c - 1) k)
theorem BI_step {C : Cfg} {x c : Nat} {st st1 wo wo1 : Nat → Int64} (hC : CW C) (h : BI C x st wo c) (hT : TI C x st wo1 (7 + cg C)) (hs : ∀ k, k < 3 → st1 k = wo1 (cN (cfd C k))) : BI C x st1 wo1 (c + 1) := by
  have hc : ∀ j, j < 64 → tbl C j (fun i => x.testBit i) (fun k => lb (st k) j) (7 + cg C) = lnv C j x c := fun j hj => tbl_cong C j (fun _ _ => rfl) (fun k hk => h.1 k hk j hj) _
  refine ⟨fun k hk j hj => ?_, fun _ k hk j hj => ?_⟩
  · obtain ⟨a, ha, e⟩ := hC.2.2.1 k hk
    have := hC.1
    rw [hs k hk, e, cN_nI (by omega), hT a ha j hj, hc j hj]
    show _ = tbl C j (fun i => x.testBit i) (stc C j x c) (7 + cg C) (cN (cfd C k))
    rw [e, cN_nI (by omega)]
    rfl
  · rw [hT k hk j hj, hc j hj, Nat.add_sub_cancel]
theorem BI_ans {C : Cfg} {x c : Nat} {st wo an : Nat → Int64} (hC : CW C) (h : BI C x st wo c) (hc : 1 ≤ c) (h3 : ∀ k, k < 3 → an k = st k) (h4 : an 3 = wo (cN (cop C 0))) (h5 : an 4 = wo (cN (cop C 1))) : ∀ b, b < 5 → ∀ j, j < 64 → lb (an b) j = ansB C j x c b := by
  intro b hb j hj
  unfold ansB
  have := hC.1
  by_cases hb3 : b < 3
  · rw [if_pos hb3, h3 b hb3]
    exact h.1 b hb3 j hj
  · rw [if_neg hb3]
    obtain ⟨a, ha, e⟩ := hC.2.2.2 (b - 3) (by omega)
    rcases (show b = 3 ∨ b = 4 by omega) with rfl | rfl
    · have e : cop C 0 = nI a := e
      rw [h4, show 3 - 3 = 0 from rfl, e, cN_nI (by omega)]
      exact h.2 hc a ha j hj
    · have e : cop C 1 = nI a := e
      rw [h5, show 4 - 3 = 1 from rfl, e, cN_nI (by omega)]
      exact h.2 hc a ha j hj
theorem v_m1 {x i : Nat} (h : (x.testBit i).toNat = 1) : ∀ j, j < 64 → lb (-1) j = x.testBit i := fun j hj => by
  rw [lb_m1 j hj]
  cases e : x.testBit i
  · rw [e] at h; exact absurd h (by decide)
  · rfl
theorem v_0 {x i : Nat} (h : (x.testBit i).toNat ≠ 1) : ∀ j, j < 64 → lb 0 j = x.testBit i := fun j hj => by
  rw [lb_0 j]
  cases e : x.testBit i
  · rfl
  · rw [e] at h; exact absurd rfl h
section
variable {p : Program} {l : Launch} {e : Env} {R : Room} {s : State} {m : MethodId} {args : Array Value} {below : List Frame} {meth : Method} {c : Code} {Q : State → Prop} {D : va_G} {di dj : ClassId} {h : Nat → Nat}
set_option maxHeartbeats 4000000 in
set_option maxRecDepth 100000 in
/-- the loop of answerOf -/
theorem lpX0_answerOf (K : GC p s m args c cX0_answerOf 4 RX0 D (tyX di dj) h) (hR : rmX0_answerOf.frames ≤ R.frames ∧ rmX0_answerOf.locals ≤ R.locals) {C : Cfg} {dv : Int32} {nt : Nat} {lf lh : Int64} {gr : Nat} {wo st an lk : Nat → Int64} {b : Nat} (hb9 : b < 64) {H : Heap} {locs : List Loc} (w : GW s D h (wX di dj h (C, dv, nt, lf, lh, gr, wo, st, an, lk)) H locs)
    (kk : ∀ ls : Array Slot, lv_has ls 4 [(2, .int (nI (s5 (fun k => lb (an k) b))))] → W p l e R s m args below meth c H locs 0 0 Q (F0 m 31 ls []))
    : ∀ (n i : Nat) (acc : Nat) (ls : Array Slot), i ≤ 5 → 5 + 1 ≤ i + n → acc = ps (fun k => lb (an k) b) i → lv_has ls 4 [(0, .ref (h 0)), (1, .int (nI b)), (2, .int (nI acc)), (3, .int (nI i))] → W p l e R s m args below meth c H locs 0 0 Q (F0 m 4 ls []) := by
  obtain ⟨hx, hb, hml, hown, hts, hK, hD⟩ := id K
  intro n
  induction n with
  | zero =>
    intro i acc ls h1 h2
    exact absurd h2 (by omega)
  | succ n ih =>
    intro i acc ls h1 h2 hacc hl
    refine lv_iload_n hx hb dX0_answerOf_4 rfl (lv_at hl 3 rfl) ?_
    refine lv_iconst (v := nI 5) hx hb dX0_answerOf_5 (by decide) ?_
    refine n_ge (tgt := 31) hx hb dX0_answerOf_6 (by decide) (by omega) (by omega) (fun c6 => ?_) (fun c6 => ?_)
    · obtain rfl : i = 5 := by omega
      rw [ps5] at hacc
      subst hacc
      exact kk ls (lv_sub hl [2] rfl)
    · refine lv_iload_n hx hb dX0_answerOf_9 rfl (lv_at hl 2 rfl) ?_
      refine lv_aload_n hx hb dX0_answerOf_10 rfl (lv_at hl 0 rfl) ?_
      refine xg_answers K w dX0_answerOf_11 ?_
      refine lv_iload_n hx hb dX0_answerOf_14 rfl (lv_at hl 3 rfl) ?_
      refine xl_answers (k := i) K w (by omega) dX0_answerOf_15 ?_
      refine lv_iload_n hx hb dX0_answerOf_16 rfl (lv_at hl 1 rfl) ?_
      refine lv_lushr (v := lsr (an i) b) hx hb dX0_answerOf_17 rfl ?_
      refine lv_lconst (v := 1) hx hb dX0_answerOf_18 (by decide) ?_
      refine lv_land hx hb dX0_answerOf_19 ?_
      refine lv_l2i (v := ((lsr (an i) b) &&& 1).toInt32) hx hb dX0_answerOf_20 rfl ?_
      refine lv_iload_n hx hb dX0_answerOf_21 rfl (lv_at hl 3 rfl) ?_
      refine lv_ishl hx hb dX0_answerOf_22 ?_
      refine n_tope (ans_bit (an i) hb9 c6) ?_
      refine n_iadd hx hb dX0_answerOf_23 ?_
      refine lv_istore_n (lv' := [(2, .int (nI (acc + ((lb (an i) b).toNat * 2 ^ i)))), (0, .ref (h 0)), (1, .int (nI b)), (3, .int (nI i))]) hx hb dX0_answerOf_24 rfl hl (by decide) rfl (fun ls hl => ?_)
      refine lv_iinc (v := (nI (i + 1))) (lv' := [(3, .int (nI (i + 1))), (2, .int (nI (acc + ((lb (an i) b).toNat * 2 ^ i)))), (0, .ref (h 0)), (1, .int (nI b))]) hx hb dX0_answerOf_25 hl (k := 3) rfl (n_inc _) (by decide) rfl (fun ls hl => ?_)
      refine lv_goto (tgt := 4) hx hb dX0_answerOf_28 (by decide) ?_
      exact ih (i + 1) _ ls (by omega) (by omega) (by rw [hacc]; rfl) (lv_sub hl [2, 3, 1, 0] rfl)
set_option maxHeartbeats 4000000 in
set_option maxRecDepth 100000 in
/-- the loop of candidate -/
theorem lpX0_candidate (K : GC p s m args c cX0_candidate 5 RX0 D (tyX di dj) h) (hR : rmX0_candidate.frames ≤ R.frames ∧ rmX0_candidate.locals ≤ R.locals) {C : Cfg} {dv : Int32} {nt : Nat} {lf lh : Int64} {gr : Nat} {wo st an lk : Nat → Int64} {a : Int32} (hC : CW C) {H : Heap} {locs : List Loc} (w : GW s D h (wX di dj h (C, dv, nt, lf, lh, gr, wo, st, an, lk)) H locs)
    (kk1 : ∀ (f : Nat) (ls : Array Slot), f < 2 * (7 + cg C) → lb lf f = true → a = nI (fb_ct (lb lf) f) → W p l e R s m args below meth c H locs 0 0 Q (F0 m 41 ls [.int (nI f)]))
    (kk2 : ∀ ls : Array Slot, (∀ f, f < 2 * (7 + cg C) → lb lf f = true → a ≠ nI (fb_ct (lb lf) f)) → W p l e R s m args below meth c H locs 0 0 Q (F0 m 51 ls []))
    : ∀ (n f : Nat) (rest : Int32) (ls : Array Slot), f ≤ 2 * (7 + cg C) → 2 * (7 + cg C) + 1 ≤ f + n → rest = a - nI (fb_ct (lb lf) f) → (∀ k, k < f → lb lf k = true → a ≠ nI (fb_ct (lb lf) k)) → lv_has ls 5 [(0, .ref (h 0)), (1, .int a), (2, .int rest), (3, .int (nI (2 * (7 + cg C)))), (4, .int (nI f))] → W p l e R s m args below meth c H locs 0 0 Q (F0 m 15 ls []) := by
  obtain ⟨hx, hb, hml, hown, hts, hK, hD⟩ := id K
  intro n
  induction n with
  | zero =>
    intro f rest ls h1 h2
    exact absurd h2 (by omega)
  | succ n ih =>
    intro f rest ls h1 h2 hrest hno hl
    have hg := hC.1
    refine lv_iload hx hb dX0_candidate_15 (lv_at hl 4 rfl) ?_
    refine lv_iload_n hx hb dX0_candidate_17 rfl (lv_at hl 3 rfl) ?_
    refine n_ge (tgt := 51) hx hb dX0_candidate_18 (by decide) (by omega) (by omega) (fun c18 => ?_) (fun c18 => ?_)
    · exact kk2 ls (fun k hk => hno k (by omega))
    · refine lv_aload_n hx hb dX0_candidate_21 rfl (lv_at hl 0 rfl) ?_
      refine xg_left K w dX0_candidate_22 ?_
      refine lv_iload hx hb dX0_candidate_25 (lv_at hl 4 rfl) ?_
      refine lv_lushr (v := lsr lf f) hx hb dX0_candidate_27 rfl ?_
      refine lv_lconst (v := 1) hx hb dX0_candidate_28 (by decide) ?_
      refine lv_land hx hb dX0_candidate_29 ?_
      refine lv_lconst (v := 1) hx hb dX0_candidate_30 (by decide) ?_
      refine n_lcmpne (tgt := 45) hx hb dX0_candidate_31 dX0_candidate_32 (by decide) (fun c31 => ?_) (fun c31 => ?_)
      · have hbit : lb lf f = false := Bool.eq_false_iff.mpr fun z => c31 ((lsr_is lf (by omega)).mpr z)
        refine lv_iinc (v := (nI (f + 1))) (lv' := [(4, .int (nI (f + 1))), (0, .ref (h 0)), (1, .int a), (2, .int rest), (3, .int (nI (2 * (7 + cg C))))]) hx hb dX0_candidate_45 hl (k := 4) rfl (n_inc _) (by decide) rfl (fun ls hl => ?_)
        refine lv_goto (tgt := 15) hx hb dX0_candidate_48 (by decide) ?_
        exact ih (f + 1) _ ls (by omega) (by omega) (by rw [hrest, fb_ct_succ, hbit]; rfl) (fun k hk hk2 => (by rcases Nat.lt_or_ge k f with q | q; (exact hno k q hk2); (obtain rfl : k = f := (by omega); rw [hbit] at hk2; cases hk2))) (lv_sub hl [1, 2, 3, 4, 0] rfl)
      · have hbit : lb lf f = true := (lsr_is lf (by omega)).mp c31
        refine lv_iload_n hx hb dX0_candidate_35 rfl (lv_at hl 2 rfl) ?_
        refine lv_if_ne (tgt := 42) hx hb dX0_candidate_36 (by decide) (fun c36 => ?_) (fun c36 => ?_)
        · refine lv_iinc (v := (rest + Int32.ofInt (-1))) (lv' := [(2, .int (rest + Int32.ofInt (-1))), (0, .ref (h 0)), (1, .int a), (3, .int (nI (2 * (7 + cg C)))), (4, .int (nI f))]) hx hb dX0_candidate_42 hl (k := 2) rfl rfl (by decide) rfl (fun ls hl => ?_)
          refine lv_iinc (v := (nI (f + 1))) (lv' := [(4, .int (nI (f + 1))), (2, .int (rest + Int32.ofInt (-1))), (0, .ref (h 0)), (1, .int a), (3, .int (nI (2 * (7 + cg C))))]) hx hb dX0_candidate_45 hl (k := 4) rfl (n_inc _) (by decide) rfl (fun ls hl => ?_)
          refine lv_goto (tgt := 15) hx hb dX0_candidate_48 (by decide) ?_
          exact ih (f + 1) _ ls (by omega) (by omega) (by rw [hrest, sub1, fb_ct_succ, hbit, ← nI_succ]; rfl) (fun k hk hk2 => (by rcases Nat.lt_or_ge k f with q | q; (exact hno k q hk2); (obtain rfl : k = f := (by omega); exact fun z => c36 (by rw [hrest]; exact (sub0 _ _).mpr z)))) (lv_sub hl [2, 3, 1, 4, 0] rfl)
        · refine lv_iload hx hb dX0_candidate_39 (lv_at hl 4 rfl) ?_
          exact kk1 f ls c18 hbit ((sub0 _ _).mp (by rw [← hrest]; exact c36))
set_option maxHeartbeats 4000000 in
set_option maxRecDepth 100000 in
/-- settle: the inputs -/
theorem lpX0_settle_2 (K : GC p s m args c cX0_settle 5 RX0 D (tyX di dj) h) (hR : rmX0_settle.frames ≤ R.frames ∧ rmX0_settle.locals ≤ R.locals) {C : Cfg} {dv : Int32} {nt : Nat} {lf lh : Int64} {gr : Nat} {st an lk : Nat → Int64} {x : Nat} (hx9 : x < 128)
    (kk : ∀ (wo : Nat → Int64) (H : Heap) (locs : List Loc) (ls : Array Slot), TI C x st wo 4 → GW s D h (wX di dj h (C, dv, nt, lf, lh, gr, wo, st, an, lk)) H locs → lv_has ls 5 [(0, .ref (h 0)), (1, .int (nI x))] → W p l e R s m args below meth c H locs 0 0 Q (F0 m 41 ls []))
    : ∀ (n i : Nat) (wo : Nat → Int64) (H : Heap) (locs : List Loc) (ls : Array Slot), i ≤ 4 → 4 + 1 ≤ i + n → TI C x st wo i → GW s D h (wX di dj h (C, dv, nt, lf, lh, gr, wo, st, an, lk)) H locs → lv_has ls 5 [(0, .ref (h 0)), (1, .int (nI x)), (2, .int (nI i))] → W p l e R s m args below meth c H locs 0 0 Q (F0 m 2 ls []) := by
  obtain ⟨hx, hb, hml, hown, hts, hK, hD⟩ := id K
  intro n
  induction n with
  | zero =>
    intro i wo H locs ls h1 h2
    exact absurd h2 (by omega)
  | succ n ih =>
    intro i wo H locs ls h1 h2 hT w hl
    refine lv_iload_n hx hb dX0_settle_2 rfl (lv_at hl 2 rfl) ?_
    refine lv_iconst (v := nI 4) hx hb dX0_settle_3 (by decide) ?_
    refine n_ge (tgt := 41) hx hb dX0_settle_4 (by decide) (by omega) (by omega) (fun c4 => ?_) (fun c4 => ?_)
    · obtain rfl : i = 4 := by omega
      exact kk wo H locs ls hT w (lv_sub hl [0, 1] rfl)
    · refine lv_iload_n hx hb dX0_settle_7 rfl (lv_at hl 1 rfl) ?_
      refine lv_iload_n hx hb dX0_settle_8 rfl (lv_at hl 2 rfl) ?_
      refine lv_ishr hx hb dX0_settle_9 ?_
      refine lv_iconst (v := nI 1) hx hb dX0_settle_10 (by decide) ?_
      refine lv_iand hx hb dX0_settle_11 ?_
      refine n_tope (p_bit x hx9 i (by omega)) ?_
      have hq9 : (x.testBit i).toNat < 2 := Bool.toNat_lt _
      refine lv_iconst (v := nI 1) hx hb dX0_settle_12 (by decide) ?_
      refine n_ne (tgt := 22) hx hb dX0_settle_13 (by decide) (by omega) (by omega) (fun c13 => ?_) (fun c13 => ?_)
      · refine lv_lconst (v := 0) hx hb dX0_settle_22 (by decide) ?_
        refine lv_lstore_n (lv' := [(3, .long 0), (0, .ref (h 0)), (1, .int (nI x)), (2, .int (nI i))]) hx hb dX0_settle_23 rfl hl (by decide) rfl (fun ls hl => ?_)
        refine lv_aload_n hx hb dX0_settle_24 rfl (lv_at hl 1 rfl) ?_
        refine xg_words K w dX0_settle_25 ?_
        refine lv_iload_n hx hb dX0_settle_28 rfl (lv_at hl 3 rfl) ?_
        refine lv_iload_n hx hb dX0_settle_29 rfl (lv_at hl 3 rfl) ?_
        refine lv_lload_n hx hb dX0_settle_30 rfl (lv_at hl 0 rfl) ?_
        refine s_calll (rest := [.int (nI i), .ref (h 6)]) K.sc (metX0_stuck l i 0 (by omega)) (cwX0_X0_stuck hts ⟨Nat.le_trans (by decide) hR.1, Nat.le_trans (by decide) hR.2⟩) rfl hl.1 rfl (Nat.le_of_ble_eq_true rfl) dX0_settle_31 ⟨Nat.zero_le _, Nat.zero_le _⟩ (fun r hr1 => ?_)
        refine xs_words (k := i) K w (by omega) dX0_settle_34 (fun H locs w => ?_)
        refine lv_iinc (v := (nI (i + 1))) (lv' := [(2, .int (nI (i + 1))), (3, .long 0), (0, .ref (h 0)), (1, .int (nI x))]) hx hb dX0_settle_35 hl (k := 3) rfl (n_inc _) (by decide) rfl (fun ls hl => ?_)
        refine lv_goto (tgt := 2) hx hb dX0_settle_38 (by decide) ?_
        exact ih (i + 1) _ H locs ls (by omega) (by omega) (TI_in hT c4 hr1 (v_0 c13)) w (lv_sub hl [2, 3, 0] rfl)
      · refine lv_ldc2 hx hb hown (hts _ q37) dX0_settle_16 ?_
        refine lv_goto (tgt := 23) hx hb dX0_settle_19 (by decide) ?_
        refine lv_lstore_n (lv' := [(3, .long (-1)), (0, .ref (h 0)), (1, .int (nI x)), (2, .int (nI i))]) hx hb dX0_settle_23 rfl hl (by decide) rfl (fun ls hl => ?_)
        refine lv_aload_n hx hb dX0_settle_24 rfl (lv_at hl 1 rfl) ?_
        refine xg_words K w dX0_settle_25 ?_
        refine lv_iload_n hx hb dX0_settle_28 rfl (lv_at hl 3 rfl) ?_
        refine lv_iload_n hx hb dX0_settle_29 rfl (lv_at hl 3 rfl) ?_
        refine lv_lload_n hx hb dX0_settle_30 rfl (lv_at hl 0 rfl) ?_
        refine s_calll (rest := [.int (nI i), .ref (h 6)]) K.sc (metX0_stuck l i (-1) (by omega)) (cwX0_X0_stuck hts ⟨Nat.le_trans (by decide) hR.1, Nat.le_trans (by decide) hR.2⟩) rfl hl.1 rfl (Nat.le_of_ble_eq_true rfl) dX0_settle_31 ⟨Nat.zero_le _, Nat.zero_le _⟩ (fun r hr1 => ?_)
        refine xs_words (k := i) K w (by omega) dX0_settle_34 (fun H locs w => ?_)
        refine lv_iinc (v := (nI (i + 1))) (lv' := [(2, .int (nI (i + 1))), (3, .long (-1)), (0, .ref (h 0)), (1, .int (nI x))]) hx hb dX0_settle_35 hl (k := 3) rfl (n_inc _) (by decide) rfl (fun ls hl => ?_)
        refine lv_goto (tgt := 2) hx hb dX0_settle_38 (by decide) ?_
        exact ih (i + 1) _ H locs ls (by omega) (by omega) (TI_in hT c4 hr1 (v_m1 c13)) w (lv_sub hl [2, 3, 0] rfl)
set_option maxHeartbeats 4000000 in
set_option maxRecDepth 100000 in
/-- settle: the states -/
theorem lpX0_settle_43 (K : GC p s m args c cX0_settle 5 RX0 D (tyX di dj) h) (hR : rmX0_settle.frames ≤ R.frames ∧ rmX0_settle.locals ≤ R.locals) {C : Cfg} {dv : Int32} {nt : Nat} {lf lh : Int64} {gr : Nat} {st an lk : Nat → Int64} {x : Nat} 
    (kk : ∀ (wo : Nat → Int64) (H : Heap) (locs : List Loc) (ls : Array Slot), TI C x st wo (4 + 3) → GW s D h (wX di dj h (C, dv, nt, lf, lh, gr, wo, st, an, lk)) H locs → lv_has ls 5 [(0, .ref (h 0)), (1, .int (nI x))] → W p l e R s m args below meth c H locs 0 0 Q (F0 m 74 ls []))
    : ∀ (n k : Nat) (wo : Nat → Int64) (H : Heap) (locs : List Loc) (ls : Array Slot), k ≤ 3 → 3 + 1 ≤ k + n → TI C x st wo (4 + k) → GW s D h (wX di dj h (C, dv, nt, lf, lh, gr, wo, st, an, lk)) H locs → lv_has ls 5 [(0, .ref (h 0)), (1, .int (nI x)), (2, .int (nI k))] → W p l e R s m args below meth c H locs 0 0 Q (F0 m 43 ls []) := by
  obtain ⟨hx, hb, hml, hown, hts, hK, hD⟩ := id K
  intro n
  induction n with
  | zero =>
    intro k wo H locs ls h1 h2
    exact absurd h2 (by omega)
  | succ n ih =>
    intro k wo H locs ls h1 h2 hT w hl
    refine lv_iload_n hx hb dX0_settle_43 rfl (lv_at hl 2 rfl) ?_
    refine lv_iconst (v := nI 3) hx hb dX0_settle_44 (by decide) ?_
    refine n_ge (tgt := 74) hx hb dX0_settle_45 (by decide) (by omega) (by omega) (fun c45 => ?_) (fun c45 => ?_)
    · obtain rfl : k = 3 := by omega
      exact kk wo H locs ls hT w (lv_sub hl [0, 1] rfl)
    · refine lv_aload_n hx hb dX0_settle_48 rfl (lv_at hl 0 rfl) ?_
      refine xg_words K w dX0_settle_49 ?_
      refine lv_iconst (v := nI 4) hx hb dX0_settle_52 (by decide) ?_
      refine lv_iload_n hx hb dX0_settle_53 rfl (lv_at hl 2 rfl) ?_
      refine n_iadd hx hb dX0_settle_54 ?_
      refine lv_iconst (v := nI 4) hx hb dX0_settle_55 (by decide) ?_
      refine lv_iload_n hx hb dX0_settle_56 rfl (lv_at hl 2 rfl) ?_
      refine n_iadd hx hb dX0_settle_57 ?_
      refine lv_aload_n hx hb dX0_settle_58 rfl (lv_at hl 0 rfl) ?_
      refine xg_states K w dX0_settle_59 ?_
      refine lv_iload_n hx hb dX0_settle_62 rfl (lv_at hl 2 rfl) ?_
      refine xl_states (k := k) K w (by omega) dX0_settle_63 ?_
      refine s_calll (rest := [.int (nI (4 + k)), .ref (h 6)]) K.sc (metX0_stuck l (4 + k) (st k) (by omega)) (cwX0_X0_stuck hts ⟨Nat.le_trans (by decide) hR.1, Nat.le_trans (by decide) hR.2⟩) rfl hl.1 rfl (Nat.le_of_ble_eq_true rfl) dX0_settle_64 ⟨Nat.zero_le _, Nat.zero_le _⟩ (fun r hr1 => ?_)
      refine xs_words (k := 4 + k) K w (by omega) dX0_settle_67 (fun H locs w => ?_)
      refine lv_iinc (v := (nI (k + 1))) (lv' := [(2, .int (nI (k + 1))), (0, .ref (h 0)), (1, .int (nI x))]) hx hb dX0_settle_68 hl (k := 2) rfl (n_inc _) (by decide) rfl (fun ls hl => ?_)
      refine lv_goto (tgt := 43) hx hb dX0_settle_71 (by decide) ?_
      exact ih (k + 1) _ H locs ls (by omega) (by omega) (TI_st hT c45 hr1) w (lv_sub hl [1, 2, 0] rfl)
set_option maxHeartbeats 4000000 in
set_option maxRecDepth 100000 in
/-- settle: the gates -/
theorem lpX0_settle_76 (K : GC p s m args c cX0_settle 5 RX0 D (tyX di dj) h) (hR : rmX0_settle.frames ≤ R.frames ∧ rmX0_settle.locals ≤ R.locals) {C : Cfg} {dv : Int32} {nt : Nat} {lf lh : Int64} {gr : Nat} {st an lk : Nat → Int64} {x : Nat} (hC : CW C)
    (kk : ∀ (wo : Nat → Int64) (H : Heap) (locs : List Loc) (ls : Array Slot), TI C x st wo (7 + cg C) → GW s D h (wX di dj h (C, dv, nt, lf, lh, gr, wo, st, an, lk)) H locs → W p l e R s m args below meth c H locs 0 0 Q (F0 m 139 ls []))
    : ∀ (n g : Nat) (wo : Nat → Int64) (H : Heap) (locs : List Loc) (ls : Array Slot), g ≤ cg C → cg C + 1 ≤ g + n → TI C x st wo (7 + g) → GW s D h (wX di dj h (C, dv, nt, lf, lh, gr, wo, st, an, lk)) H locs → lv_has ls 5 [(0, .ref (h 0)), (1, .int (nI x)), (2, .int (nI g))] → W p l e R s m args below meth c H locs 0 0 Q (F0 m 76 ls []) := by
  obtain ⟨hx, hb, hml, hown, hts, hK, hD⟩ := id K
  intro n
  induction n with
  | zero =>
    intro g wo H locs ls h1 h2
    exact absurd h2 (by omega)
  | succ n ih =>
    intro g wo H locs ls h1 h2 hT w hl
    have hg := hC.1
    refine lv_iload_n hx hb dX0_settle_76 rfl (lv_at hl 2 rfl) ?_
    refine lv_aload_n hx hb dX0_settle_77 rfl (lv_at hl 0 rfl) ?_
    refine xg_gates K w dX0_settle_78 ?_
    refine n_ge (tgt := 139) hx hb dX0_settle_81 (by decide) (by omega) (by omega) (fun c81 => ?_) (fun c81 => ?_)
    · obtain rfl : g = cg C := by omega
      exact kk wo H locs ls hT w
    · obtain ⟨⟨a1, ha1, e1⟩, a2, ha2, e2⟩ := hC.2.1 g c81
      refine lv_aload_n hx hb dX0_settle_84 rfl (lv_at hl 0 rfl) ?_
      refine xg_kinds K w dX0_settle_85 ?_
      refine lv_iload_n hx hb dX0_settle_88 rfl (lv_at hl 2 rfl) ?_
      refine xl_kinds (k := g) K w (by omega) dX0_settle_89 ?_
      refine lv_aload_n hx hb dX0_settle_90 rfl (lv_at hl 0 rfl) ?_
      refine xg_words K w dX0_settle_91 ?_
      refine lv_aload_n hx hb dX0_settle_94 rfl (lv_at hl 0 rfl) ?_
      refine xg_firsts K w dX0_settle_95 ?_
      refine lv_iload_n hx hb dX0_settle_98 rfl (lv_at hl 2 rfl) ?_
      refine xl_firsts (k := g) K w (by omega) dX0_settle_99 ?_
      refine n_tope (e1) ?_
      refine xl_words (k := a1) K w (by omega) dX0_settle_100 ?_
      refine lv_aload_n hx hb dX0_settle_101 rfl (lv_at hl 0 rfl) ?_
      refine xg_words K w dX0_settle_102 ?_
      refine lv_aload_n hx hb dX0_settle_105 rfl (lv_at hl 0 rfl) ?_
      refine xg_seconds K w dX0_settle_106 ?_
      refine lv_iload_n hx hb dX0_settle_109 rfl (lv_at hl 2 rfl) ?_
      refine xl_seconds (k := g) K w (by omega) dX0_settle_110 ?_
      refine n_tope (e2) ?_
      refine xl_words (k := a2) K w (by omega) dX0_settle_111 ?_
      refine s_calll (rest := []) K.sc (metX0_combine l (ckd C g) (wo a1) (wo a2)) (cwX0_X0_combine hts ⟨Nat.le_trans (by decide) hR.1, Nat.le_trans (by decide) hR.2⟩) rfl hl.1 rfl (Nat.le_of_ble_eq_true rfl) dX0_settle_112 ⟨Nat.zero_le _, Nat.zero_le _⟩ (fun v hv1 => ?_)
      refine lv_lstore_n (lv' := [(3, .long v), (0, .ref (h 0)), (1, .int (nI x)), (2, .int (nI g))]) hx hb dX0_settle_115 rfl hl (by decide) rfl (fun ls hl => ?_)
      refine lv_aload_n hx hb dX0_settle_116 rfl (lv_at hl 1 rfl) ?_
      refine xg_words K w dX0_settle_117 ?_
      refine lv_bipush (v := nI 7) hx hb dX0_settle_120 (by decide) ?_
      refine lv_iload_n hx hb dX0_settle_122 rfl (lv_at hl 3 rfl) ?_
      refine n_iadd hx hb dX0_settle_123 ?_
      refine lv_bipush (v := nI 7) hx hb dX0_settle_124 (by decide) ?_
      refine lv_iload_n hx hb dX0_settle_126 rfl (lv_at hl 3 rfl) ?_
      refine n_iadd hx hb dX0_settle_127 ?_
      refine lv_lload_n hx hb dX0_settle_128 rfl (lv_at hl 0 rfl) ?_
      refine s_calll (rest := [.int (nI (7 + g)), .ref (h 6)]) K.sc (metX0_stuck l (7 + g) v (by omega)) (cwX0_X0_stuck hts ⟨Nat.le_trans (by decide) hR.1, Nat.le_trans (by decide) hR.2⟩) rfl hl.1 rfl (Nat.le_of_ble_eq_true rfl) dX0_settle_129 ⟨Nat.zero_le _, Nat.zero_le _⟩ (fun r hr1 => ?_)
      refine xs_words (k := 7 + g) K w (by omega) dX0_settle_132 (fun H locs w => ?_)
      refine lv_iinc (v := (nI (g + 1))) (lv' := [(2, .int (nI (g + 1))), (3, .long v), (0, .ref (h 0)), (1, .int (nI x))]) hx hb dX0_settle_133 hl (k := 3) rfl (n_inc _) (by decide) rfl (fun ls hl => ?_)
      refine lv_goto (tgt := 76) hx hb dX0_settle_136 (by decide) ?_
      exact ih (g + 1) _ H locs ls (by omega) (by omega) (TI_gate hC hT c81 e1 ha1 e2 ha2 hr1 hv1) w (lv_sub hl [2, 3, 0] rfl)
set_option maxHeartbeats 4000000 in
set_option maxRecDepth 100000 in
/-- runAll: the first states -/
theorem lpX0_runAll_2 (K : GC p s m args c cX0_runAll 5 RX0 D (tyX di dj) h) (hR : rmX0_runAll.frames ≤ R.frames ∧ rmX0_runAll.locals ≤ R.locals) {C : Cfg} {dv : Int32} {nt : Nat} {lf lh : Int64} {gr : Nat} {wo an lk : Nat → Int64} {x y : Nat} (hx9 : x < 128)
    (kk : ∀ (st : Nat → Int64) (H : Heap) (locs : List Loc) (ls : Array Slot), (∀ k, k < 3 → ∀ j, j < 64 → lb (st k) j = x.testBit (4 + k)) → GW s D h (wX di dj h (C, dv, nt, lf, lh, gr, wo, st, an, lk)) H locs → lv_has ls 5 [(0, .ref (h 0)), (1, .int (nI x)), (2, .int (nI y))] → W p l e R s m args below meth c H locs 0 0 Q (F0 m 37 ls []))
    : ∀ (n i : Nat) (st : Nat → Int64) (H : Heap) (locs : List Loc) (ls : Array Slot), i ≤ 3 → 3 + 1 ≤ i + n → (∀ k, k < i → ∀ j, j < 64 → lb (st k) j = x.testBit (4 + k)) → GW s D h (wX di dj h (C, dv, nt, lf, lh, gr, wo, st, an, lk)) H locs → lv_has ls 5 [(0, .ref (h 0)), (1, .int (nI x)), (2, .int (nI y)), (3, .int (nI i))] → W p l e R s m args below meth c H locs 0 0 Q (F0 m 2 ls []) := by
  obtain ⟨hx, hb, hml, hown, hts, hK, hD⟩ := id K
  intro n
  induction n with
  | zero =>
    intro i st H locs ls h1 h2
    exact absurd h2 (by omega)
  | succ n ih =>
    intro i st H locs ls h1 h2 hI w hl
    refine lv_iload_n hx hb dX0_runAll_2 rfl (lv_at hl 3 rfl) ?_
    refine lv_iconst (v := nI 3) hx hb dX0_runAll_3 (by decide) ?_
    refine n_ge (tgt := 37) hx hb dX0_runAll_4 (by decide) (by omega) (by omega) (fun c4 => ?_) (fun c4 => ?_)
    · obtain rfl : i = 3 := by omega
      exact kk st H locs ls hI w (lv_sub hl [0, 1, 2] rfl)
    · refine lv_aload_n hx hb dX0_runAll_7 rfl (lv_at hl 0 rfl) ?_
      refine xg_states K w dX0_runAll_8 ?_
      refine lv_iload_n hx hb dX0_runAll_11 rfl (lv_at hl 3 rfl) ?_
      refine lv_iload_n hx hb dX0_runAll_12 rfl (lv_at hl 1 rfl) ?_
      refine lv_iconst (v := nI 4) hx hb dX0_runAll_13 (by decide) ?_
      refine lv_iload_n hx hb dX0_runAll_14 rfl (lv_at hl 3 rfl) ?_
      refine n_iadd hx hb dX0_runAll_15 ?_
      refine lv_ishr hx hb dX0_runAll_16 ?_
      refine lv_iconst (v := nI 1) hx hb dX0_runAll_17 (by decide) ?_
      refine lv_iand hx hb dX0_runAll_18 ?_
      refine n_tope (p_bit x hx9 (4 + i) (by omega)) ?_
      have hq9 : (x.testBit (4 + i)).toNat < 2 := Bool.toNat_lt _
      refine lv_iconst (v := nI 1) hx hb dX0_runAll_19 (by decide) ?_
      refine n_ne (tgt := 29) hx hb dX0_runAll_20 (by decide) (by omega) (by omega) (fun c20 => ?_) (fun c20 => ?_)
      · refine lv_lconst (v := 0) hx hb dX0_runAll_29 (by decide) ?_
        refine xs_states (k := i) K w (by omega) dX0_runAll_30 (fun H locs w => ?_)
        refine lv_iinc (v := (nI (i + 1))) (lv' := [(3, .int (nI (i + 1))), (0, .ref (h 0)), (1, .int (nI x)), (2, .int (nI y))]) hx hb dX0_runAll_31 hl (k := 3) rfl (n_inc _) (by decide) rfl (fun ls hl => ?_)
        refine lv_goto (tgt := 2) hx hb dX0_runAll_34 (by decide) ?_
        exact ih (i + 1) _ H locs ls (by omega) (by omega) (fun k hk => (by rcases Nat.lt_or_ge k i with q | q; (rw [pk_uLn (by omega)]; exact hI k q); (obtain rfl : k = i := (by omega); rw [pk_uLs]; exact v_0 c20))) w (lv_sub hl [1, 2, 3, 0] rfl)
      · refine lv_ldc2 hx hb hown (hts _ q37) dX0_runAll_23 ?_
        refine lv_goto (tgt := 30) hx hb dX0_runAll_26 (by decide) ?_
        refine xs_states (k := i) K w (by omega) dX0_runAll_30 (fun H locs w => ?_)
        refine lv_iinc (v := (nI (i + 1))) (lv' := [(3, .int (nI (i + 1))), (0, .ref (h 0)), (1, .int (nI x)), (2, .int (nI y))]) hx hb dX0_runAll_31 hl (k := 3) rfl (n_inc _) (by decide) rfl (fun ls hl => ?_)
        refine lv_goto (tgt := 2) hx hb dX0_runAll_34 (by decide) ?_
        exact ih (i + 1) _ H locs ls (by omega) (by omega) (fun k hk => (by rcases Nat.lt_or_ge k i with q | q; (rw [pk_uLn (by omega)]; exact hI k q); (obtain rfl : k = i := (by omega); rw [pk_uLs]; exact v_m1 c20))) w (lv_sub hl [1, 2, 3, 0] rfl)
set_option maxHeartbeats 4000000 in
set_option maxRecDepth 100000 in
/-- runAll: the next states -/
theorem lpX0_runAll_52 (K : GC p s m args c cX0_runAll 5 RX0 D (tyX di dj) h) (hR : rmX0_runAll.frames ≤ R.frames ∧ rmX0_runAll.locals ≤ R.locals) {C : Cfg} {dv : Int32} {nt : Nat} {lf lh : Int64} {gr : Nat} {wo an lk : Nat → Int64} {x y cc : Nat} (hC : CW C)
    (kk : ∀ (st : Nat → Int64) (H : Heap) (locs : List Loc) (ls : Array Slot), (∀ k, k < 3 → st k = wo (cN (cfd C k))) → GW s D h (wX di dj h (C, dv, nt, lf, lh, gr, wo, st, an, lk)) H locs → lv_has ls 5 [(0, .ref (h 0)), (1, .int (nI x)), (2, .int (nI y)), (3, .int (nI cc))] → W p l e R s m args below meth c H locs 0 0 Q (F0 m 83 ls []))
    : ∀ (n i : Nat) (st : Nat → Int64) (H : Heap) (locs : List Loc) (ls : Array Slot), i ≤ 3 → 3 + 1 ≤ i + n → (∀ k, k < i → st k = wo (cN (cfd C k))) → GW s D h (wX di dj h (C, dv, nt, lf, lh, gr, wo, st, an, lk)) H locs → lv_has ls 5 [(0, .ref (h 0)), (1, .int (nI x)), (2, .int (nI y)), (3, .int (nI cc)), (4, .int (nI i))] → W p l e R s m args below meth c H locs 0 0 Q (F0 m 52 ls []) := by
  obtain ⟨hx, hb, hml, hown, hts, hK, hD⟩ := id K
  intro n
  induction n with
  | zero =>
    intro i st H locs ls h1 h2
    exact absurd h2 (by omega)
  | succ n ih =>
    intro i st H locs ls h1 h2 hI w hl
    have hg := hC.1
    refine lv_iload hx hb dX0_runAll_52 (lv_at hl 4 rfl) ?_
    refine lv_iconst (v := nI 3) hx hb dX0_runAll_54 (by decide) ?_
    refine n_ge (tgt := 83) hx hb dX0_runAll_55 (by decide) (by omega) (by omega) (fun c55 => ?_) (fun c55 => ?_)
    · obtain rfl : i = 3 := by omega
      exact kk st H locs ls hI w (lv_sub hl [0, 1, 2, 3] rfl)
    · obtain ⟨a, ha, ea⟩ := hC.2.2.1 i c55
      refine lv_aload_n hx hb dX0_runAll_58 rfl (lv_at hl 0 rfl) ?_
      refine xg_states K w dX0_runAll_59 ?_
      refine lv_iload hx hb dX0_runAll_62 (lv_at hl 4 rfl) ?_
      refine lv_aload_n hx hb dX0_runAll_64 rfl (lv_at hl 0 rfl) ?_
      refine xg_words K w dX0_runAll_65 ?_
      refine lv_aload_n hx hb dX0_runAll_68 rfl (lv_at hl 0 rfl) ?_
      refine xg_feeds K w dX0_runAll_69 ?_
      refine lv_iload hx hb dX0_runAll_72 (lv_at hl 4 rfl) ?_
      refine xl_feeds (k := i) K w (by omega) dX0_runAll_74 ?_
      refine n_tope (ea) ?_
      refine xl_words (k := a) K w (by omega) dX0_runAll_75 ?_
      refine xs_states (k := i) K w (by omega) dX0_runAll_76 (fun H locs w => ?_)
      refine lv_iinc (v := (nI (i + 1))) (lv' := [(4, .int (nI (i + 1))), (0, .ref (h 0)), (1, .int (nI x)), (2, .int (nI y)), (3, .int (nI cc))]) hx hb dX0_runAll_77 hl (k := 4) rfl (n_inc _) (by decide) rfl (fun ls hl => ?_)
      refine lv_goto (tgt := 52) hx hb dX0_runAll_80 (by decide) ?_
      exact ih (i + 1) _ H locs ls (by omega) (by omega) (fun k hk => (by rcases Nat.lt_or_ge k i with q | q; (rw [pk_uLn (by omega)]; exact hI k q); (obtain rfl : k = i := (by omega); rw [pk_uLs, ea, cN_nI (by omega)]))) w (lv_sub hl [1, 2, 3, 4, 0] rfl)
set_option maxHeartbeats 4000000 in
set_option maxRecDepth 100000 in
/-- settle(x): the words of all lines -/
theorem metX0_settle (l : Launch) (D : va_G) (di dj : ClassId) (h : Nat → Nat) (hD : xD h) (C : Cfg) (dv : Int32) (nt : Nat) (lf lh : Int64) (gr : Nat) (wo st an lk : Nat → Int64) (hC : CW C) (x : Nat) (hx9 : x < 128) : Met l yX0_settle (ws_ yX0_settle cX0_settle 5 none) rmX0_settle (GPc D (tyX di dj) h [.int (nI x)] (wX di dj h (C, dv, nt, lf, lh, gr, wo, st, an, lk))) (GQv D h (wX di dj h) (fun u => ∃ wo1, u = (C, dv, nt, lf, lh, gr, wo1, st, an, lk) ∧ TI C x st wo1 (7 + cg C))) 0 0 (xB h) := by
  refine g_met (own := RX0) rfl (by decide) hD (Nat.le_of_ble_eq_true rfl) ?_
  intro p e s m args below meth c ls K hr hlk w hl
  obtain ⟨hx, hb, hml, hown, hts, hK, -⟩ := id K
  have hR : rmX0_settle.frames ≤ rmX0_settle.frames ∧ rmX0_settle.locals ≤ rmX0_settle.locals := ⟨Nat.le_refl _, Nat.le_refl _⟩
  have hl : lv_has ls 5 [(0, .ref (h 0)), (1, .int (nI x))] := hl
  refine lv_iconst (v := nI 0) hx hb dX0_settle_0 (by decide) ?_
  refine lv_istore_n (lv' := [(2, .int (nI 0)), (0, .ref (h 0)), (1, .int (nI x))]) hx hb dX0_settle_1 rfl hl (by decide) rfl (fun ls hl => ?_)
  refine lpX0_settle_2 K hR hx9 (fun wo1 H locs ls hT w hl => ?_) 5 0 wo _ _ ls (by omega) (by omega) TI_0 w (lv_sub hl [1, 2, 0] rfl)
  refine lv_iconst (v := nI 0) hx hb dX0_settle_41 (by decide) ?_
  refine lv_istore_n (lv' := [(2, .int (nI 0)), (0, .ref (h 0)), (1, .int (nI x))]) hx hb dX0_settle_42 rfl hl (by decide) rfl (fun ls hl => ?_)
  refine lpX0_settle_43 K hR  (fun wo2 H locs ls hT w hl => ?_) 4 0 wo1 H locs ls (by omega) (by omega) hT w (lv_sub hl [1, 2, 0] rfl)
  refine lv_iconst (v := nI 0) hx hb dX0_settle_74 (by decide) ?_
  refine lv_istore_n (lv' := [(2, .int (nI 0)), (0, .ref (h 0)), (1, .int (nI x))]) hx hb dX0_settle_75 rfl hl (by decide) rfl (fun ls hl => ?_)
  refine lpX0_settle_76 K hR hC (fun wo3 H locs ls hT w => ?_) (cg C + 1) 0 wo2 H locs ls (by omega) (by omega) hT w (lv_sub hl [1, 2, 0] rfl)
  exact W.vret hx hb hr (fun t ht hW => ⟨⟨(C, dv, nt, lf, lh, gr, wo3, st, an, lk), rfl, ⟨wo3, rfl, hT⟩, (by show va_P D vwCl _ t.heap; rw [ht]; exact w.1)⟩, w.2.F ht⟩) w.2.2.2 dX0_settle_139
set_option maxHeartbeats 4000000 in
set_option maxRecDepth 100000 in
/-- runAll: the cycles -/
theorem lpX0_runAll_39 (K : GC p s m args c cX0_runAll 5 RX0 D (tyX di dj) h) (hR : rmX0_runAll.frames ≤ R.frames ∧ rmX0_runAll.locals ≤ R.locals) {C : Cfg} {dv : Int32} {nt : Nat} {lf lh : Int64} {gr : Nat} {an lk : Nat → Int64} {x y : Nat} (hC : CW C) (hx9 : x < 128) (hy9 : y ≤ 4)
    (kk : ∀ (st wo : Nat → Int64) (H : Heap) (locs : List Loc) (ls : Array Slot), BI C x st wo y → GW s D h (wX di dj h (C, dv, nt, lf, lh, gr, wo, st, an, lk)) H locs → lv_has ls 5 [(0, .ref (h 0)), (1, .int (nI x)), (2, .int (nI y))] → W p l e R s m args below meth c H locs 0 0 Q (F0 m 89 ls []))
    : ∀ (n i : Nat) (st : Nat → Int64) (wo : Nat → Int64) (H : Heap) (locs : List Loc) (ls : Array Slot), i ≤ y → y + 1 ≤ i + n → BI C x st wo i → GW s D h (wX di dj h (C, dv, nt, lf, lh, gr, wo, st, an, lk)) H locs → lv_has ls 5 [(0, .ref (h 0)), (1, .int (nI x)), (2, .int (nI y)), (3, .int (nI i))] → W p l e R s m args below meth c H locs 0 0 Q (F0 m 39 ls []) := by
  obtain ⟨hx, hb, hml, hown, hts, hK, hD⟩ := id K
  intro n
  induction n with
  | zero =>
    intro i st wo H locs ls h1 h2
    exact absurd h2 (by omega)
  | succ n ih =>
    intro i st wo H locs ls h1 h2 hI w hl
    refine lv_iload_n hx hb dX0_runAll_39 rfl (lv_at hl 3 rfl) ?_
    refine lv_iload_n hx hb dX0_runAll_40 rfl (lv_at hl 2 rfl) ?_
    refine n_ge (tgt := 89) hx hb dX0_runAll_41 (by decide) (by omega) (by omega) (fun c41 => ?_) (fun c41 => ?_)
    · obtain rfl : i = y := by omega
      exact kk st wo H locs ls hI w (lv_sub hl [0, 1, 2] rfl)
    · refine lv_aload_n hx hb dX0_runAll_44 rfl (lv_at hl 0 rfl) ?_
      refine lv_iload_n hx hb dX0_runAll_45 rfl (lv_at hl 1 rfl) ?_
      refine g_callv (ci := 0) (q := (RX0, TX0, 15)) (rest := []) K w (metX0_settle l D di dj h hD C dv nt lf lh gr wo st an lk hC x hx9) (cwX0_X0_settle hts ⟨Nat.le_trans (by decide) hR.1, Nat.le_trans (by decide) hR.2⟩) rfl rfl rfl hl.1 rfl (Nat.le_of_ble_eq_true rfl) dX0_runAll_46 ⟨Nat.zero_le _, Nat.zero_le _⟩ (fun u H locs hp w => ?_)
      obtain ⟨wo1, rfl, hT⟩ := hp
      refine lv_iconst (v := nI 0) hx hb dX0_runAll_49 (by decide) ?_
      refine lv_istore (lv' := [(4, .int (nI 0)), (0, .ref (h 0)), (1, .int (nI x)), (2, .int (nI y)), (3, .int (nI i))]) hx hb dX0_runAll_50 hl (by decide) rfl (fun ls hl => ?_)
      refine lpX0_runAll_52 K hR hC (fun st1 H locs ls hs1 w hl => ?_) 4 0 st H locs ls (by omega) (by omega) (fun k hk => absurd hk (by omega)) w (lv_sub hl [1, 2, 3, 4, 0] rfl)
      refine lv_iinc (v := (nI (i + 1))) (lv' := [(3, .int (nI (i + 1))), (0, .ref (h 0)), (1, .int (nI x)), (2, .int (nI y))]) hx hb dX0_runAll_83 hl (k := 3) rfl (n_inc _) (by decide) rfl (fun ls hl => ?_)
      refine lv_goto (tgt := 39) hx hb dX0_runAll_86 (by decide) ?_
      exact ih (i + 1) _ _ H locs ls (by omega) (by omega) (BI_step hC hI hT hs1) w (lv_sub hl [1, 2, 3, 0] rfl)
set_option maxHeartbeats 4000000 in
set_option maxRecDepth 100000 in
/-- runAll: the states are answers -/
theorem lpX0_runAll_91 (K : GC p s m args c cX0_runAll 5 RX0 D (tyX di dj) h) (hR : rmX0_runAll.frames ≤ R.frames ∧ rmX0_runAll.locals ≤ R.locals) {C : Cfg} {dv : Int32} {nt : Nat} {lf lh : Int64} {gr : Nat} {wo st lk : Nat → Int64} {x y : Nat} 
    (kk : ∀ (an : Nat → Int64) (H : Heap) (locs : List Loc) (ls : Array Slot), (∀ k, k < 3 → an k = st k) → GW s D h (wX di dj h (C, dv, nt, lf, lh, gr, wo, st, an, lk)) H locs → lv_has ls 5 [(0, .ref (h 0)), (1, .int (nI x)), (2, .int (nI y))] → W p l e R s m args below meth c H locs 0 0 Q (F0 m 114 ls []))
    : ∀ (n i : Nat) (an : Nat → Int64) (H : Heap) (locs : List Loc) (ls : Array Slot), i ≤ 3 → 3 + 1 ≤ i + n → (∀ k, k < i → an k = st k) → GW s D h (wX di dj h (C, dv, nt, lf, lh, gr, wo, st, an, lk)) H locs → lv_has ls 5 [(0, .ref (h 0)), (1, .int (nI x)), (2, .int (nI y)), (3, .int (nI i))] → W p l e R s m args below meth c H locs 0 0 Q (F0 m 91 ls []) := by
  obtain ⟨hx, hb, hml, hown, hts, hK, hD⟩ := id K
  intro n
  induction n with
  | zero =>
    intro i an H locs ls h1 h2
    exact absurd h2 (by omega)
  | succ n ih =>
    intro i an H locs ls h1 h2 hI w hl
    refine lv_iload_n hx hb dX0_runAll_91 rfl (lv_at hl 3 rfl) ?_
    refine lv_iconst (v := nI 3) hx hb dX0_runAll_92 (by decide) ?_
    refine n_ge (tgt := 114) hx hb dX0_runAll_93 (by decide) (by omega) (by omega) (fun c93 => ?_) (fun c93 => ?_)
    · obtain rfl : i = 3 := by omega
      exact kk an H locs ls hI w (lv_sub hl [0, 1, 2] rfl)
    · refine lv_aload_n hx hb dX0_runAll_96 rfl (lv_at hl 0 rfl) ?_
      refine xg_answers K w dX0_runAll_97 ?_
      refine lv_iload_n hx hb dX0_runAll_100 rfl (lv_at hl 3 rfl) ?_
      refine lv_aload_n hx hb dX0_runAll_101 rfl (lv_at hl 0 rfl) ?_
      refine xg_states K w dX0_runAll_102 ?_
      refine lv_iload_n hx hb dX0_runAll_105 rfl (lv_at hl 3 rfl) ?_
      refine xl_states (k := i) K w (by omega) dX0_runAll_106 ?_
      refine xs_answers (k := i) K w (by omega) dX0_runAll_107 (fun H locs w => ?_)
      refine lv_iinc (v := (nI (i + 1))) (lv' := [(3, .int (nI (i + 1))), (0, .ref (h 0)), (1, .int (nI x)), (2, .int (nI y))]) hx hb dX0_runAll_108 hl (k := 3) rfl (n_inc _) (by decide) rfl (fun ls hl => ?_)
      refine lv_goto (tgt := 91) hx hb dX0_runAll_111 (by decide) ?_
      exact ih (i + 1) _ H locs ls (by omega) (by omega) (fun k hk => (by rcases Nat.lt_or_ge k i with q | q; (rw [pk_uLn (by omega)]; exact hI k q); (obtain rfl : k = i := (by omega); rw [pk_uLs]))) w (lv_sub hl [1, 2, 3, 0] rfl)
set_option maxHeartbeats 4000000 in
set_option maxRecDepth 100000 in
/-- runAll(x, y): the answers of all circuits to pattern x after y cycles -/
theorem metX0_runAll (l : Launch) (D : va_G) (di dj : ClassId) (h : Nat → Nat) (hD : xD h) (C : Cfg) (dv : Int32) (nt : Nat) (lf lh : Int64) (gr : Nat) (wo st an lk : Nat → Int64) (hC : CW C) (x y : Nat) (hx9 : x < 128) (hy1 : 1 ≤ y) (hy2 : y ≤ 4) : Met l yX0_runAll (ws_ yX0_runAll cX0_runAll 5 none) rmX0_runAll (GPc D (tyX di dj) h [.int (nI x), .int (nI y)] (wX di dj h (C, dv, nt, lf, lh, gr, wo, st, an, lk))) (GQv D h (wX di dj h) (fun u => ∃ wo1 st1 an1, u = (C, dv, nt, lf, lh, gr, wo1, st1, an1, lk) ∧ ∀ b, b < 5 → ∀ j, j < 64 → lb (an1 b) j = ansB C j x y b)) 0 0 (xB h) := by
  refine g_met (own := RX0) rfl (by decide) hD (Nat.le_of_ble_eq_true rfl) ?_
  intro p e s m args below meth c ls K hr hlk w hl
  obtain ⟨hx, hb, hml, hown, hts, hK, -⟩ := id K
  have hR : rmX0_runAll.frames ≤ rmX0_runAll.frames ∧ rmX0_runAll.locals ≤ rmX0_runAll.locals := ⟨Nat.le_refl _, Nat.le_refl _⟩
  have hl : lv_has ls 5 [(0, .ref (h 0)), (1, .int (nI x)), (2, .int (nI y))] := hl
  have hg := hC.1
  obtain ⟨o0, ho0, eo0⟩ := hC.2.2.2 0 (by decide)
  obtain ⟨o1, ho1, eo1⟩ := hC.2.2.2 1 (by decide)
  refine lv_iconst (v := nI 0) hx hb dX0_runAll_0 (by decide) ?_
  refine lv_istore_n (lv' := [(3, .int (nI 0)), (0, .ref (h 0)), (1, .int (nI x)), (2, .int (nI y))]) hx hb dX0_runAll_1 rfl hl (by decide) rfl (fun ls hl => ?_)
  refine lpX0_runAll_2 K hR hx9 (fun st1 H locs ls hs w hl => ?_) 4 0 st _ _ ls (by omega) (by omega) (fun k hk => absurd hk (by omega)) w (lv_sub hl [1, 2, 3, 0] rfl)
  refine lv_iconst (v := nI 0) hx hb dX0_runAll_37 (by decide) ?_
  refine lv_istore_n (lv' := [(3, .int (nI 0)), (0, .ref (h 0)), (1, .int (nI x)), (2, .int (nI y))]) hx hb dX0_runAll_38 rfl hl (by decide) rfl (fun ls hl => ?_)
  refine lpX0_runAll_39 K hR hC hx9 hy2 (fun st2 wo1 H locs ls hI w hl => ?_) (y + 1) 0 st1 wo H locs ls (by omega) (by omega) ⟨fun k hk j hj => hs k hk j hj, fun z => absurd z (by omega)⟩ w (lv_sub hl [1, 2, 3, 0] rfl)
  refine lv_iconst (v := nI 0) hx hb dX0_runAll_89 (by decide) ?_
  refine lv_istore_n (lv' := [(3, .int (nI 0)), (0, .ref (h 0)), (1, .int (nI x)), (2, .int (nI y))]) hx hb dX0_runAll_90 rfl hl (by decide) rfl (fun ls hl => ?_)
  refine lpX0_runAll_91 K hR  (fun an1 H locs ls hA w hl => ?_) 4 0 an H locs ls (by omega) (by omega) (fun k hk => absurd hk (by omega)) w (lv_sub hl [1, 2, 3, 0] rfl)
  refine lv_aload_n hx hb dX0_runAll_114 rfl (lv_at hl 0 rfl) ?_
  refine xg_answers K w dX0_runAll_115 ?_
  refine lv_iconst (v := nI 3) hx hb dX0_runAll_118 (by decide) ?_
  refine lv_aload_n hx hb dX0_runAll_119 rfl (lv_at hl 0 rfl) ?_
  refine xg_words K w dX0_runAll_120 ?_
  refine lv_aload_n hx hb dX0_runAll_123 rfl (lv_at hl 0 rfl) ?_
  refine xg_outputs K w dX0_runAll_124 ?_
  refine lv_iconst (v := nI 0) hx hb dX0_runAll_127 (by decide) ?_
  refine xl_outputs (k := 0) K w (by omega) dX0_runAll_128 ?_
  refine n_tope (eo0) ?_
  refine xl_words (k := o0) K w (by omega) dX0_runAll_129 ?_
  refine xs_answers (k := 3) K w (by omega) dX0_runAll_130 (fun H locs w => ?_)
  refine lv_aload_n hx hb dX0_runAll_131 rfl (lv_at hl 0 rfl) ?_
  refine xg_answers K w dX0_runAll_132 ?_
  refine lv_iconst (v := nI 4) hx hb dX0_runAll_135 (by decide) ?_
  refine lv_aload_n hx hb dX0_runAll_136 rfl (lv_at hl 0 rfl) ?_
  refine xg_words K w dX0_runAll_137 ?_
  refine lv_aload_n hx hb dX0_runAll_140 rfl (lv_at hl 0 rfl) ?_
  refine xg_outputs K w dX0_runAll_141 ?_
  refine lv_iconst (v := nI 1) hx hb dX0_runAll_144 (by decide) ?_
  refine xl_outputs (k := 1) K w (by omega) dX0_runAll_145 ?_
  refine n_tope (eo1) ?_
  refine xl_words (k := o1) K w (by omega) dX0_runAll_146 ?_
  refine xs_answers (k := 4) K w (by omega) dX0_runAll_147 (fun H locs w => ?_)
  exact W.vret hx hb hr (fun t ht hW => ⟨⟨(C, dv, nt, lf, lh, gr, wo1, st2, (vp_updL (vp_updL an1 3 (wo1 o0)) 4 (wo1 o1)), lk), rfl, ⟨wo1, st2, _, rfl, BI_ans hC hI hy1 (fun k hk => (by rw [pk_uLn (by omega), pk_uLn (by omega)]; exact hA k hk)) (by rw [pk_uLn (by omega), pk_uLs, eo0, cN_nI (by omega)]) (by rw [pk_uLs, eo1, cN_nI (by omega)])⟩, (by show va_P D vwCl _ t.heap; rw [ht]; exact w.1)⟩, w.2.F ht⟩) w.2.2.2 dX0_runAll_148
set_option maxHeartbeats 4000000 in
set_option maxRecDepth 100000 in
/-- answerOf(b) -/
theorem metX0_answerOf (l : Launch) (D : va_G) (di dj : ClassId) (h : Nat → Nat) (hD : xD h) (C : Cfg) (dv : Int32) (nt : Nat) (lf lh : Int64) (gr : Nat) (wo st an lk : Nat → Int64)  (b : Nat) (hb9 : b < 64) : Met l yX0_answerOf (ws_ yX0_answerOf cX0_answerOf 4 (some .int)) rmX0_answerOf (GPc D (tyX di dj) h [.int (nI b)] (wX di dj h (C, dv, nt, lf, lh, gr, wo, st, an, lk))) (vp_Si (fun r => r = nI (s5 (fun k => lb (an k) b)))) 0 0 (fun _ => False) := by
  refine g_met (own := RX0) rfl (by decide) hD (Nat.le_of_ble_eq_true rfl) ?_
  intro p e s m args below meth c ls K hr hlk w hl
  obtain ⟨hx, hb, hml, hown, hts, hK, -⟩ := id K
  have hR : rmX0_answerOf.frames ≤ rmX0_answerOf.frames ∧ rmX0_answerOf.locals ≤ rmX0_answerOf.locals := ⟨Nat.le_refl _, Nat.le_refl _⟩
  have hl : lv_has ls 4 [(0, .ref (h 0)), (1, .int (nI b))] := hl
  refine lv_iconst (v := nI 0) hx hb dX0_answerOf_0 (by decide) ?_
  refine lv_istore_n (lv' := [(2, .int (nI 0)), (0, .ref (h 0)), (1, .int (nI b))]) hx hb dX0_answerOf_1 rfl hl (by decide) rfl (fun ls hl => ?_)
  refine lv_iconst (v := nI 0) hx hb dX0_answerOf_2 (by decide) ?_
  refine lv_istore_n (lv' := [(3, .int (nI 0)), (2, .int (nI 0)), (0, .ref (h 0)), (1, .int (nI b))]) hx hb dX0_answerOf_3 rfl hl (by decide) rfl (fun ls hl => ?_)
  refine lpX0_answerOf K hR hb9 w (fun ls hl => ?_) 6 0 0 ls (by omega) (by omega) rfl (lv_sub hl [2, 3, 1, 0] rfl)
  refine lv_iload_n hx hb dX0_answerOf_31 rfl (lv_at hl 0 rfl) ?_
  exact W.iret (v := (nI (s5 (fun k => lb (an k) b)))) hx hb hr (fun t ht hW => ⟨_, rfl, rfl, ht⟩) (fun q h => by cases h) dX0_answerOf_32
theorem sub_z (a : Int32) : a - nI 0 = a := by
  rw [nI_0]; grind
set_option maxHeartbeats 4000000 in
set_option maxRecDepth 100000 in
/-- candidate(a) -/
theorem metX0_candidate (l : Launch) (D : va_G) (di dj : ClassId) (h : Nat → Nat) (hD : xD h) (C : Cfg) (dv : Int32) (nt : Nat) (lf lh : Int64) (gr : Nat) (wo st an lk : Nat → Int64) (hC : CW C) (a : Int32) : Met l yX0_candidate (ws_ yX0_candidate cX0_candidate 5 (some .int)) rmX0_candidate (GPc D (tyX di dj) h [.int a] (wX di dj h (C, dv, nt, lf, lh, gr, wo, st, an, lk))) (vp_Si (fun r => candR (lb lf) (2 * (7 + cg C)) a r)) 0 0 (fun _ => False) := by
  refine g_met (own := RX0) rfl (by decide) hD (Nat.le_of_ble_eq_true rfl) ?_
  intro p e s m args below meth c ls K hr hlk w hl
  obtain ⟨hx, hb, hml, hown, hts, hK, -⟩ := id K
  have hR : rmX0_candidate.frames ≤ rmX0_candidate.frames ∧ rmX0_candidate.locals ≤ rmX0_candidate.locals := ⟨Nat.le_refl _, Nat.le_refl _⟩
  have hl : lv_has ls 5 [(0, .ref (h 0)), (1, .int a)] := hl
  refine lv_iload_n hx hb dX0_candidate_0 rfl (lv_at hl 1 rfl) ?_
  refine lv_istore_n (lv' := [(2, .int a), (0, .ref (h 0)), (1, .int a)]) hx hb dX0_candidate_1 rfl hl (by decide) rfl (fun ls hl => ?_)
  refine lv_iconst (v := nI 2) hx hb dX0_candidate_2 (by decide) ?_
  refine lv_bipush (v := nI 7) hx hb dX0_candidate_3 (by decide) ?_
  refine lv_aload_n hx hb dX0_candidate_5 rfl (lv_at hl 1 rfl) ?_
  refine xg_gates K w dX0_candidate_6 ?_
  refine n_iadd hx hb dX0_candidate_9 ?_
  refine n_imul hx hb dX0_candidate_10 ?_
  refine lv_istore_n (lv' := [(3, .int (nI (2 * (7 + (cg C))))), (2, .int a), (0, .ref (h 0)), (1, .int a)]) hx hb dX0_candidate_11 rfl hl (by decide) rfl (fun ls hl => ?_)
  refine lv_iconst (v := nI 0) hx hb dX0_candidate_12 (by decide) ?_
  refine lv_istore (lv' := [(4, .int (nI 0)), (3, .int (nI (2 * (7 + (cg C))))), (2, .int a), (0, .ref (h 0)), (1, .int a)]) hx hb dX0_candidate_13 hl (by decide) rfl (fun ls hl => ?_)
  refine lpX0_candidate K hR hC w (fun f ls hf hf1 hf2 => ?_) (fun ls hno => ?_) (2 * (7 + cg C) + 1) 0 a ls (by omega) (by omega) (by rw [show fb_ct (lb lf) 0 = 0 from rfl]; exact (sub_z a).symm) (fun k hk => absurd hk (by omega)) (lv_sub hl [3, 4, 2, 1, 0] rfl)
  · exact W.iret (v := nI f) hx hb hr (fun t ht hW => ⟨_, rfl, Or.inl ⟨f, hf, hf1, hf2, rfl⟩, ht⟩) (fun q h => by cases h) dX0_candidate_41
  · refine lv_iconst (v := -1) hx hb dX0_candidate_51 (by decide) ?_
    exact W.iret (v := (-1)) hx hb hr (fun t ht hW => ⟨_, rfl, (Or.inr ⟨hno, rfl⟩), ht⟩) (fun q h => by cases h) dX0_candidate_52
end
end
section
/-! the component: split, group and what asks for groups -/
set_option maxRecDepth 100000
section
variable {p : Program} {l : Launch} {e : Env} {R : Room} {s : State} {m : MethodId} {args : Array Value} {below : List Frame} {meth : Method} {c : Code} {Q : State → Prop} {D : va_G} {di dj : ClassId} {h : Nat → Nat}
set_option maxHeartbeats 4000000 in
set_option maxRecDepth 100000 in
/-- split: the faults -/
theorem lpX0_split (K : GC p s m args c cX0_split 4 RX0 D (tyX di dj) h) (hR : rmX0_split.frames ≤ R.frames ∧ rmX0_split.locals ≤ R.locals) {C : Cfg} {dv : Int32} {nt : Nat} {lf lh : Int64} {gr : Nat} {wo st an lk0 : Nat → Int64} {x : Int64} (hC : CW C)
    (kk : ∀ (lk : Nat → Int64) (H : Heap) (locs : List Loc) (ls : Array Slot), (∀ f, f < 2 * (7 + cg C) → ∀ j, j < 64 → lb (lk f) j = (lb (lk0 f) j && (lb x f == lb x j))) → GW s D h (wX di dj h (C, dv, nt, lf, lh, gr, wo, st, an, lk)) H locs → lv_has ls 4 [(0, .ref (h 0)), (1, .long x)] → W p l e R s m args below meth c H locs 0 0 Q (F0 m 53 ls []))
    : ∀ (n f : Nat) (lk : Nat → Int64) (H : Heap) (locs : List Loc) (ls : Array Slot), f ≤ 2 * (7 + cg C) → 2 * (7 + cg C) + 1 ≤ f + n → (∀ k, k < f → ∀ j, j < 64 → lb (lk k) j = (lb (lk0 k) j && (lb x k == lb x j))) → (∀ k, f ≤ k → lk k = lk0 k) → GW s D h (wX di dj h (C, dv, nt, lf, lh, gr, wo, st, an, lk)) H locs → lv_has ls 4 [(0, .ref (h 0)), (1, .long x), (3, .int (nI f))] → W p l e R s m args below meth c H locs 0 0 Q (F0 m 2 ls []) := by
  obtain ⟨hx, hb, hml, hown, hts, hK, hD⟩ := id K
  intro n
  induction n with
  | zero =>
    intro f lk H locs ls h1 h2
    exact absurd h2 (by omega)
  | succ n ih =>
    intro f lk H locs ls h1 h2 hI1 hI2 w hl
    have hg := hC.1
    refine lv_iload_n hx hb dX0_split_2 rfl (lv_at hl 2 rfl) ?_
    refine lv_iconst (v := nI 2) hx hb dX0_split_3 (by decide) ?_
    refine lv_bipush (v := nI 7) hx hb dX0_split_4 (by decide) ?_
    refine lv_aload_n hx hb dX0_split_6 rfl (lv_at hl 0 rfl) ?_
    refine xg_gates K w dX0_split_7 ?_
    refine n_iadd hx hb dX0_split_10 ?_
    refine n_imul hx hb dX0_split_11 ?_
    refine n_ge (tgt := 53) hx hb dX0_split_12 (by decide) (by omega) (by omega) (fun c12 => ?_) (fun c12 => ?_)
    · obtain rfl : f = 2 * (7 + cg C) := by omega
      exact kk lk H locs ls hI1 w (lv_sub hl [0, 1] rfl)
    · refine lv_aload_n hx hb dX0_split_15 rfl (lv_at hl 0 rfl) ?_
      refine xg_like K w dX0_split_16 ?_
      refine lv_iload_n hx hb dX0_split_19 rfl (lv_at hl 2 rfl) ?_
      refine lv_aload_n hx hb dX0_split_20 rfl (lv_at hl 0 rfl) ?_
      refine xg_like K w dX0_split_21 ?_
      refine lv_iload_n hx hb dX0_split_24 rfl (lv_at hl 2 rfl) ?_
      refine xl_like (k := f) K w (by omega) dX0_split_25 ?_
      refine lv_lload_n hx hb dX0_split_26 rfl (lv_at hl 1 rfl) ?_
      refine lv_iload_n hx hb dX0_split_27 rfl (lv_at hl 2 rfl) ?_
      refine lv_lushr (v := lsr x f) hx hb dX0_split_28 rfl ?_
      refine lv_lconst (v := 1) hx hb dX0_split_29 (by decide) ?_
      refine lv_land hx hb dX0_split_30 ?_
      refine lv_lconst (v := 1) hx hb dX0_split_31 (by decide) ?_
      refine n_lcmpne (tgt := 40) hx hb dX0_split_32 dX0_split_33 (by decide) (fun c32 => ?_) (fun c32 => ?_)
      · have hbit : lb x f = false := Bool.eq_false_iff.mpr fun z => c32 ((lsr_is x (by omega)).mpr z)
        refine lv_lload_n hx hb dX0_split_40 rfl (lv_at hl 1 rfl) ?_
        refine lv_ldc2 hx hb hown (hts _ q37) dX0_split_41 ?_
        refine lv_lxor hx hb dX0_split_44 ?_
        refine lv_land hx hb dX0_split_45 ?_
        refine xs_like (k := f) K w (by omega) dX0_split_46 (fun H locs w => ?_)
        refine lv_iinc (v := (nI (f + 1))) (lv' := [(3, .int (nI (f + 1))), (0, .ref (h 0)), (1, .long x)]) hx hb dX0_split_47 hl (k := 2) rfl (n_inc _) (by decide) rfl (fun ls hl => ?_)
        refine lv_goto (tgt := 2) hx hb dX0_split_50 (by decide) ?_
        exact ih (f + 1) _ H locs ls (by omega) (by omega) (fun k hk => (by rcases Nat.lt_or_ge k f with q | q; (rw [pk_uLn (by omega)]; exact hI1 k q); (obtain rfl : k = f := (by omega); rw [pk_uLs, ← hI2 k (Nat.le_refl k)]; exact sp_0 _ hbit))) (fun k hk => (by rw [pk_uLn (by omega)]; exact hI2 k (by omega))) w (lv_sub hl [1, 2, 0] rfl)
      · have hbit : lb x f = true := (lsr_is x (by omega)).mp c32
        refine lv_lload_n hx hb dX0_split_36 rfl (lv_at hl 1 rfl) ?_
        refine lv_goto (tgt := 45) hx hb dX0_split_37 (by decide) ?_
        refine lv_land hx hb dX0_split_45 ?_
        refine xs_like (k := f) K w (by omega) dX0_split_46 (fun H locs w => ?_)
        refine lv_iinc (v := (nI (f + 1))) (lv' := [(3, .int (nI (f + 1))), (0, .ref (h 0)), (1, .long x)]) hx hb dX0_split_47 hl (k := 2) rfl (n_inc _) (by decide) rfl (fun ls hl => ?_)
        refine lv_goto (tgt := 2) hx hb dX0_split_50 (by decide) ?_
        exact ih (f + 1) _ H locs ls (by omega) (by omega) (fun k hk => (by rcases Nat.lt_or_ge k f with q | q; (rw [pk_uLn (by omega)]; exact hI1 k q); (obtain rfl : k = f := (by omega); rw [pk_uLs, ← hI2 k (Nat.le_refl k)]; exact sp_1 _ hbit))) (fun k hk => (by rw [pk_uLn (by omega)]; exact hI2 k (by omega))) w (lv_sub hl [1, 2, 0] rfl)
set_option maxHeartbeats 4000000 in
set_option maxRecDepth 100000 in
/-- split(x) -/
theorem metX0_split (l : Launch) (D : va_G) (di dj : ClassId) (h : Nat → Nat) (hD : xD h) (C : Cfg) (dv : Int32) (nt : Nat) (lf lh : Int64) (gr : Nat) (wo st an lk : Nat → Int64) (hC : CW C) (x : Int64) : Met l yX0_split (ws_ yX0_split cX0_split 4 none) rmX0_split (GPc D (tyX di dj) h [.long x] (wX di dj h (C, dv, nt, lf, lh, gr, wo, st, an, lk))) (GQv D h (wX di dj h) (fun u => ∃ lk1 lh1, u = (C, dv, nt, lf, lh1, gr, wo, st, an, lk1) ∧ (∀ f, f < 2 * (7 + cg C) → ∀ j, j < 64 → lb (lk1 f) j = (lb (lk f) j && (lb x f == lb x j))) ∧ ∀ j, j < 64 → lb lh1 j = (lb lh j && (lb x 63 == lb x j)))) 0 0 (xB h) := by
  refine g_met (own := RX0) rfl (by decide) hD (Nat.le_of_ble_eq_true rfl) ?_
  intro p e s m args below meth c ls K hr hlk w hl
  obtain ⟨hx, hb, hml, hown, hts, hK, -⟩ := id K
  have hR : rmX0_split.frames ≤ rmX0_split.frames ∧ rmX0_split.locals ≤ rmX0_split.locals := ⟨Nat.le_refl _, Nat.le_refl _⟩
  have hl : lv_has ls 4 [(0, .ref (h 0)), (1, .long x)] := hl
  refine lv_iconst (v := nI 0) hx hb dX0_split_0 (by decide) ?_
  refine lv_istore_n (lv' := [(3, .int (nI 0)), (0, .ref (h 0)), (1, .long x)]) hx hb dX0_split_1 rfl hl (by decide) rfl (fun ls hl => ?_)
  refine lpX0_split K hR hC (fun lk1 H locs ls hL w hl => ?_) (2 * (7 + cg C) + 1) 0 lk _ _ ls (by omega) (by omega) (fun k hk => absurd hk (by omega)) (fun k hk => rfl) w (lv_sub hl [1, 2, 0] rfl)
  refine lv_aload_n hx hb dX0_split_53 rfl (lv_at hl 0 rfl) ?_
  refine lv_aload_n hx hb dX0_split_54 rfl (lv_at hl 0 rfl) ?_
  refine xg_likeHealthy K w dX0_split_55 ?_
  refine lv_lload_n hx hb dX0_split_58 rfl (lv_at hl 1 rfl) ?_
  refine lv_lconst (v := 0) hx hb dX0_split_59 (by decide) ?_
  refine n_lcmpge (tgt := 68) hx hb dX0_split_60 dX0_split_61 (by decide) (fun c60 => ?_) (fun c60 => ?_)
  · refine lv_lload_n hx hb dX0_split_68 rfl (lv_at hl 1 rfl) ?_
    refine lv_ldc2 hx hb hown (hts _ q37) dX0_split_69 ?_
    refine lv_lxor hx hb dX0_split_72 ?_
    refine lv_land hx hb dX0_split_73 ?_
    refine xp_likeHealthy K w dX0_split_74 (fun H locs w => ?_)
    exact W.vret hx hb hr (fun t ht hW => ⟨⟨(C, dv, nt, lf, (lh &&& (x ^^^ (-1))), gr, wo, st, an, lk1), rfl, ⟨lk1, _, rfl, hL, sp_0 lh (Bool.eq_false_iff.mpr fun z => c60 ((lb_neg x).mpr z))⟩, (by show va_P D vwCl _ t.heap; rw [ht]; exact w.1)⟩, w.2.F ht⟩) w.2.2.2 dX0_split_77
  · refine lv_lload_n hx hb dX0_split_64 rfl (lv_at hl 1 rfl) ?_
    refine lv_goto (tgt := 73) hx hb dX0_split_65 (by decide) ?_
    refine lv_land hx hb dX0_split_73 ?_
    refine xp_likeHealthy K w dX0_split_74 (fun H locs w => ?_)
    exact W.vret hx hb hr (fun t ht hW => ⟨⟨(C, dv, nt, lf, (lh &&& x), gr, wo, st, an, lk1), rfl, ⟨lk1, _, rfl, hL, sp_1 lh ((lb_neg x).mp c60)⟩, (by show va_P D vwCl _ t.heap; rw [ht]; exact w.1)⟩, w.2.F ht⟩) w.2.2.2 dX0_split_77
set_option maxHeartbeats 4000000 in
set_option maxRecDepth 100000 in
/-- group: all faults are alike at first -/
theorem lpX0_group_22 (K : GC p s m args c cX0_group 3 RX0 D (tyX di dj) h) (hR : rmX0_group.frames ≤ R.frames ∧ rmX0_group.locals ≤ R.locals) {C : Cfg} {dv : Int32} {nt : Nat} {lf lh : Int64} {gr : Nat} {wo st an : Nat → Int64} (hC : CW C)
    (kk : ∀ (lk : Nat → Int64) (H : Heap) (locs : List Loc) (ls : Array Slot), (∀ f, f < 42 → ∀ j, j < 64 → lb (lk f) j = decide (j < kf C)) → GW s D h (wX di dj h (C, dv, nt, lf, lh, gr, wo, st, an, lk)) H locs → lv_has ls 3 [(0, .ref (h 0))] → W p l e R s m args below meth c H locs 0 0 Q (F0 m 44 ls []))
    : ∀ (n f : Nat) (lk : Nat → Int64) (H : Heap) (locs : List Loc) (ls : Array Slot), f ≤ 42 → 42 + 1 ≤ f + n → (∀ k, k < f → ∀ j, j < 64 → lb (lk k) j = decide (j < kf C)) → GW s D h (wX di dj h (C, dv, nt, lf, lh, gr, wo, st, an, lk)) H locs → lv_has ls 3 [(0, .ref (h 0)), (1, .int (nI f))] → W p l e R s m args below meth c H locs 0 0 Q (F0 m 22 ls []) := by
  obtain ⟨hx, hb, hml, hown, hts, hK, hD⟩ := id K
  intro n
  induction n with
  | zero =>
    intro f lk H locs ls h1 h2
    exact absurd h2 (by omega)
  | succ n ih =>
    intro f lk H locs ls h1 h2 hI w hl
    refine lv_iload_n hx hb dX0_group_22 rfl (lv_at hl 1 rfl) ?_
    refine lv_bipush (v := nI 42) hx hb dX0_group_23 (by decide) ?_
    refine n_ge (tgt := 44) hx hb dX0_group_25 (by decide) (by omega) (by omega) (fun c25 => ?_) (fun c25 => ?_)
    · obtain rfl : f = 42 := by omega
      exact kk lk H locs ls hI w (lv_sub hl [0] rfl)
    · refine lv_aload_n hx hb dX0_group_28 rfl (lv_at hl 0 rfl) ?_
      refine xg_like K w dX0_group_29 ?_
      refine lv_iload_n hx hb dX0_group_32 rfl (lv_at hl 1 rfl) ?_
      refine lv_aload_n hx hb dX0_group_33 rfl (lv_at hl 0 rfl) ?_
      refine g_readl (ci := 0) (q := (RX0, TX0, 15)) (rest := [.int (nI f), .ref (h 9)]) K w (metX0_faults l D di dj h hD C dv nt lf lh gr wo st an lk hC) (cwX0_X0_faults hts ⟨Nat.le_trans (by decide) hR.1, Nat.le_trans (by decide) hR.2⟩) rfl rfl rfl hl.1 rfl (Nat.le_of_ble_eq_true rfl) dX0_group_34 ⟨Nat.zero_le _, Nat.zero_le _⟩ (fun r1 hr1 => ?_)
      refine xs_like (k := f) K w (by omega) dX0_group_37 (fun H locs w => ?_)
      refine lv_iinc (v := (nI (f + 1))) (lv' := [(1, .int (nI (f + 1))), (0, .ref (h 0))]) hx hb dX0_group_38 hl (k := 1) rfl (n_inc _) (by decide) rfl (fun ls hl => ?_)
      refine lv_goto (tgt := 22) hx hb dX0_group_41 (by decide) ?_
      exact ih (f + 1) _ H locs ls (by omega) (by omega) (fun k hk => (by rcases Nat.lt_or_ge k f with q | q; (rw [pk_uLn (by omega)]; exact hI k q); (obtain rfl : k = f := (by omega); rw [pk_uLs]; exact hr1))) w (lv_sub hl [1, 0] rfl)
set_option maxHeartbeats 4000000 in
set_option maxRecDepth 100000 in
/-- group: the bits of an answer -/
theorem lpX0_group_61 (K : GC p s m args c cX0_group 3 RX0 D (tyX di dj) h) (hR : rmX0_group.frames ≤ R.frames ∧ rmX0_group.locals ≤ R.locals) {C : Cfg} {dv : Int32} {nt : Nat} {lf : Int64} {gr : Nat} {wo st an : Nat → Int64} {q : Nat} (hC : CW C) (han : ∀ b, b < 5 → ∀ j, j < 64 → lb (an b) j = ansB C j q 1 b)
    (kk : ∀ (lk : Nat → Int64) (lh : Int64) (H : Heap) (locs : List Loc) (ls : Array Slot), GQ C lh lk q 5 → GW s D h (wX di dj h (C, dv, nt, lf, lh, gr, wo, st, an, lk)) H locs → lv_has ls 3 [(0, .ref (h 0)), (1, .int (nI q))] → W p l e R s m args below meth c H locs 0 0 Q (F0 m 82 ls []))
    : ∀ (n b : Nat) (lk : Nat → Int64) (lh : Int64) (H : Heap) (locs : List Loc) (ls : Array Slot), b ≤ 5 → 5 + 1 ≤ b + n → GQ C lh lk q b → GW s D h (wX di dj h (C, dv, nt, lf, lh, gr, wo, st, an, lk)) H locs → lv_has ls 3 [(0, .ref (h 0)), (1, .int (nI q)), (2, .int (nI b))] → W p l e R s m args below meth c H locs 0 0 Q (F0 m 61 ls []) := by
  obtain ⟨hx, hb, hml, hown, hts, hK, hD⟩ := id K
  intro n
  induction n with
  | zero =>
    intro b lk lh H locs ls h1 h2
    exact absurd h2 (by omega)
  | succ n ih =>
    intro b lk lh H locs ls h1 h2 hI w hl
    refine lv_iload_n hx hb dX0_group_61 rfl (lv_at hl 2 rfl) ?_
    refine lv_iconst (v := nI 5) hx hb dX0_group_62 (by decide) ?_
    refine n_ge (tgt := 82) hx hb dX0_group_63 (by decide) (by omega) (by omega) (fun c63 => ?_) (fun c63 => ?_)
    · obtain rfl : b = 5 := by omega
      exact kk lk lh H locs ls hI w (lv_sub hl [0, 1] rfl)
    · refine lv_aload_n hx hb dX0_group_66 rfl (lv_at hl 0 rfl) ?_
      refine lv_aload_n hx hb dX0_group_67 rfl (lv_at hl 0 rfl) ?_
      refine xg_answers K w dX0_group_68 ?_
      refine lv_iload_n hx hb dX0_group_71 rfl (lv_at hl 2 rfl) ?_
      refine xl_answers (k := b) K w (by omega) dX0_group_72 ?_
      refine g_callv (ci := 0) (q := (RX0, TX0, 15)) (rest := []) K w (metX0_split l D di dj h hD C dv nt lf lh gr wo st an lk hC (an b)) (cwX0_X0_split hts ⟨Nat.le_trans (by decide) hR.1, Nat.le_trans (by decide) hR.2⟩) rfl rfl rfl hl.1 rfl (Nat.le_of_ble_eq_true rfl) dX0_group_73 ⟨Nat.zero_le _, Nat.zero_le _⟩ (fun u H locs hp w => ?_)
      obtain ⟨lk1, lh1, rfl, hs1, hs2⟩ := hp
      refine lv_iinc (v := (nI (b + 1))) (lv' := [(2, .int (nI (b + 1))), (0, .ref (h 0)), (1, .int (nI q))]) hx hb dX0_group_76 hl (k := 2) rfl (n_inc _) (by decide) rfl (fun ls hl => ?_)
      refine lv_goto (tgt := 61) hx hb dX0_group_79 (by decide) ?_
      exact ih (b + 1) _ _ H locs ls (by omega) (by omega) (GQ_split hC hI (han b c63) hs1 hs2) w (lv_sub hl [1, 2, 0] rfl)
set_option maxHeartbeats 4000000 in
set_option maxRecDepth 100000 in
/-- group: the patterns -/
theorem lpX0_group_46 (K : GC p s m args c cX0_group 3 RX0 D (tyX di dj) h) (hR : rmX0_group.frames ≤ R.frames ∧ rmX0_group.locals ≤ R.locals) {C : Cfg} {dv : Int32} {nt : Nat} {lf : Int64} {gr : Nat} (hC : CW C)
    (kk : ∀ (wo st an lk : Nat → Int64) (lh : Int64) (H : Heap) (locs : List Loc) (ls : Array Slot), GI C lh lk → GW s D h (wX di dj h (C, dv, nt, lf, lh, gr, wo, st, an, lk)) H locs → W p l e R s m args below meth c H locs 0 0 Q (F0 m 88 ls []))
    : ∀ (n q : Nat) (wo : Nat → Int64) (st : Nat → Int64) (an : Nat → Int64) (lk : Nat → Int64) (lh : Int64) (H : Heap) (locs : List Loc) (ls : Array Slot), q ≤ 128 → 128 + 1 ≤ q + n → GQ C lh lk q 0 → GW s D h (wX di dj h (C, dv, nt, lf, lh, gr, wo, st, an, lk)) H locs → lv_has ls 3 [(0, .ref (h 0)), (1, .int (nI q))] → W p l e R s m args below meth c H locs 0 0 Q (F0 m 46 ls []) := by
  obtain ⟨hx, hb, hml, hown, hts, hK, hD⟩ := id K
  intro n
  induction n with
  | zero =>
    intro q wo st an lk lh H locs ls h1 h2
    exact absurd h2 (by omega)
  | succ n ih =>
    intro q wo st an lk lh H locs ls h1 h2 hI w hl
    refine lv_iload_n hx hb dX0_group_46 rfl (lv_at hl 1 rfl) ?_
    refine lv_sipush (v := nI 128) hx hb dX0_group_47 (by decide) ?_
    refine n_ge (tgt := 88) hx hb dX0_group_50 (by decide) (by omega) (by omega) (fun c50 => ?_) (fun c50 => ?_)
    · obtain rfl : q = 128 := by omega
      exact kk wo st an lk lh H locs ls hI w
    · refine lv_aload_n hx hb dX0_group_53 rfl (lv_at hl 0 rfl) ?_
      refine lv_iload_n hx hb dX0_group_54 rfl (lv_at hl 1 rfl) ?_
      refine lv_iconst (v := nI 1) hx hb dX0_group_55 (by decide) ?_
      refine g_callv (ci := 0) (q := (RX0, TX0, 15)) (rest := []) K w (metX0_runAll l D di dj h hD C dv nt lf lh gr wo st an lk hC q 1 (by omega) (by omega) (by omega)) (cwX0_X0_runAll hts ⟨Nat.le_trans (by decide) hR.1, Nat.le_trans (by decide) hR.2⟩) rfl rfl rfl hl.1 rfl (Nat.le_of_ble_eq_true rfl) dX0_group_56 ⟨Nat.zero_le _, Nat.zero_le _⟩ (fun u H locs hp w => ?_)
      obtain ⟨wo1, st1, an1, rfl, han⟩ := hp
      refine lv_iconst (v := nI 0) hx hb dX0_group_59 (by decide) ?_
      refine lv_istore_n (lv' := [(2, .int (nI 0)), (0, .ref (h 0)), (1, .int (nI q))]) hx hb dX0_group_60 rfl hl (by decide) rfl (fun ls hl => ?_)
      refine lpX0_group_61 K hR hC han (fun lk1 lh1 H locs ls hI1 w hl => ?_) 6 0 lk lh H locs ls (by omega) (by omega) hI w (lv_sub hl [1, 2, 0] rfl)
      refine lv_iinc (v := (nI (q + 1))) (lv' := [(1, .int (nI (q + 1))), (0, .ref (h 0))]) hx hb dX0_group_82 hl (k := 1) rfl (n_inc _) (by decide) rfl (fun ls hl => ?_)
      refine lv_goto (tgt := 46) hx hb dX0_group_85 (by decide) ?_
      exact ih (q + 1) _ _ _ _ _ H locs ls (by omega) (by omega) (GQ_next hI1) w (lv_sub hl [1, 0] rfl)
set_option maxHeartbeats 4000000 in
set_option maxRecDepth 100000 in
/-- group() -/
theorem metX0_group (l : Launch) (D : va_G) (di dj : ClassId) (h : Nat → Nat) (hD : xD h) (C : Cfg) (dv : Int32) (nt : Nat) (lf lh : Int64) (gr : Nat) (wo st an lk : Nat → Int64) (hC : CW C) (hG : gr = 0 ∨ gr = 1 ∧ GI C lh lk)  : Met l yX0_group (ws_ yX0_group cX0_group 3 none) rmX0_group (GPc D (tyX di dj) h [] (wX di dj h (C, dv, nt, lf, lh, gr, wo, st, an, lk))) (GQv D h (wX di dj h) (fun u => ∃ lh1 wo1 st1 an1 lk1, u = (C, dv, nt, lf, lh1, 1, wo1, st1, an1, lk1) ∧ GI C lh1 lk1)) 0 0 (xB h) := by
  refine g_met (own := RX0) rfl (by decide) hD (Nat.le_of_ble_eq_true rfl) ?_
  intro p e s m args below meth c ls K hr hlk w hl
  obtain ⟨hx, hb, hml, hown, hts, hK, -⟩ := id K
  have hR : rmX0_group.frames ≤ rmX0_group.frames ∧ rmX0_group.locals ≤ rmX0_group.locals := ⟨Nat.le_refl _, Nat.le_refl _⟩
  have hl : lv_has ls 3 [(0, .ref (h 0))] := hl
  refine lv_aload_n hx hb dX0_group_0 rfl (lv_at hl 0 rfl) ?_
  refine xg_grouped K w dX0_group_1 ?_
  refine lv_if_eq (tgt := 8) hx hb dX0_group_4 (by decide) (fun c4 => ?_) (fun c4 => ?_)
  · refine lv_aload_n hx hb dX0_group_8 rfl (lv_at hl 0 rfl) ?_
    refine lv_iconst (v := nI 1) hx hb dX0_group_9 (by decide) ?_
    refine xp_grouped1 K w dX0_group_10 (fun H locs w => ?_)
    refine lv_aload_n hx hb dX0_group_13 rfl (lv_at hl 0 rfl) ?_
    refine lv_ldc2 hx hb hown (hts _ q37) dX0_group_14 ?_
    refine xp_likeHealthy K w dX0_group_17 (fun H locs w => ?_)
    refine lv_iconst (v := nI 0) hx hb dX0_group_20 (by decide) ?_
    refine lv_istore_n (lv' := [(1, .int (nI 0)), (0, .ref (h 0))]) hx hb dX0_group_21 rfl hl (by decide) rfl (fun ls hl => ?_)
    refine lpX0_group_22 K hR hC (fun lk1 H locs ls hL w hl => ?_) 43 0 lk H locs ls (by omega) (by omega) (fun k hk => absurd hk (by omega)) w (lv_sub hl [1, 0] rfl)
    refine lv_iconst (v := nI 0) hx hb dX0_group_44 (by decide) ?_
    refine lv_istore_n (lv' := [(1, .int (nI 0)), (0, .ref (h 0))]) hx hb dX0_group_45 rfl hl (by decide) rfl (fun ls hl => ?_)
    refine lpX0_group_46 K hR hC (fun wo1 st1 an1 lk2 lh1 H locs ls hG1 w => ?_) 129 0 wo st an lk1 _ H locs ls (by omega) (by omega) (GQ_0 hC hL) w (lv_sub hl [1, 0] rfl)
    exact W.vret hx hb hr (fun t ht hW => ⟨⟨(C, dv, nt, lf, lh1, 1, wo1, st1, an1, lk2), rfl, ⟨lh1, wo1, st1, an1, lk2, rfl, hG1⟩, (by show va_P D vwCl _ t.heap; rw [ht]; exact w.1)⟩, w.2.F ht⟩) w.2.2.2 dX0_group_88
  · obtain ⟨rfl, hG1⟩ := hG.resolve_left (fun z => c4 (by rw [z]; rfl))
    exact W.vret hx hb hr (fun t ht hW => ⟨⟨(C, dv, nt, lf, lh, 1, wo, st, an, lk), rfl, ⟨lh, wo, st, an, lk, rfl, hG1⟩, (by show va_P D vwCl _ t.heap; rw [ht]; exact w.1)⟩, w.2.F ht⟩) w.2.2.2 dX0_group_7
set_option maxHeartbeats 4000000 in
set_option maxRecDepth 100000 in
/-- groupsWith: the faults -/
theorem lpX0_groupsWith (K : GC p s m args c cX0_groupsWith 5 RX0 D (tyX di dj) h) (hR : rmX0_groupsWith.frames ≤ R.frames ∧ rmX0_groupsWith.locals ≤ R.locals) {C : Cfg} {dv : Int32} {nt : Nat} {lf lh : Int64} {gr : Nat} {wo st an lk : Nat → Int64} {x : Int64} (hC : CW C) (hG : GI C lh lk) {H : Heap} {locs : List Loc} (w : GW s D h (wX di dj h (C, dv, nt, lf, lh, gr, wo, st, an, lk)) H locs)
    (kk : ∀ ls : Array Slot, lv_has ls 5 [(3, .int (nI (fb_ct (grpB C (lb x)) (2 * (7 + cg C)))))] → W p l e R s m args below meth c H locs 0 0 Q (F0 m 61 ls []))
    : ∀ (n f : Nat) (acc : Nat) (ls : Array Slot), f ≤ 2 * (7 + cg C) → 2 * (7 + cg C) + 1 ≤ f + n → acc = fb_ct (grpB C (lb x)) f → lv_has ls 5 [(0, .ref (h 0)), (1, .long x), (3, .int (nI acc)), (4, .int (nI f))] → W p l e R s m args below meth c H locs 0 0 Q (F0 m 9 ls []) := by
  obtain ⟨hx, hb, hml, hown, hts, hK, hD⟩ := id K
  intro n
  induction n with
  | zero =>
    intro f acc ls h1 h2
    exact absurd h2 (by omega)
  | succ n ih =>
    intro f acc ls h1 h2 hacc hl
    have hg := hC.1
    refine lv_iload hx hb dX0_groupsWith_9 (lv_at hl 3 rfl) ?_
    refine lv_iconst (v := nI 2) hx hb dX0_groupsWith_11 (by decide) ?_
    refine lv_bipush (v := nI 7) hx hb dX0_groupsWith_12 (by decide) ?_
    refine lv_aload_n hx hb dX0_groupsWith_14 rfl (lv_at hl 0 rfl) ?_
    refine xg_gates K w dX0_groupsWith_15 ?_
    refine n_iadd hx hb dX0_groupsWith_18 ?_
    refine n_imul hx hb dX0_groupsWith_19 ?_
    refine n_ge (tgt := 61) hx hb dX0_groupsWith_20 (by decide) (by omega) (by omega) (fun c20 => ?_) (fun c20 => ?_)
    · obtain rfl : f = 2 * (7 + cg C) := by omega
      subst hacc
      exact kk ls (lv_sub hl [2] rfl)
    · have he := ear_le C f
      refine lv_aload_n hx hb dX0_groupsWith_23 rfl (lv_at hl 0 rfl) ?_
      refine xg_like K w dX0_groupsWith_24 ?_
      refine lv_iload hx hb dX0_groupsWith_27 (lv_at hl 3 rfl) ?_
      refine xl_like (k := f) K w (by omega) dX0_groupsWith_29 ?_
      refine s_calli (rest := []) K.sc (metX0_lowest l (lk f) (ear C f) (GI_low hC hG c20).1 (GI_low hC hG c20).2.1 (GI_low hC hG c20).2.2) (cwX0_X0_lowest hts ⟨Nat.le_trans (by decide) hR.1, Nat.le_trans (by decide) hR.2⟩) rfl hl.1 rfl (Nat.le_of_ble_eq_true rfl) dX0_groupsWith_30 ⟨Nat.zero_le _, Nat.zero_le _⟩ (fun r3 hr3 => ?_)
      subst hr3
      refine lv_iload hx hb dX0_groupsWith_33 (lv_at hl 3 rfl) ?_
      refine n_ne (tgt := 55) hx hb dX0_groupsWith_35 (by decide) (by omega) (by omega) (fun c35 => ?_) (fun c35 => ?_)
      · refine lv_iinc (v := (nI (f + 1))) (lv' := [(4, .int (nI (f + 1))), (0, .ref (h 0)), (1, .long x), (3, .int (nI acc))]) hx hb dX0_groupsWith_55 hl (k := 3) rfl (n_inc _) (by decide) rfl (fun ls hl => ?_)
        refine lv_goto (tgt := 9) hx hb dX0_groupsWith_58 (by decide) ?_
        exact ih (f + 1) _ ls (by omega) (by omega) (by rw [hacc, fb_ct_succ, show grpB C (lb x) f = false from (by unfold grpB; rw [decide_eq_false c35]; rfl)]; rfl) (lv_sub hl [1, 2, 3, 0] rfl)
      · refine lv_aload_n hx hb dX0_groupsWith_38 rfl (lv_at hl 0 rfl) ?_
        refine xg_like K w dX0_groupsWith_39 ?_
        refine lv_iload hx hb dX0_groupsWith_42 (lv_at hl 3 rfl) ?_
        refine xl_like (k := f) K w (by omega) dX0_groupsWith_44 ?_
        refine lv_lload_n hx hb dX0_groupsWith_45 rfl (lv_at hl 1 rfl) ?_
        refine lv_land hx hb dX0_groupsWith_46 ?_
        refine lv_lconst (v := 0) hx hb dX0_groupsWith_47 (by decide) ?_
        refine n_lcmpeq (tgt := 55) hx hb dX0_groupsWith_48 dX0_groupsWith_49 (by decide) (fun c48 => ?_) (fun c48 => ?_)
        · refine lv_iinc (v := (nI (f + 1))) (lv' := [(4, .int (nI (f + 1))), (0, .ref (h 0)), (1, .long x), (3, .int (nI acc))]) hx hb dX0_groupsWith_55 hl (k := 3) rfl (n_inc _) (by decide) rfl (fun ls hl => ?_)
          refine lv_goto (tgt := 9) hx hb dX0_groupsWith_58 (by decide) ?_
          exact ih (f + 1) _ ls (by omega) (by omega) (by rw [hacc, fb_ct_succ, show grpB C (lb x) f = false from (by unfold grpB; rw [decide_eq_false (fun z => (GI_meet hC hG c20).mpr z c48), Bool.and_false])]; rfl) (lv_sub hl [1, 2, 3, 0] rfl)
        · refine lv_iinc (v := (nI (acc + 1))) (lv' := [(3, .int (nI (acc + 1))), (0, .ref (h 0)), (1, .long x), (4, .int (nI f))]) hx hb dX0_groupsWith_52 hl (k := 2) rfl (n_inc _) (by decide) rfl (fun ls hl => ?_)
          refine lv_iinc (v := (nI (f + 1))) (lv' := [(4, .int (nI (f + 1))), (3, .int (nI (acc + 1))), (0, .ref (h 0)), (1, .long x)]) hx hb dX0_groupsWith_55 hl (k := 3) rfl (n_inc _) (by decide) rfl (fun ls hl => ?_)
          refine lv_goto (tgt := 9) hx hb dX0_groupsWith_58 (by decide) ?_
          exact ih (f + 1) _ ls (by omega) (by omega) (by rw [hacc, fb_ct_succ, show grpB C (lb x) f = true from (by unfold grpB; rw [decide_eq_true c35, decide_eq_true ((GI_meet hC hG c20).mp c48)]; rfl)]; rfl) (lv_sub hl [2, 3, 1, 0] rfl)
set_option maxHeartbeats 4000000 in
set_option maxRecDepth 100000 in
/-- groupsWith(x) -/
theorem metX0_groupsWith (l : Launch) (D : va_G) (di dj : ClassId) (h : Nat → Nat) (hD : xD h) (C : Cfg) (dv : Int32) (nt : Nat) (lf lh : Int64) (gr : Nat) (wo st an lk : Nat → Int64) (hC : CW C) (hG : gr = 0 ∨ gr = 1 ∧ GI C lh lk) (x : Int64) : Met l yX0_groupsWith (ws_ yX0_groupsWith cX0_groupsWith 5 (some .int)) rmX0_groupsWith (GPc D (tyX di dj) h [.long x] (wX di dj h (C, dv, nt, lf, lh, gr, wo, st, an, lk))) (GQi D h (wX di dj h) (fun r u => r = nI (fb_ct (grpB C (lb x)) (kf C)) ∧ XK C dv nt lf u)) 0 0 (xB h) := by
  refine g_met (own := RX0) rfl (by decide) hD (Nat.le_of_ble_eq_true rfl) ?_
  intro p e s m args below meth c ls K hr hlk w hl
  obtain ⟨hx, hb, hml, hown, hts, hK, -⟩ := id K
  have hR : rmX0_groupsWith.frames ≤ rmX0_groupsWith.frames ∧ rmX0_groupsWith.locals ≤ rmX0_groupsWith.locals := ⟨Nat.le_refl _, Nat.le_refl _⟩
  have hl : lv_has ls 5 [(0, .ref (h 0)), (1, .long x)] := hl
  refine lv_aload_n hx hb dX0_groupsWith_0 rfl (lv_at hl 0 rfl) ?_
  refine g_callv (ci := 0) (q := (RX0, TX0, 15)) (rest := []) K w (metX0_group l D di dj h hD C dv nt lf lh gr wo st an lk hC hG) (cwX0_X0_group hts ⟨Nat.le_trans (by decide) hR.1, Nat.le_trans (by decide) hR.2⟩) rfl rfl rfl hl.1 rfl (Nat.le_of_ble_eq_true rfl) dX0_groupsWith_1 ⟨Nat.zero_le _, Nat.zero_le _⟩ (fun u H locs hp w => ?_)
  obtain ⟨lh1, wo1, st1, an1, lk1, rfl, hG1⟩ := hp
  refine lv_iconst (v := nI 0) hx hb dX0_groupsWith_4 (by decide) ?_
  refine lv_istore_n (lv' := [(3, .int (nI 0)), (0, .ref (h 0)), (1, .long x)]) hx hb dX0_groupsWith_5 rfl hl (by decide) rfl (fun ls hl => ?_)
  refine lv_iconst (v := nI 0) hx hb dX0_groupsWith_6 (by decide) ?_
  refine lv_istore (lv' := [(4, .int (nI 0)), (3, .int (nI 0)), (0, .ref (h 0)), (1, .long x)]) hx hb dX0_groupsWith_7 hl (by decide) rfl (fun ls hl => ?_)
  refine lpX0_groupsWith K hR hC hG1 w (fun ls hl => ?_) (2 * (7 + cg C) + 1) 0 0 ls (by omega) (by omega) rfl (lv_sub hl [2, 3, 1, 0] rfl)
  refine lv_iload_n hx hb dX0_groupsWith_61 rfl (lv_at hl 0 rfl) ?_
  exact W.iret (v := (nI (fb_ct (grpB C (lb x)) (2 * (7 + cg C))))) hx hb hr (fun t ht hW => ⟨⟨_, (C, dv, nt, lf, lh1, 1, wo1, st1, an1, lk1), rfl, ⟨rfl, ⟨lh1, 1, wo1, st1, an1, lk1, rfl, Or.inr ⟨rfl, hG1⟩⟩⟩, (by show va_P D vwCl _ t.heap; rw [ht]; exact w.1)⟩, w.2.F ht⟩) w.2.2.2 dX0_groupsWith_62
set_option maxHeartbeats 4000000 in
set_option maxRecDepth 100000 in
/-- X0_groups -/
theorem metX0_groups (l : Launch) (D : va_G) (di dj : ClassId) (h : Nat → Nat) (hD : xD h) (C : Cfg) (dv : Int32) (nt : Nat) (lf lh : Int64) (gr : Nat) (wo st an lk : Nat → Int64) (hC : CW C) (hG : gr = 0 ∨ gr = 1 ∧ GI C lh lk)  : Met l yX0_groups (ws_ yX0_groups cX0_groups 1 (some .int)) rmX0_groups (GPc D (tyX di dj) h [] (wX di dj h (C, dv, nt, lf, lh, gr, wo, st, an, lk))) (GQi D h (wX di dj h) (fun r u => r = nI (fb_ct (grpB C (lb (-1))) (kf C)) ∧ XK C dv nt lf u)) 0 0 (xB h) := by
  refine g_met (own := RX0) rfl (by decide) hD (Nat.le_of_ble_eq_true rfl) ?_
  intro p e s m args below meth c ls K hr hlk w hl
  obtain ⟨hx, hb, hml, hown, hts, hK, -⟩ := id K
  have hR : rmX0_groups.frames ≤ rmX0_groups.frames ∧ rmX0_groups.locals ≤ rmX0_groups.locals := ⟨Nat.le_refl _, Nat.le_refl _⟩
  have hl : lv_has ls 1 [(0, .ref (h 0))] := hl
  refine lv_aload_n hx hb dX0_groups_0 rfl (lv_at hl 0 rfl) ?_
  refine lv_ldc2 hx hb hown (hts _ q37) dX0_groups_1 ?_
  refine g_calli (ci := 0) (q := (RX0, TX0, 15)) (rest := []) K w (metX0_groupsWith l D di dj h hD C dv nt lf lh gr wo st an lk hC hG (-1)) (cwX0_X0_groupsWith hts ⟨Nat.le_trans (by decide) hR.1, Nat.le_trans (by decide) hR.2⟩) rfl rfl rfl hl.1 rfl (Nat.le_of_ble_eq_true rfl) dX0_groups_4 ⟨Nat.zero_le _, Nat.zero_le _⟩ (fun r u H locs hp w => ?_)
  exact W.iret (v := r) hx hb hr (fun t ht hW => ⟨⟨_, u, rfl, hp, (by show va_P D vwCl _ t.heap; rw [ht]; exact w.1)⟩, w.2.F ht⟩) w.2.2.2 dX0_groups_7
set_option maxHeartbeats 4000000 in
set_option maxRecDepth 100000 in
/-- X0_candidateGroups -/
theorem metX0_candidateGroups (l : Launch) (D : va_G) (di dj : ClassId) (h : Nat → Nat) (hD : xD h) (C : Cfg) (dv : Int32) (nt : Nat) (lf lh : Int64) (gr : Nat) (wo st an lk : Nat → Int64) (hC : CW C) (hG : gr = 0 ∨ gr = 1 ∧ GI C lh lk)  : Met l yX0_candidateGroups (ws_ yX0_candidateGroups cX0_candidateGroups 1 (some .int)) rmX0_candidateGroups (GPc D (tyX di dj) h [] (wX di dj h (C, dv, nt, lf, lh, gr, wo, st, an, lk))) (GQi D h (wX di dj h) (fun r u => r = nI (fb_ct (grpB C (lb lf)) (kf C)) ∧ XK C dv nt lf u)) 0 0 (xB h) := by
  refine g_met (own := RX0) rfl (by decide) hD (Nat.le_of_ble_eq_true rfl) ?_
  intro p e s m args below meth c ls K hr hlk w hl
  obtain ⟨hx, hb, hml, hown, hts, hK, -⟩ := id K
  have hR : rmX0_candidateGroups.frames ≤ rmX0_candidateGroups.frames ∧ rmX0_candidateGroups.locals ≤ rmX0_candidateGroups.locals := ⟨Nat.le_refl _, Nat.le_refl _⟩
  have hl : lv_has ls 1 [(0, .ref (h 0))] := hl
  refine lv_aload_n hx hb dX0_candidateGroups_0 rfl (lv_at hl 0 rfl) ?_
  refine lv_aload_n hx hb dX0_candidateGroups_1 rfl (lv_at hl 0 rfl) ?_
  refine xg_left K w dX0_candidateGroups_2 ?_
  refine g_calli (ci := 0) (q := (RX0, TX0, 15)) (rest := []) K w (metX0_groupsWith l D di dj h hD C dv nt lf lh gr wo st an lk hC hG lf) (cwX0_X0_groupsWith hts ⟨Nat.le_trans (by decide) hR.1, Nat.le_trans (by decide) hR.2⟩) rfl rfl rfl hl.1 rfl (Nat.le_of_ble_eq_true rfl) dX0_candidateGroups_5 ⟨Nat.zero_le _, Nat.zero_le _⟩ (fun r u H locs hp w => ?_)
  exact W.iret (v := r) hx hb hr (fun t ht hW => ⟨⟨_, u, rfl, hp, (by show va_P D vwCl _ t.heap; rw [ht]; exact w.1)⟩, w.2.F ht⟩) w.2.2.2 dX0_candidateGroups_8
set_option maxHeartbeats 4000000 in
set_option maxRecDepth 100000 in
/-- hidden() -/
theorem metX0_hidden (l : Launch) (D : va_G) (di dj : ClassId) (h : Nat → Nat) (hD : xD h) (C : Cfg) (dv : Int32) (nt : Nat) (lf lh : Int64) (gr : Nat) (wo st an lk : Nat → Int64) (hC : CW C) (hG : gr = 0 ∨ gr = 1 ∧ GI C lh lk)  : Met l yX0_hidden (ws_ yX0_hidden cX0_hidden 1 (some .int)) rmX0_hidden (GPc D (tyX di dj) h [] (wX di dj h (C, dv, nt, lf, lh, gr, wo, st, an, lk))) (GQi D h (wX di dj h) (fun r u => r = nI (fb_ct (fun j => alB C 63 j) (kf C)) ∧ XK C dv nt lf u)) 0 0 (xB h) := by
  refine g_met (own := RX0) rfl (by decide) hD (Nat.le_of_ble_eq_true rfl) ?_
  intro p e s m args below meth c ls K hr hlk w hl
  obtain ⟨hx, hb, hml, hown, hts, hK, -⟩ := id K
  have hR : rmX0_hidden.frames ≤ rmX0_hidden.frames ∧ rmX0_hidden.locals ≤ rmX0_hidden.locals := ⟨Nat.le_refl _, Nat.le_refl _⟩
  have hl : lv_has ls 1 [(0, .ref (h 0))] := hl
  refine lv_aload_n hx hb dX0_hidden_0 rfl (lv_at hl 0 rfl) ?_
  refine g_callv (ci := 0) (q := (RX0, TX0, 15)) (rest := []) K w (metX0_group l D di dj h hD C dv nt lf lh gr wo st an lk hC hG) (cwX0_X0_group hts ⟨Nat.le_trans (by decide) hR.1, Nat.le_trans (by decide) hR.2⟩) rfl rfl rfl hl.1 rfl (Nat.le_of_ble_eq_true rfl) dX0_hidden_1 ⟨Nat.zero_le _, Nat.zero_le _⟩ (fun u H locs hp w => ?_)
  obtain ⟨lh1, wo1, st1, an1, lk1, rfl, hG1⟩ := hp
  refine lv_aload_n hx hb dX0_hidden_4 rfl (lv_at hl 0 rfl) ?_
  refine xg_likeHealthy K w dX0_hidden_5 ?_
  refine lv_aload_n hx hb dX0_hidden_8 rfl (lv_at hl 0 rfl) ?_
  refine g_readl (ci := 0) (q := (RX0, TX0, 15)) (rest := [.long lh1]) K w (metX0_faults l D di dj h hD C dv nt lf lh1 1 wo1 st1 an1 lk1 hC) (cwX0_X0_faults hts ⟨Nat.le_trans (by decide) hR.1, Nat.le_trans (by decide) hR.2⟩) rfl rfl rfl hl.1 rfl (Nat.le_of_ble_eq_true rfl) dX0_hidden_9 ⟨Nat.zero_le _, Nat.zero_le _⟩ (fun r1 hr1 => ?_)
  refine lv_land hx hb dX0_hidden_12 ?_
  refine s_calli (rest := []) K.sc (metX0_ones l (lh1 &&& r1)) (cwX0_X0_ones hts ⟨Nat.le_trans (by decide) hR.1, Nat.le_trans (by decide) hR.2⟩) rfl hl.1 rfl (Nat.le_of_ble_eq_true rfl) dX0_hidden_13 ⟨Nat.zero_le _, Nat.zero_le _⟩ (fun r2 hr2 => ?_)
  exact W.iret (v := r2) hx hb hr (fun t ht hW => ⟨⟨_, (C, dv, nt, lf, lh1, 1, wo1, st1, an1, lk1), rfl, ⟨(by rw [hr2, ct_mask (by have := hC.1; omega) hr1, fb_ct_cong (fun k hk => GI_lh hG1 (by have := hC.1; omega))]), ⟨lh1, 1, wo1, st1, an1, lk1, rfl, Or.inr ⟨rfl, hG1⟩⟩⟩, (by show va_P D vwCl _ t.heap; rw [ht]; exact w.1)⟩, w.2.F ht⟩) w.2.2.2 dX0_hidden_16
set_option maxHeartbeats 4000000 in
set_option maxRecDepth 100000 in
/-- leader(a) -/
theorem metX0_leader (l : Launch) (D : va_G) (di dj : ClassId) (h : Nat → Nat) (hD : xD h) (C : Cfg) (dv : Int32) (nt : Nat) (lf lh : Int64) (gr : Nat) (wo st an lk : Nat → Int64) (hC : CW C) (hG : gr = 0 ∨ gr = 1 ∧ GI C lh lk) (a : Int32) : Met l yX0_leader (ws_ yX0_leader cX0_leader 2 (some .int)) rmX0_leader (GPc D (tyX di dj) h [.int a] (wX di dj h (C, dv, nt, lf, lh, gr, wo, st, an, lk))) (GQi D h (wX di dj h) (fun r u => Rlead C a r ∧ XK C dv nt lf u)) 0 0 (xB h) := by
  refine g_met (own := RX0) rfl (by decide) hD (Nat.le_of_ble_eq_true rfl) ?_
  intro p e s m args below meth c ls K hr hlk w hl
  obtain ⟨hx, hb, hml, hown, hts, hK, -⟩ := id K
  have hR : rmX0_leader.frames ≤ rmX0_leader.frames ∧ rmX0_leader.locals ≤ rmX0_leader.locals := ⟨Nat.le_refl _, Nat.le_refl _⟩
  have hl : lv_has ls 2 [(0, .ref (h 0)), (1, .int a)] := hl
  have hg := hC.1
  refine lv_aload_n hx hb dX0_leader_0 rfl (lv_at hl 0 rfl) ?_
  refine lv_iload_n hx hb dX0_leader_1 rfl (lv_at hl 1 rfl) ?_
  refine g_readi (ci := 0) (q := (RX0, TX0, 15)) (rest := []) K w (metX0_isFault l D di dj h hD C dv nt lf lh gr wo st an lk hC a) (cwX0_X0_isFault hts ⟨Nat.le_trans (by decide) hR.1, Nat.le_trans (by decide) hR.2⟩) rfl rfl rfl hl.1 rfl (Nat.le_of_ble_eq_true rfl) dX0_leader_2 ⟨Nat.zero_le _, Nat.zero_le _⟩ (fun rb hf1 => ?_)
  rcases hf1 with ⟨rfl, hf1⟩ | ⟨rfl, hf1⟩
  · obtain ⟨f, hf, rfl⟩ := hf1
    refine n_ifne1 (tgt := 10) hx hb dX0_leader_5 (by decide) ?_
    refine lv_aload_n hx hb dX0_leader_10 rfl (lv_at hl 0 rfl) ?_
    refine g_callv (ci := 0) (q := (RX0, TX0, 15)) (rest := []) K w (metX0_group l D di dj h hD C dv nt lf lh gr wo st an lk hC hG) (cwX0_X0_group hts ⟨Nat.le_trans (by decide) hR.1, Nat.le_trans (by decide) hR.2⟩) rfl rfl rfl hl.1 rfl (Nat.le_of_ble_eq_true rfl) dX0_leader_11 ⟨Nat.zero_le _, Nat.zero_le _⟩ (fun u H locs hp w => ?_)
    obtain ⟨lh1, wo1, st1, an1, lk1, rfl, hG1⟩ := hp
    refine lv_aload_n hx hb dX0_leader_14 rfl (lv_at hl 0 rfl) ?_
    refine xg_like K w dX0_leader_15 ?_
    refine lv_iload_n hx hb dX0_leader_18 rfl (lv_at hl 1 rfl) ?_
    refine xl_like (k := f) K w (by omega) dX0_leader_19 ?_
    refine s_calli (rest := []) K.sc (metX0_lowest l (lk1 f) (ear C f) (GI_low hC hG1 hf).1 (GI_low hC hG1 hf).2.1 (GI_low hC hG1 hf).2.2) (cwX0_X0_lowest hts ⟨Nat.le_trans (by decide) hR.1, Nat.le_trans (by decide) hR.2⟩) rfl hl.1 rfl (Nat.le_of_ble_eq_true rfl) dX0_leader_20 ⟨Nat.zero_le _, Nat.zero_le _⟩ (fun r3 hr3 => ?_)
    subst hr3
    exact W.iret (v := (nI (ear C f))) hx hb hr (fun t ht hW => ⟨⟨_, (C, dv, nt, lf, lh1, 1, wo1, st1, an1, lk1), rfl, ⟨Or.inr ⟨f, hf, rfl, rfl⟩, ⟨lh1, 1, wo1, st1, an1, lk1, rfl, Or.inr ⟨rfl, hG1⟩⟩⟩, (by show va_P D vwCl _ t.heap; rw [ht]; exact w.1)⟩, w.2.F ht⟩) w.2.2.2 dX0_leader_23
  · refine n_ifne0 (tgt := 10) hx hb dX0_leader_5 (by decide) ?_
    refine lv_iconst (v := -1) hx hb dX0_leader_8 (by decide) ?_
    exact W.iret (v := (-1)) hx hb hr (fun t ht hW => ⟨⟨_, (C, dv, nt, lf, lh, gr, wo, st, an, lk), rfl, ⟨Or.inl ⟨hf1, rfl⟩, ⟨lh, gr, wo, st, an, lk, rfl, hG⟩⟩, (by show va_P D vwCl _ t.heap; rw [ht]; exact w.1)⟩, w.2.F ht⟩) w.2.2.2 dX0_leader_9
end
end
section
/-! the component: response, responseWith, detected, nextPattern, observe -/
set_option maxRecDepth 100000
theorem det_0 {ot : Int64} {an : Nat → Int64} {b : Nat} (h : ∀ j, j < 64 → (lb ot j = true ↔ ∃ i, i < b ∧ lb (an i) j ≠ lb (an i) 63)) (hz : lb (an b) 63 = false) : ∀ j, j < 64 → (lb (ot ||| an b) j = true ↔ ∃ i, i < b + 1 ∧ lb (an i) j ≠ lb (an i) 63) := by
  intro j hj
  rw [lb_or, Bool.or_eq_true, h j hj]
  constructor
  · rintro (⟨i, hi, h1⟩ | h1)
    · exact ⟨i, by omega, h1⟩
    · exact ⟨b, by omega, by rw [h1, hz]; decide⟩
  · rintro ⟨i, hi, h1⟩
    rcases Nat.lt_or_ge i b with q | q
    · exact Or.inl ⟨i, q, h1⟩
    · obtain rfl : i = b := by omega
      right
      rw [hz] at h1
      cases e : lb (an i) j
      · exact absurd e h1
      · rfl
theorem det_1 {ot : Int64} {an : Nat → Int64} {b : Nat} (h : ∀ j, j < 64 → (lb ot j = true ↔ ∃ i, i < b ∧ lb (an i) j ≠ lb (an i) 63)) (hz : lb (an b) 63 = true) : ∀ j, j < 64 → (lb (ot ||| (an b ^^^ (-1))) j = true ↔ ∃ i, i < b + 1 ∧ lb (an i) j ≠ lb (an i) 63) := by
  intro j hj
  rw [lb_or, Bool.or_eq_true, h j hj, lb_not _ hj]
  constructor
  · rintro (⟨i, hi, h1⟩ | h1)
    · exact ⟨i, by omega, h1⟩
    · refine ⟨b, by omega, ?_⟩
      rw [hz]
      intro e
      rw [e] at h1
      cases h1
  · rintro ⟨i, hi, h1⟩
    rcases Nat.lt_or_ge i b with q | q
    · exact Or.inl ⟨i, q, h1⟩
    · obtain rfl : i = b := by omega
      right
      rw [hz] at h1
      cases e : lb (an i) j
      · rfl
      · exact absurd e h1
theorem det_end {C : Cfg} {ot r : Int64} {an : Nat → Int64} {x y : Nat} (hC : CW C) (h : ∀ j, j < 64 → (lb ot j = true ↔ ∃ i, i < 5 ∧ lb (an i) j ≠ lb (an i) 63)) (han : ∀ b, b < 5 → ∀ j, j < 64 → lb (an b) j = ansB C j x y b) (hr : ∀ j, j < 64 → lb r j = decide (j < 2 * (7 + cg C))) : fb_ct (lb (ot &&& r)) 64 = detN C x y := by
  have hg := hC.1
  rw [ct_mask (by omega) hr]
  refine fb_ct_cong (fun k hk => ?_)
  rw [Bool.eq_iff_iff, h k (by omega), decide_eq_true_iff]
  constructor
  · rintro ⟨i, hi, h1⟩ e
    apply h1
    rw [han i hi k (by omega), han i hi 63 (by decide)]
    exact (ansN_eq C k 63 x y).mp e i hi
  · intro hne
    apply Classical.byContradiction
    intro hc
    apply hne
    refine (ansN_eq C k 63 x y).mpr fun i hi => ?_
    rw [← han i hi k (by omega), ← han i hi 63 (by decide)]
    exact Classical.byContradiction fun z => hc ⟨i, hi, z⟩
/-- observe: what is left after b bits -/
def OI (lf0 lf : Int64) (an : Nat → Int64) (d b : Nat) : Prop := ∀ j, j < 64 → (lb lf j = true ↔ (lb lf0 j = true ∧ ∀ i, i < b → lb (an i) j = lb (an i) d))
theorem OI_step {lf0 lf v : Int64} {an : Nat → Int64} {d b : Nat} (h : OI lf0 lf an d b) (hv : ∀ j, j < 64 → (lb v j = true ↔ lb (an b) j = lb (an b) d)) : OI lf0 (lf &&& v) an d (b + 1) := by
  intro j hj
  rw [lb_and, Bool.and_eq_true, h j hj, hv j hj]
  constructor
  · rintro ⟨⟨a1, a2⟩, a3⟩
    exact ⟨a1, lt_s a2 a3⟩
  · rintro ⟨a1, a2⟩
    exact ⟨⟨a1, fun i hi => a2 i (by omega)⟩, a2 b (by omega)⟩
theorem OI_v1 {x : Int64} {d : Nat} (h : (lb x d).toNat = 1) : ∀ j, j < 64 → (lb x j = true ↔ lb x j = lb x d) := fun j hj => by
  cases e : lb x d
  · rw [e] at h; exact absurd h (by decide)
  · exact Iff.rfl
theorem OI_v0 {x : Int64} {d : Nat} (h : (lb x d).toNat ≠ 1) : ∀ j, j < 64 → (lb (x ^^^ (-1)) j = true ↔ lb x j = lb x d) := fun j hj => by
  rw [lb_not x hj]
  cases e : lb x d
  · cases lb x j <;> decide
  · rw [e] at h; exact absurd rfl h
theorem OI_end {C : Cfg} {lf0 lf : Int64} {an : Nat → Int64} {d x y : Nat} (hd : d < 64) (h : OI lf0 lf an d 5) (han : ∀ b, b < 5 → ∀ j, j < 64 → lb (an b) j = ansB C j x y b) : ∀ j, j < 64 → lb lf j = (lb lf0 j && decide (ansN C j x y = ansN C d x y)) := by
  intro j hj
  rw [Bool.eq_iff_iff, h j hj, Bool.and_eq_true, decide_eq_true_iff, ansN_eq]
  constructor
  · rintro ⟨a1, a2⟩
    exact ⟨a1, fun b hb => by rw [← han b hb j hj, ← han b hb d hd]; exact a2 b hb⟩
  · rintro ⟨a1, a2⟩
    exact ⟨a1, fun b hb => by rw [han b hb j hj, han b hb d hd]; exact a2 b hb⟩
theorem s5_of {C : Cfg} {an : Nat → Int64} {d x y : Nat} (hd : d < 64) (han : ∀ b, b < 5 → ∀ j, j < 64 → lb (an b) j = ansB C j x y b) : s5 (fun k => lb (an k) d) = ansN C d x y := s5_cong (fun b hb => han b hb d hd)
theorem dev_pos {C : Cfg} {dv : Int32} {d : Nat} (h : FJ C dv d) (h0 : 0 ≤ dv) : dv = nI d := by
  rcases h with ⟨e, -⟩ | ⟨e, -⟩
  · rw [e] at h0; exact absurd h0 (by decide)
  · exact e
theorem dev_neg {C : Cfg} {dv : Int32} {d : Nat} (hC : CW C) (h : FJ C dv d) (h0 : ¬ 0 ≤ dv) : nI 63 = nI d := by
  have := hC.1
  rcases h with ⟨-, e⟩ | ⟨e, h1⟩
  · rw [e]
  · exact absurd (by rw [e]; exact nI_pos' (by omega)) h0
section
variable {p : Program} {l : Launch} {e : Env} {R : Room} {s : State} {m : MethodId} {args : Array Value} {below : List Frame} {meth : Method} {c : Code} {Q : State → Prop} {D : va_G} {di dj : ClassId} {h : Nat → Nat}
set_option maxHeartbeats 4000000 in
set_option maxRecDepth 100000 in
/-- response(a, b) -/
theorem metX0_response (l : Launch) (D : va_G) (di dj : ClassId) (h : Nat → Nat) (hD : xD h) (C : Cfg) (dv : Int32) (nt : Nat) (lf lh : Int64) (gr : Nat) (wo st an lk : Nat → Int64) (hC : CW C) (hG : gr = 0 ∨ gr = 1 ∧ GI C lh lk) (a b : Int32) : Met l yX0_response (ws_ yX0_response cX0_response 3 (some .int)) rmX0_response (GPc D (tyX di dj) h [.int a, .int b] (wX di dj h (C, dv, nt, lf, lh, gr, wo, st, an, lk))) (GQi D h (wX di dj h) (fun r u => Rask (ansN C 63) a b r ∧ XK C dv nt lf u)) 0 0 (xB h) := by
  refine g_met (own := RX0) rfl (by decide) hD (Nat.le_of_ble_eq_true rfl) ?_
  intro p e s m args below meth c ls K hr hlk w hl
  obtain ⟨hx, hb, hml, hown, hts, hK, -⟩ := id K
  have hR : rmX0_response.frames ≤ rmX0_response.frames ∧ rmX0_response.locals ≤ rmX0_response.locals := ⟨Nat.le_refl _, Nat.le_refl _⟩
  have hl : lv_has ls 3 [(0, .ref (h 0)), (1, .int a), (2, .int b)] := hl
  refine lv_iload_n hx hb dX0_response_0 rfl (lv_at hl 1 rfl) ?_
  refine s_calli (rest := []) K.sc (metX0_isPattern l a) (cwX0_X0_isPattern hts ⟨Nat.le_trans (by decide) hR.1, Nat.le_trans (by decide) hR.2⟩) rfl hl.1 rfl (Nat.le_of_ble_eq_true rfl) dX0_response_1 ⟨Nat.zero_le _, Nat.zero_le _⟩ (fun rb hp1 => ?_)
  rcases hp1 with ⟨rfl, hp1⟩ | ⟨rfl, hp1⟩
  · obtain ⟨x, hx9, rfl⟩ := hp1
    refine n_ifne1 (tgt := 9) hx hb dX0_response_4 (by decide) ?_
    refine lv_iload_n hx hb dX0_response_9 rfl (lv_at hl 2 rfl) ?_
    refine s_calli (rest := []) K.sc (metX0_isCycles l b) (cwX0_X0_isCycles hts ⟨Nat.le_trans (by decide) hR.1, Nat.le_trans (by decide) hR.2⟩) rfl hl.1 rfl (Nat.le_of_ble_eq_true rfl) dX0_response_10 ⟨Nat.zero_le _, Nat.zero_le _⟩ (fun rb hp2 => ?_)
    rcases hp2 with ⟨rfl, hp2⟩ | ⟨rfl, hp2⟩
    · obtain ⟨y, hy1, hy2, rfl⟩ := hp2
      refine n_ifne1 (tgt := 19) hx hb dX0_response_13 (by decide) ?_
      refine lv_aload_n hx hb dX0_response_19 rfl (lv_at hl 0 rfl) ?_
      refine lv_iload_n hx hb dX0_response_20 rfl (lv_at hl 1 rfl) ?_
      refine lv_iload_n hx hb dX0_response_21 rfl (lv_at hl 2 rfl) ?_
      refine g_callv (ci := 0) (q := (RX0, TX0, 15)) (rest := []) K w (metX0_runAll l D di dj h hD C dv nt lf lh gr wo st an lk hC x y hx9 hy1 hy2) (cwX0_X0_runAll hts ⟨Nat.le_trans (by decide) hR.1, Nat.le_trans (by decide) hR.2⟩) rfl rfl rfl hl.1 rfl (Nat.le_of_ble_eq_true rfl) dX0_response_22 ⟨Nat.zero_le _, Nat.zero_le _⟩ (fun u H locs hp w => ?_)
      obtain ⟨wo1, st1, an1, rfl, han⟩ := hp
      refine lv_aload_n hx hb dX0_response_25 rfl (lv_at hl 0 rfl) ?_
      refine lv_bipush (v := nI 63) hx hb dX0_response_26 (by decide) ?_
      refine g_readi (ci := 0) (q := (RX0, TX0, 15)) (rest := []) K w (metX0_answerOf l D di dj h hD C dv nt lf lh gr wo1 st1 an1 lk 63 (by decide)) (cwX0_X0_answerOf hts ⟨Nat.le_trans (by decide) hR.1, Nat.le_trans (by decide) hR.2⟩) rfl rfl rfl hl.1 rfl (Nat.le_of_ble_eq_true rfl) dX0_response_28 ⟨Nat.zero_le _, Nat.zero_le _⟩ (fun r1 hr1 => ?_)
      rw [s5_of (by decide) han] at hr1
      subst hr1
      exact W.iret (v := (nI (ansN C 63 x y))) hx hb hr (fun t ht hW => ⟨⟨_, (C, dv, nt, lf, lh, gr, wo1, st1, an1, lk), rfl, ⟨Or.inr (Or.inr ⟨x, y, hx9, hy1, hy2, rfl, rfl, rfl⟩), ⟨lh, gr, wo1, st1, an1, lk, rfl, hG⟩⟩, (by show va_P D vwCl _ t.heap; rw [ht]; exact w.1)⟩, w.2.F ht⟩) w.2.2.2 dX0_response_31
    · refine n_ifne0 (tgt := 19) hx hb dX0_response_13 (by decide) ?_
      refine lv_bipush (v := -2) hx hb dX0_response_16 (by decide) ?_
      exact W.iret (v := (-2)) hx hb hr (fun t ht hW => ⟨⟨_, (C, dv, nt, lf, lh, gr, wo, st, an, lk), rfl, ⟨Or.inr (Or.inl ⟨⟨x, hx9, rfl⟩, hp2, rfl⟩), ⟨lh, gr, wo, st, an, lk, rfl, hG⟩⟩, (by show va_P D vwCl _ t.heap; rw [ht]; exact w.1)⟩, w.2.F ht⟩) w.2.2.2 dX0_response_18
  · refine n_ifne0 (tgt := 9) hx hb dX0_response_4 (by decide) ?_
    refine lv_iconst (v := -1) hx hb dX0_response_7 (by decide) ?_
    exact W.iret (v := (-1)) hx hb hr (fun t ht hW => ⟨⟨_, (C, dv, nt, lf, lh, gr, wo, st, an, lk), rfl, ⟨Or.inl ⟨hp1, rfl⟩, ⟨lh, gr, wo, st, an, lk, rfl, hG⟩⟩, (by show va_P D vwCl _ t.heap; rw [ht]; exact w.1)⟩, w.2.F ht⟩) w.2.2.2 dX0_response_8
set_option maxHeartbeats 4000000 in
set_option maxRecDepth 100000 in
/-- responseWith(f, a, b) -/
theorem metX0_responseWith (l : Launch) (D : va_G) (di dj : ClassId) (h : Nat → Nat) (hD : xD h) (C : Cfg) (dv : Int32) (nt : Nat) (lf lh : Int64) (gr : Nat) (wo st an lk : Nat → Int64) (hC : CW C) (hG : gr = 0 ∨ gr = 1 ∧ GI C lh lk) (f a b : Int32) : Met l yX0_responseWith (ws_ yX0_responseWith cX0_responseWith 4 (some .int)) rmX0_responseWith (GPc D (tyX di dj) h [.int f, .int a, .int b] (wX di dj h (C, dv, nt, lf, lh, gr, wo, st, an, lk))) (GQi D h (wX di dj h) (fun r u => RaskF C f a b r ∧ XK C dv nt lf u)) 0 0 (xB h) := by
  refine g_met (own := RX0) rfl (by decide) hD (Nat.le_of_ble_eq_true rfl) ?_
  intro p e s m args below meth c ls K hr hlk w hl
  obtain ⟨hx, hb, hml, hown, hts, hK, -⟩ := id K
  have hR : rmX0_responseWith.frames ≤ rmX0_responseWith.frames ∧ rmX0_responseWith.locals ≤ rmX0_responseWith.locals := ⟨Nat.le_refl _, Nat.le_refl _⟩
  have hl : lv_has ls 4 [(0, .ref (h 0)), (1, .int f), (2, .int a), (3, .int b)] := hl
  have hg := hC.1
  refine lv_aload_n hx hb dX0_responseWith_0 rfl (lv_at hl 0 rfl) ?_
  refine lv_iload_n hx hb dX0_responseWith_1 rfl (lv_at hl 1 rfl) ?_
  refine g_readi (ci := 0) (q := (RX0, TX0, 15)) (rest := []) K w (metX0_isFault l D di dj h hD C dv nt lf lh gr wo st an lk hC f) (cwX0_X0_isFault hts ⟨Nat.le_trans (by decide) hR.1, Nat.le_trans (by decide) hR.2⟩) rfl rfl rfl hl.1 rfl (Nat.le_of_ble_eq_true rfl) dX0_responseWith_2 ⟨Nat.zero_le _, Nat.zero_le _⟩ (fun rb hf1 => ?_)
  rcases hf1 with ⟨rfl, hf1⟩ | ⟨rfl, hf1⟩
  · obtain ⟨j, hj, rfl⟩ := hf1
    refine n_ifne1 (tgt := 10) hx hb dX0_responseWith_5 (by decide) ?_
    refine lv_iload_n hx hb dX0_responseWith_10 rfl (lv_at hl 2 rfl) ?_
    refine s_calli (rest := []) K.sc (metX0_isPattern l a) (cwX0_X0_isPattern hts ⟨Nat.le_trans (by decide) hR.1, Nat.le_trans (by decide) hR.2⟩) rfl hl.1 rfl (Nat.le_of_ble_eq_true rfl) dX0_responseWith_11 ⟨Nat.zero_le _, Nat.zero_le _⟩ (fun rb hp1 => ?_)
    rcases hp1 with ⟨rfl, hp1⟩ | ⟨rfl, hp1⟩
    · obtain ⟨x, hx9, rfl⟩ := hp1
      refine n_ifne1 (tgt := 20) hx hb dX0_responseWith_14 (by decide) ?_
      refine lv_iload_n hx hb dX0_responseWith_20 rfl (lv_at hl 3 rfl) ?_
      refine s_calli (rest := []) K.sc (metX0_isCycles l b) (cwX0_X0_isCycles hts ⟨Nat.le_trans (by decide) hR.1, Nat.le_trans (by decide) hR.2⟩) rfl hl.1 rfl (Nat.le_of_ble_eq_true rfl) dX0_responseWith_21 ⟨Nat.zero_le _, Nat.zero_le _⟩ (fun rb hp2 => ?_)
      rcases hp2 with ⟨rfl, hp2⟩ | ⟨rfl, hp2⟩
      · obtain ⟨y, hy1, hy2, rfl⟩ := hp2
        refine n_ifne1 (tgt := 30) hx hb dX0_responseWith_24 (by decide) ?_
        refine lv_aload_n hx hb dX0_responseWith_30 rfl (lv_at hl 0 rfl) ?_
        refine lv_iload_n hx hb dX0_responseWith_31 rfl (lv_at hl 2 rfl) ?_
        refine lv_iload_n hx hb dX0_responseWith_32 rfl (lv_at hl 3 rfl) ?_
        refine g_callv (ci := 0) (q := (RX0, TX0, 15)) (rest := []) K w (metX0_runAll l D di dj h hD C dv nt lf lh gr wo st an lk hC x y hx9 hy1 hy2) (cwX0_X0_runAll hts ⟨Nat.le_trans (by decide) hR.1, Nat.le_trans (by decide) hR.2⟩) rfl rfl rfl hl.1 rfl (Nat.le_of_ble_eq_true rfl) dX0_responseWith_33 ⟨Nat.zero_le _, Nat.zero_le _⟩ (fun u H locs hp w => ?_)
        obtain ⟨wo1, st1, an1, rfl, han⟩ := hp
        refine lv_aload_n hx hb dX0_responseWith_36 rfl (lv_at hl 0 rfl) ?_
        refine lv_iload_n hx hb dX0_responseWith_37 rfl (lv_at hl 1 rfl) ?_
        refine g_readi (ci := 0) (q := (RX0, TX0, 15)) (rest := []) K w (metX0_answerOf l D di dj h hD C dv nt lf lh gr wo1 st1 an1 lk j (by omega)) (cwX0_X0_answerOf hts ⟨Nat.le_trans (by decide) hR.1, Nat.le_trans (by decide) hR.2⟩) rfl rfl rfl hl.1 rfl (Nat.le_of_ble_eq_true rfl) dX0_responseWith_38 ⟨Nat.zero_le _, Nat.zero_le _⟩ (fun r1 hr1 => ?_)
        rw [s5_of (by omega) han] at hr1
        subst hr1
        exact W.iret (v := (nI (ansN C j x y))) hx hb hr (fun t ht hW => ⟨⟨_, (C, dv, nt, lf, lh, gr, wo1, st1, an1, lk), rfl, ⟨Or.inr (Or.inr (Or.inr ⟨j, x, y, hj, rfl, hx9, hy1, hy2, rfl, rfl, rfl⟩)), ⟨lh, gr, wo1, st1, an1, lk, rfl, hG⟩⟩, (by show va_P D vwCl _ t.heap; rw [ht]; exact w.1)⟩, w.2.F ht⟩) w.2.2.2 dX0_responseWith_41
      · refine n_ifne0 (tgt := 30) hx hb dX0_responseWith_24 (by decide) ?_
        refine lv_bipush (v := -3) hx hb dX0_responseWith_27 (by decide) ?_
        exact W.iret (v := (-3)) hx hb hr (fun t ht hW => ⟨⟨_, (C, dv, nt, lf, lh, gr, wo, st, an, lk), rfl, ⟨Or.inr (Or.inr (Or.inl ⟨⟨j, hj, rfl⟩, ⟨x, hx9, rfl⟩, hp2, rfl⟩)), ⟨lh, gr, wo, st, an, lk, rfl, hG⟩⟩, (by show va_P D vwCl _ t.heap; rw [ht]; exact w.1)⟩, w.2.F ht⟩) w.2.2.2 dX0_responseWith_29
    · refine n_ifne0 (tgt := 20) hx hb dX0_responseWith_14 (by decide) ?_
      refine lv_bipush (v := -2) hx hb dX0_responseWith_17 (by decide) ?_
      exact W.iret (v := (-2)) hx hb hr (fun t ht hW => ⟨⟨_, (C, dv, nt, lf, lh, gr, wo, st, an, lk), rfl, ⟨Or.inr (Or.inl ⟨⟨j, hj, rfl⟩, hp1, rfl⟩), ⟨lh, gr, wo, st, an, lk, rfl, hG⟩⟩, (by show va_P D vwCl _ t.heap; rw [ht]; exact w.1)⟩, w.2.F ht⟩) w.2.2.2 dX0_responseWith_19
  · refine n_ifne0 (tgt := 10) hx hb dX0_responseWith_5 (by decide) ?_
    refine lv_iconst (v := -1) hx hb dX0_responseWith_8 (by decide) ?_
    exact W.iret (v := (-1)) hx hb hr (fun t ht hW => ⟨⟨_, (C, dv, nt, lf, lh, gr, wo, st, an, lk), rfl, ⟨Or.inl ⟨hf1, rfl⟩, ⟨lh, gr, wo, st, an, lk, rfl, hG⟩⟩, (by show va_P D vwCl _ t.heap; rw [ht]; exact w.1)⟩, w.2.F ht⟩) w.2.2.2 dX0_responseWith_9
set_option maxHeartbeats 4000000 in
set_option maxRecDepth 100000 in
/-- detected: the bits -/
theorem lpX0_detected (K : GC p s m args c cX0_detected 6 RX0 D (tyX di dj) h) (hR : rmX0_detected.frames ≤ R.frames ∧ rmX0_detected.locals ≤ R.locals) {C : Cfg} {dv : Int32} {nt : Nat} {lf lh : Int64} {gr : Nat} {wo st an lk : Nat → Int64}  {H : Heap} {locs : List Loc} (w : GW s D h (wX di dj h (C, dv, nt, lf, lh, gr, wo, st, an, lk)) H locs)
    (kk : ∀ (ot : Int64) (ls : Array Slot), (∀ j, j < 64 → (lb ot j = true ↔ ∃ i, i < 5 ∧ lb (an i) j ≠ lb (an i) 63)) → lv_has ls 6 [(0, .ref (h 0)), (3, .long ot)] → W p l e R s m args below meth c H locs 0 0 Q (F0 m 78 ls []))
    : ∀ (n b : Nat) (ot : Int64) (ls : Array Slot), b ≤ 5 → 5 + 1 ≤ b + n → (∀ j, j < 64 → (lb ot j = true ↔ ∃ i, i < b ∧ lb (an i) j ≠ lb (an i) 63)) → lv_has ls 6 [(0, .ref (h 0)), (3, .long ot), (5, .int (nI b))] → W p l e R s m args below meth c H locs 0 0 Q (F0 m 30 ls []) := by
  obtain ⟨hx, hb, hml, hown, hts, hK, hD⟩ := id K
  intro n
  induction n with
  | zero =>
    intro b ot ls h1 h2
    exact absurd h2 (by omega)
  | succ n ih =>
    intro b ot ls h1 h2 hI hl
    refine lv_iload hx hb dX0_detected_30 (lv_at hl 2 rfl) ?_
    refine lv_iconst (v := nI 5) hx hb dX0_detected_32 (by decide) ?_
    refine n_ge (tgt := 78) hx hb dX0_detected_33 (by decide) (by omega) (by omega) (fun c33 => ?_) (fun c33 => ?_)
    · obtain rfl : b = 5 := by omega
      exact kk ot ls hI (lv_sub hl [0, 1] rfl)
    · refine lv_lload_n hx hb dX0_detected_36 rfl (lv_at hl 1 rfl) ?_
      refine lv_aload_n hx hb dX0_detected_37 rfl (lv_at hl 0 rfl) ?_
      refine xg_answers K w dX0_detected_38 ?_
      refine lv_iload hx hb dX0_detected_41 (lv_at hl 2 rfl) ?_
      refine xl_answers (k := b) K w (by omega) dX0_detected_43 ?_
      refine lv_lconst (v := 0) hx hb dX0_detected_44 (by decide) ?_
      refine n_lcmpge (tgt := 63) hx hb dX0_detected_45 dX0_detected_46 (by decide) (fun c45 => ?_) (fun c45 => ?_)
      · have hbit : lb (an b) 63 = false := Bool.eq_false_iff.mpr fun z => c45 ((lb_neg _).mpr z)
        refine lv_aload_n hx hb dX0_detected_63 rfl (lv_at hl 0 rfl) ?_
        refine xg_answers K w dX0_detected_64 ?_
        refine lv_iload hx hb dX0_detected_67 (lv_at hl 2 rfl) ?_
        refine xl_answers (k := b) K w (by omega) dX0_detected_69 ?_
        refine lv_lor hx hb dX0_detected_70 ?_
        refine lv_lstore_n (lv' := [(3, .long (ot ||| (an b))), (0, .ref (h 0)), (5, .int (nI b))]) hx hb dX0_detected_71 rfl hl (by decide) rfl (fun ls hl => ?_)
        refine lv_iinc (v := (nI (b + 1))) (lv' := [(5, .int (nI (b + 1))), (3, .long (ot ||| (an b))), (0, .ref (h 0))]) hx hb dX0_detected_72 hl (k := 2) rfl (n_inc _) (by decide) rfl (fun ls hl => ?_)
        refine lv_goto (tgt := 30) hx hb dX0_detected_75 (by decide) ?_
        exact ih (b + 1) _ ls (by omega) (by omega) (det_0 hI hbit) (lv_sub hl [2, 1, 0] rfl)
      · have hbit : lb (an b) 63 = true := (lb_neg _).mp c45
        refine lv_aload_n hx hb dX0_detected_49 rfl (lv_at hl 0 rfl) ?_
        refine xg_answers K w dX0_detected_50 ?_
        refine lv_iload hx hb dX0_detected_53 (lv_at hl 2 rfl) ?_
        refine xl_answers (k := b) K w (by omega) dX0_detected_55 ?_
        refine lv_ldc2 hx hb hown (hts _ q37) dX0_detected_56 ?_
        refine lv_lxor hx hb dX0_detected_59 ?_
        refine lv_goto (tgt := 70) hx hb dX0_detected_60 (by decide) ?_
        refine lv_lor hx hb dX0_detected_70 ?_
        refine lv_lstore_n (lv' := [(3, .long (ot ||| ((an b) ^^^ (-1)))), (0, .ref (h 0)), (5, .int (nI b))]) hx hb dX0_detected_71 rfl hl (by decide) rfl (fun ls hl => ?_)
        refine lv_iinc (v := (nI (b + 1))) (lv' := [(5, .int (nI (b + 1))), (3, .long (ot ||| ((an b) ^^^ (-1)))), (0, .ref (h 0))]) hx hb dX0_detected_72 hl (k := 2) rfl (n_inc _) (by decide) rfl (fun ls hl => ?_)
        refine lv_goto (tgt := 30) hx hb dX0_detected_75 (by decide) ?_
        exact ih (b + 1) _ ls (by omega) (by omega) (det_1 hI hbit) (lv_sub hl [2, 1, 0] rfl)
set_option maxHeartbeats 4000000 in
set_option maxRecDepth 100000 in
/-- detected(a, b) -/
theorem metX0_detected (l : Launch) (D : va_G) (di dj : ClassId) (h : Nat → Nat) (hD : xD h) (C : Cfg) (dv : Int32) (nt : Nat) (lf lh : Int64) (gr : Nat) (wo st an lk : Nat → Int64) (hC : CW C) (hG : gr = 0 ∨ gr = 1 ∧ GI C lh lk) (a b : Int32) : Met l yX0_detected (ws_ yX0_detected cX0_detected 6 (some .int)) rmX0_detected (GPc D (tyX di dj) h [.int a, .int b] (wX di dj h (C, dv, nt, lf, lh, gr, wo, st, an, lk))) (GQi D h (wX di dj h) (fun r u => Rask (detN C) a b r ∧ XK C dv nt lf u)) 0 0 (xB h) := by
  refine g_met (own := RX0) rfl (by decide) hD (Nat.le_of_ble_eq_true rfl) ?_
  intro p e s m args below meth c ls K hr hlk w hl
  obtain ⟨hx, hb, hml, hown, hts, hK, -⟩ := id K
  have hR : rmX0_detected.frames ≤ rmX0_detected.frames ∧ rmX0_detected.locals ≤ rmX0_detected.locals := ⟨Nat.le_refl _, Nat.le_refl _⟩
  have hl : lv_has ls 6 [(0, .ref (h 0)), (1, .int a), (2, .int b)] := hl
  refine lv_iload_n hx hb dX0_detected_0 rfl (lv_at hl 1 rfl) ?_
  refine s_calli (rest := []) K.sc (metX0_isPattern l a) (cwX0_X0_isPattern hts ⟨Nat.le_trans (by decide) hR.1, Nat.le_trans (by decide) hR.2⟩) rfl hl.1 rfl (Nat.le_of_ble_eq_true rfl) dX0_detected_1 ⟨Nat.zero_le _, Nat.zero_le _⟩ (fun rb hp1 => ?_)
  rcases hp1 with ⟨rfl, hp1⟩ | ⟨rfl, hp1⟩
  · obtain ⟨x, hx9, rfl⟩ := hp1
    refine n_ifne1 (tgt := 9) hx hb dX0_detected_4 (by decide) ?_
    refine lv_iload_n hx hb dX0_detected_9 rfl (lv_at hl 2 rfl) ?_
    refine s_calli (rest := []) K.sc (metX0_isCycles l b) (cwX0_X0_isCycles hts ⟨Nat.le_trans (by decide) hR.1, Nat.le_trans (by decide) hR.2⟩) rfl hl.1 rfl (Nat.le_of_ble_eq_true rfl) dX0_detected_10 ⟨Nat.zero_le _, Nat.zero_le _⟩ (fun rb hp2 => ?_)
    rcases hp2 with ⟨rfl, hp2⟩ | ⟨rfl, hp2⟩
    · obtain ⟨y, hy1, hy2, rfl⟩ := hp2
      refine n_ifne1 (tgt := 19) hx hb dX0_detected_13 (by decide) ?_
      refine lv_aload_n hx hb dX0_detected_19 rfl (lv_at hl 0 rfl) ?_
      refine lv_iload_n hx hb dX0_detected_20 rfl (lv_at hl 1 rfl) ?_
      refine lv_iload_n hx hb dX0_detected_21 rfl (lv_at hl 2 rfl) ?_
      refine g_callv (ci := 0) (q := (RX0, TX0, 15)) (rest := []) K w (metX0_runAll l D di dj h hD C dv nt lf lh gr wo st an lk hC x y hx9 hy1 hy2) (cwX0_X0_runAll hts ⟨Nat.le_trans (by decide) hR.1, Nat.le_trans (by decide) hR.2⟩) rfl rfl rfl hl.1 rfl (Nat.le_of_ble_eq_true rfl) dX0_detected_22 ⟨Nat.zero_le _, Nat.zero_le _⟩ (fun u H locs hp w => ?_)
      obtain ⟨wo1, st1, an1, rfl, han⟩ := hp
      refine lv_lconst (v := 0) hx hb dX0_detected_25 (by decide) ?_
      refine lv_lstore_n (lv' := [(3, .long 0), (0, .ref (h 0)), (1, .int (nI x)), (2, .int (nI y))]) hx hb dX0_detected_26 rfl hl (by decide) rfl (fun ls hl => ?_)
      refine lv_iconst (v := nI 0) hx hb dX0_detected_27 (by decide) ?_
      refine lv_istore (lv' := [(5, .int (nI 0)), (3, .long 0), (0, .ref (h 0)), (1, .int (nI x)), (2, .int (nI y))]) hx hb dX0_detected_28 hl (by decide) rfl (fun ls hl => ?_)
      refine lpX0_detected K hR w (fun ot ls hI hl => ?_) 6 0 0 ls (by omega) (by omega) (fun j hj => ⟨fun z => (by rw [lb_0] at z; cases z), fun z => (by obtain ⟨i, hi, -⟩ := z; exact absurd hi (by omega))⟩) (lv_sub hl [2, 1, 0] rfl)
      refine lv_lload_n hx hb dX0_detected_78 rfl (lv_at hl 1 rfl) ?_
      refine lv_aload_n hx hb dX0_detected_79 rfl (lv_at hl 0 rfl) ?_
      refine g_readl (ci := 0) (q := (RX0, TX0, 15)) (rest := [.long ot]) K w (metX0_faults l D di dj h hD C dv nt lf lh gr wo1 st1 an1 lk hC) (cwX0_X0_faults hts ⟨Nat.le_trans (by decide) hR.1, Nat.le_trans (by decide) hR.2⟩) rfl rfl rfl hl.1 rfl (Nat.le_of_ble_eq_true rfl) dX0_detected_80 ⟨Nat.zero_le _, Nat.zero_le _⟩ (fun r1 hr1 => ?_)
      refine lv_land hx hb dX0_detected_83 ?_
      refine s_calli (rest := []) K.sc (metX0_ones l (ot &&& r1)) (cwX0_X0_ones hts ⟨Nat.le_trans (by decide) hR.1, Nat.le_trans (by decide) hR.2⟩) rfl hl.1 rfl (Nat.le_of_ble_eq_true rfl) dX0_detected_84 ⟨Nat.zero_le _, Nat.zero_le _⟩ (fun r2 hr2 => ?_)
      exact W.iret (v := r2) hx hb hr (fun t ht hW => ⟨⟨_, (C, dv, nt, lf, lh, gr, wo1, st1, an1, lk), rfl, ⟨Or.inr (Or.inr ⟨x, y, hx9, hy1, hy2, rfl, rfl, by rw [hr2, det_end hC hI han hr1]⟩), ⟨lh, gr, wo1, st1, an1, lk, rfl, hG⟩⟩, (by show va_P D vwCl _ t.heap; rw [ht]; exact w.1)⟩, w.2.F ht⟩) w.2.2.2 dX0_detected_87
    · refine n_ifne0 (tgt := 19) hx hb dX0_detected_13 (by decide) ?_
      refine lv_bipush (v := -2) hx hb dX0_detected_16 (by decide) ?_
      exact W.iret (v := (-2)) hx hb hr (fun t ht hW => ⟨⟨_, (C, dv, nt, lf, lh, gr, wo, st, an, lk), rfl, ⟨Or.inr (Or.inl ⟨⟨x, hx9, rfl⟩, hp2, rfl⟩), ⟨lh, gr, wo, st, an, lk, rfl, hG⟩⟩, (by show va_P D vwCl _ t.heap; rw [ht]; exact w.1)⟩, w.2.F ht⟩) w.2.2.2 dX0_detected_18
  · refine n_ifne0 (tgt := 9) hx hb dX0_detected_4 (by decide) ?_
    refine lv_iconst (v := -1) hx hb dX0_detected_7 (by decide) ?_
    exact W.iret (v := (-1)) hx hb hr (fun t ht hW => ⟨⟨_, (C, dv, nt, lf, lh, gr, wo, st, an, lk), rfl, ⟨Or.inl ⟨hp1, rfl⟩, ⟨lh, gr, wo, st, an, lk, rfl, hG⟩⟩, (by show va_P D vwCl _ t.heap; rw [ht]; exact w.1)⟩, w.2.F ht⟩) w.2.2.2 dX0_detected_8
set_option maxHeartbeats 4000000 in
set_option maxRecDepth 100000 in
/-- nextPattern: the bits -/
theorem lpX0_nextPattern_28 (K : GC p s m args c cX0_nextPattern 7 RX0 D (tyX di dj) h) (hR : rmX0_nextPattern.frames ≤ R.frames ∧ rmX0_nextPattern.locals ≤ R.locals) {C : Cfg} {dv : Int32} {nt : Nat} {lf lh : Int64} {gr : Nat} {wo st an lk : Nat → Int64} {wt : Int64} {q : Nat} (hC : CW C) (han : ∀ b, b < 5 → ∀ j, j < 64 → lb (an b) j = ansB C j q 1 b) (hw : ∀ j, j < 64 → lb wt j = (lb lf j && decide (j < kf C))) {H : Heap} {locs : List Loc} (w : GW s D h (wX di dj h (C, dv, nt, lf, lh, gr, wo, st, an, lk)) H locs)
    (kk1 : ∀ ls : Array Slot, mix C (lb lf) q → W p l e R s m args below meth c H locs 0 0 Q (F0 m 60 ls [.int (nI q)]))
    (kk2 : ∀ ls : Array Slot, (∀ k, k < 5 → ∀ i j, i < kf C → j < kf C → lb lf i = true → lb lf j = true → ansB C i q 1 k = ansB C j q 1 k) → lv_has ls 7 [(0, .ref (h 0)), (1, .long wt), (3, .int (nI q))] → W p l e R s m args below meth c H locs 0 0 Q (F0 m 67 ls []))
    : ∀ (n b : Nat)  (ls : Array Slot), b ≤ 5 → 5 + 1 ≤ b + n → (∀ k, k < b → ∀ i j, i < kf C → j < kf C → lb lf i = true → lb lf j = true → ansB C i q 1 k = ansB C j q 1 k) → lv_has ls 7 [(0, .ref (h 0)), (1, .long wt), (3, .int (nI q)), (4, .int (nI b))] → W p l e R s m args below meth c H locs 0 0 Q (F0 m 28 ls []) := by
  obtain ⟨hx, hb, hml, hown, hts, hK, hD⟩ := id K
  intro n
  induction n with
  | zero =>
    intro b  ls h1 h2
    exact absurd h2 (by omega)
  | succ n ih =>
    intro b  ls h1 h2 hI hl
    refine lv_iload hx hb dX0_nextPattern_28 (lv_at hl 3 rfl) ?_
    refine lv_iconst (v := nI 5) hx hb dX0_nextPattern_30 (by decide) ?_
    refine n_ge (tgt := 67) hx hb dX0_nextPattern_31 (by decide) (by omega) (by omega) (fun c31 => ?_) (fun c31 => ?_)
    · obtain rfl : b = 5 := by omega
      exact kk2 ls hI (lv_sub hl [0, 1, 2] rfl)
    · refine lv_aload_n hx hb dX0_nextPattern_34 rfl (lv_at hl 0 rfl) ?_
      refine xg_answers K w dX0_nextPattern_35 ?_
      refine lv_iload hx hb dX0_nextPattern_38 (lv_at hl 3 rfl) ?_
      refine xl_answers (k := b) K w (by omega) dX0_nextPattern_40 ?_
      refine lv_lload_n hx hb dX0_nextPattern_41 rfl (lv_at hl 1 rfl) ?_
      refine lv_land hx hb dX0_nextPattern_42 ?_
      refine lv_topl (fun on eon => ?_)
      refine lv_lstore (lv' := [(5, .long on), (0, .ref (h 0)), (1, .long wt), (3, .int (nI q)), (4, .int (nI b))]) hx hb dX0_nextPattern_43 hl (by decide) rfl (fun ls hl => ?_)
      refine lv_lload hx hb dX0_nextPattern_45 (lv_at hl 0 rfl) ?_
      refine lv_lconst (v := 0) hx hb dX0_nextPattern_47 (by decide) ?_
      refine n_lcmpeq (tgt := 61) hx hb dX0_nextPattern_48 dX0_nextPattern_49 (by decide) (fun c48 => ?_) (fun c48 => ?_)
      · refine lv_iinc (v := (nI (b + 1))) (lv' := [(4, .int (nI (b + 1))), (5, .long on), (0, .ref (h 0)), (1, .long wt), (3, .int (nI q))]) hx hb dX0_nextPattern_61 hl (k := 4) rfl (n_inc _) (by decide) rfl (fun ls hl => ?_)
        refine lv_goto (tgt := 28) hx hb dX0_nextPattern_64 (by decide) ?_
        exact ih (b + 1) ls (by omega) (by omega) (lt_s hI (on_0 hC (han b c31) hw (by rw [← eon]; exact c48))) (lv_sub hl [2, 3, 4, 0] rfl)
      · refine lv_lload hx hb dX0_nextPattern_52 (lv_at hl 0 rfl) ?_
        refine lv_lload_n hx hb dX0_nextPattern_54 rfl (lv_at hl 2 rfl) ?_
        refine n_lcmpeq (tgt := 61) hx hb dX0_nextPattern_55 dX0_nextPattern_56 (by decide) (fun c55 => ?_) (fun c55 => ?_)
        · refine lv_iinc (v := (nI (b + 1))) (lv' := [(4, .int (nI (b + 1))), (5, .long on), (0, .ref (h 0)), (1, .long wt), (3, .int (nI q))]) hx hb dX0_nextPattern_61 hl (k := 4) rfl (n_inc _) (by decide) rfl (fun ls hl => ?_)
          refine lv_goto (tgt := 28) hx hb dX0_nextPattern_64 (by decide) ?_
          exact ih (b + 1) ls (by omega) (by omega) (lt_s hI (on_1 hC (han b c31) hw (by rw [← eon]; exact c55))) (lv_sub hl [2, 3, 4, 0] rfl)
        · refine lv_iload_n hx hb dX0_nextPattern_59 rfl (lv_at hl 3 rfl) ?_
          exact kk1 ls (on_mix hC c31 (han b c31) hw (by rw [← eon]; exact c48) (by rw [← eon]; exact c55))
set_option maxHeartbeats 4000000 in
set_option maxRecDepth 100000 in
/-- nextPattern: the patterns -/
theorem lpX0_nextPattern_12 (K : GC p s m args c cX0_nextPattern 7 RX0 D (tyX di dj) h) (hR : rmX0_nextPattern.frames ≤ R.frames ∧ rmX0_nextPattern.locals ≤ R.locals) {C : Cfg} {dv : Int32} {nt : Nat} {lf lh : Int64} {gr : Nat} {lk : Nat → Int64} {wt : Int64} (hC : CW C) (hw : ∀ j, j < 64 → lb wt j = (lb lf j && decide (j < kf C)))
    (kk1 : ∀ (q : Nat) (wo st an : Nat → Int64) (H : Heap) (locs : List Loc) (ls : Array Slot), q < 128 → mix C (lb lf) q → (∀ i, i < q → ¬ mix C (lb lf) i) → GW s D h (wX di dj h (C, dv, nt, lf, lh, gr, wo, st, an, lk)) H locs → W p l e R s m args below meth c H locs 0 0 Q (F0 m 60 ls [.int (nI q)]))
    (kk2 : ∀ (wo st an : Nat → Int64) (H : Heap) (locs : List Loc) (ls : Array Slot), (∀ q, q < 128 → ¬ mix C (lb lf) q) → GW s D h (wX di dj h (C, dv, nt, lf, lh, gr, wo, st, an, lk)) H locs → W p l e R s m args below meth c H locs 0 0 Q (F0 m 73 ls []))
    : ∀ (n q : Nat) (wo : Nat → Int64) (st : Nat → Int64) (an : Nat → Int64) (H : Heap) (locs : List Loc) (ls : Array Slot), q ≤ 128 → 128 + 1 ≤ q + n → (∀ i, i < q → ¬ mix C (lb lf) i) → GW s D h (wX di dj h (C, dv, nt, lf, lh, gr, wo, st, an, lk)) H locs → lv_has ls 7 [(0, .ref (h 0)), (1, .long wt), (3, .int (nI q))] → W p l e R s m args below meth c H locs 0 0 Q (F0 m 12 ls []) := by
  obtain ⟨hx, hb, hml, hown, hts, hK, hD⟩ := id K
  intro n
  induction n with
  | zero =>
    intro q wo st an H locs ls h1 h2
    exact absurd h2 (by omega)
  | succ n ih =>
    intro q wo st an H locs ls h1 h2 hI w hl
    refine lv_iload_n hx hb dX0_nextPattern_12 rfl (lv_at hl 2 rfl) ?_
    refine lv_sipush (v := nI 128) hx hb dX0_nextPattern_13 (by decide) ?_
    refine n_ge (tgt := 73) hx hb dX0_nextPattern_16 (by decide) (by omega) (by omega) (fun c16 => ?_) (fun c16 => ?_)
    · obtain rfl : q = 128 := by omega
      exact kk2 wo st an H locs ls hI w
    · refine lv_aload_n hx hb dX0_nextPattern_19 rfl (lv_at hl 0 rfl) ?_
      refine lv_iload_n hx hb dX0_nextPattern_20 rfl (lv_at hl 2 rfl) ?_
      refine lv_iconst (v := nI 1) hx hb dX0_nextPattern_21 (by decide) ?_
      refine g_callv (ci := 0) (q := (RX0, TX0, 15)) (rest := []) K w (metX0_runAll l D di dj h hD C dv nt lf lh gr wo st an lk hC q 1 (by omega) (by omega) (by omega)) (cwX0_X0_runAll hts ⟨Nat.le_trans (by decide) hR.1, Nat.le_trans (by decide) hR.2⟩) rfl rfl rfl hl.1 rfl (Nat.le_of_ble_eq_true rfl) dX0_nextPattern_22 ⟨Nat.zero_le _, Nat.zero_le _⟩ (fun u H locs hp w => ?_)
      obtain ⟨wo1, st1, an1, rfl, han⟩ := hp
      refine lv_iconst (v := nI 0) hx hb dX0_nextPattern_25 (by decide) ?_
      refine lv_istore (lv' := [(4, .int (nI 0)), (0, .ref (h 0)), (1, .long wt), (3, .int (nI q))]) hx hb dX0_nextPattern_26 hl (by decide) rfl (fun ls hl => ?_)
      refine lpX0_nextPattern_28 K hR hC han hw w (fun ls hm => ?_) (fun ls hn hl => ?_) 6 0 ls (by omega) (by omega) (fun k hk => absurd hk (by omega)) (lv_sub hl [1, 2, 3, 0] rfl)
      · exact kk1 q _ _ _ H locs ls c16 hm hI w
      · refine lv_iinc (v := (nI (q + 1))) (lv' := [(3, .int (nI (q + 1))), (0, .ref (h 0)), (1, .long wt)]) hx hb dX0_nextPattern_67 hl (k := 2) rfl (n_inc _) (by decide) rfl (fun ls hl => ?_)
        refine lv_goto (tgt := 12) hx hb dX0_nextPattern_70 (by decide) ?_
        exact ih (q + 1) _ _ _ H locs ls (by omega) (by omega) (lt_s hI (ne_of_mix_bits hn)) w (lv_sub hl [1, 2, 0] rfl)
set_option maxHeartbeats 4000000 in
set_option maxRecDepth 100000 in
/-- nextPattern() -/
theorem metX0_nextPattern (l : Launch) (D : va_G) (di dj : ClassId) (h : Nat → Nat) (hD : xD h) (C : Cfg) (dv : Int32) (nt : Nat) (lf lh : Int64) (gr : Nat) (wo st an lk : Nat → Int64) (hC : CW C) (hG : gr = 0 ∨ gr = 1 ∧ GI C lh lk)  : Met l yX0_nextPattern (ws_ yX0_nextPattern cX0_nextPattern 7 (some .int)) rmX0_nextPattern (GPc D (tyX di dj) h [] (wX di dj h (C, dv, nt, lf, lh, gr, wo, st, an, lk))) (GQi D h (wX di dj h) (fun r u => Rnext C (lb lf) r ∧ XK C dv nt lf u)) 0 0 (xB h) := by
  refine g_met (own := RX0) rfl (by decide) hD (Nat.le_of_ble_eq_true rfl) ?_
  intro p e s m args below meth c ls K hr hlk w hl
  obtain ⟨hx, hb, hml, hown, hts, hK, -⟩ := id K
  have hR : rmX0_nextPattern.frames ≤ rmX0_nextPattern.frames ∧ rmX0_nextPattern.locals ≤ rmX0_nextPattern.locals := ⟨Nat.le_refl _, Nat.le_refl _⟩
  have hl : lv_has ls 7 [(0, .ref (h 0))] := hl
  refine lv_aload_n hx hb dX0_nextPattern_0 rfl (lv_at hl 0 rfl) ?_
  refine xg_left K w dX0_nextPattern_1 ?_
  refine lv_aload_n hx hb dX0_nextPattern_4 rfl (lv_at hl 0 rfl) ?_
  refine g_readl (ci := 0) (q := (RX0, TX0, 15)) (rest := [.long lf]) K w (metX0_faults l D di dj h hD C dv nt lf lh gr wo st an lk hC) (cwX0_X0_faults hts ⟨Nat.le_trans (by decide) hR.1, Nat.le_trans (by decide) hR.2⟩) rfl rfl rfl hl.1 rfl (Nat.le_of_ble_eq_true rfl) dX0_nextPattern_5 ⟨Nat.zero_le _, Nat.zero_le _⟩ (fun r1 hr1 => ?_)
  refine lv_land hx hb dX0_nextPattern_8 ?_
  refine lv_topl (fun wt ewt => ?_)
  have hw : ∀ j, j < 64 → lb wt j = (lb lf j && decide (j < kf C)) := fun j hj => by rw [ewt, lb_and, hr1 j hj]
  refine lv_lstore_n (lv' := [(1, .long wt), (0, .ref (h 0))]) hx hb dX0_nextPattern_9 rfl hl (by decide) rfl (fun ls hl => ?_)
  refine lv_iconst (v := nI 0) hx hb dX0_nextPattern_10 (by decide) ?_
  refine lv_istore_n (lv' := [(3, .int (nI 0)), (1, .long wt), (0, .ref (h 0))]) hx hb dX0_nextPattern_11 rfl hl (by decide) rfl (fun ls hl => ?_)
  refine lpX0_nextPattern_12 K hR hC hw (fun q wo1 st1 an1 H locs ls hq hm hn w => ?_) (fun wo1 st1 an1 H locs ls hn w => ?_) 129 0 wo st an _ _ ls (by omega) (by omega) (fun k hk => absurd hk (by omega)) w (lv_sub hl [2, 1, 0] rfl)
  · exact W.iret (v := nI q) hx hb hr (fun t ht hW => ⟨⟨_, (C, dv, nt, lf, lh, gr, wo1, st1, an1, lk), rfl, ⟨Or.inl ⟨q, hq, hm, hn, rfl⟩, ⟨lh, gr, wo1, st1, an1, lk, rfl, hG⟩⟩, (by show va_P D vwCl _ t.heap; rw [ht]; exact w.1)⟩, w.2.F ht⟩) w.2.2.2 dX0_nextPattern_60
  · refine lv_iconst (v := -1) hx hb dX0_nextPattern_73 (by decide) ?_
    exact W.iret (v := (-1)) hx hb hr (fun t ht hW => ⟨⟨_, (C, dv, nt, lf, lh, gr, wo1, st1, an1, lk), rfl, ⟨Or.inr ⟨hn, rfl⟩, ⟨lh, gr, wo1, st1, an1, lk, rfl, hG⟩⟩, (by show va_P D vwCl _ t.heap; rw [ht]; exact w.1)⟩, w.2.F ht⟩) w.2.2.2 dX0_nextPattern_74
set_option maxHeartbeats 4000000 in
set_option maxRecDepth 100000 in
/-- observe: the bits -/
theorem lpX0_observe (K : GC p s m args c cX0_observe 6 RX0 D (tyX di dj) h) (hR : rmX0_observe.frames ≤ R.frames ∧ rmX0_observe.locals ≤ R.locals) {C : Cfg} {dv : Int32} {nt : Nat} {lf0 lh : Int64} {gr : Nat} {wo st an lk : Nat → Int64} {sn d : Nat} (hs9 : sn < 32) (hsn : ∀ b, b < 5 → sn.testBit b = lb (an b) d)
    (kk : ∀ (lf : Int64) (H : Heap) (locs : List Loc) (ls : Array Slot), OI lf0 lf an d 5 → GW s D h (wX di dj h (C, dv, nt, lf, lh, gr, wo, st, an, lk)) H locs → lv_has ls 6 [(0, .ref (h 0)), (4, .int (nI sn))] → W p l e R s m args below meth c H locs 0 0 Q (F0 m 117 ls []))
    : ∀ (n b : Nat) (lf : Int64) (H : Heap) (locs : List Loc) (ls : Array Slot), b ≤ 5 → 5 + 1 ≤ b + n → OI lf0 lf an d b → GW s D h (wX di dj h (C, dv, nt, lf, lh, gr, wo, st, an, lk)) H locs → lv_has ls 6 [(0, .ref (h 0)), (4, .int (nI sn)), (5, .int (nI b))] → W p l e R s m args below meth c H locs 0 0 Q (F0 m 64 ls []) := by
  obtain ⟨hx, hb, hml, hown, hts, hK, hD⟩ := id K
  intro n
  induction n with
  | zero =>
    intro b lf H locs ls h1 h2
    exact absurd h2 (by omega)
  | succ n ih =>
    intro b lf H locs ls h1 h2 hI w hl
    refine lv_iload hx hb dX0_observe_64 (lv_at hl 2 rfl) ?_
    refine lv_iconst (v := nI 5) hx hb dX0_observe_66 (by decide) ?_
    refine n_ge (tgt := 117) hx hb dX0_observe_67 (by decide) (by omega) (by omega) (fun c67 => ?_) (fun c67 => ?_)
    · obtain rfl : b = 5 := by omega
      exact kk lf H locs ls hI w (lv_sub hl [0, 1] rfl)
    · refine lv_aload_n hx hb dX0_observe_70 rfl (lv_at hl 0 rfl) ?_
      refine lv_aload_n hx hb dX0_observe_71 rfl (lv_at hl 0 rfl) ?_
      refine xg_left K w dX0_observe_72 ?_
      refine lv_iload hx hb dX0_observe_75 (lv_at hl 1 rfl) ?_
      refine lv_iload hx hb dX0_observe_77 (lv_at hl 2 rfl) ?_
      refine lv_ishr hx hb dX0_observe_79 ?_
      refine lv_iconst (v := nI 1) hx hb dX0_observe_80 (by decide) ?_
      refine lv_iand hx hb dX0_observe_81 ?_
      refine n_tope ((p_bit sn (by omega) b (by omega)).trans (congrArg (fun z : Bool => nI z.toNat) (hsn b c67))) ?_
      have hq9 : (lb (an b) d).toNat < 2 := Bool.toNat_lt _
      refine lv_iconst (v := nI 1) hx hb dX0_observe_82 (by decide) ?_
      refine n_ne (tgt := 96) hx hb dX0_observe_83 (by decide) (by omega) (by omega) (fun c83 => ?_) (fun c83 => ?_)
      · refine lv_aload_n hx hb dX0_observe_96 rfl (lv_at hl 0 rfl) ?_
        refine xg_answers K w dX0_observe_97 ?_
        refine lv_iload hx hb dX0_observe_100 (lv_at hl 2 rfl) ?_
        refine xl_answers (k := b) K w (by omega) dX0_observe_102 ?_
        refine lv_ldc2 hx hb hown (hts _ q37) dX0_observe_103 ?_
        refine lv_lxor hx hb dX0_observe_106 ?_
        refine lv_land hx hb dX0_observe_107 ?_
        refine xp_left K w dX0_observe_108 (fun H locs w => ?_)
        refine lv_iinc (v := (nI (b + 1))) (lv' := [(5, .int (nI (b + 1))), (0, .ref (h 0)), (4, .int (nI sn))]) hx hb dX0_observe_111 hl (k := 2) rfl (n_inc _) (by decide) rfl (fun ls hl => ?_)
        refine lv_goto (tgt := 64) hx hb dX0_observe_114 (by decide) ?_
        exact ih (b + 1) _ H locs ls (by omega) (by omega) (OI_step hI (OI_v0 c83)) w (lv_sub hl [1, 2, 0] rfl)
      · refine lv_aload_n hx hb dX0_observe_86 rfl (lv_at hl 0 rfl) ?_
        refine xg_answers K w dX0_observe_87 ?_
        refine lv_iload hx hb dX0_observe_90 (lv_at hl 2 rfl) ?_
        refine xl_answers (k := b) K w (by omega) dX0_observe_92 ?_
        refine lv_goto (tgt := 107) hx hb dX0_observe_93 (by decide) ?_
        refine lv_land hx hb dX0_observe_107 ?_
        refine xp_left K w dX0_observe_108 (fun H locs w => ?_)
        refine lv_iinc (v := (nI (b + 1))) (lv' := [(5, .int (nI (b + 1))), (0, .ref (h 0)), (4, .int (nI sn))]) hx hb dX0_observe_111 hl (k := 2) rfl (n_inc _) (by decide) rfl (fun ls hl => ?_)
        refine lv_goto (tgt := 64) hx hb dX0_observe_114 (by decide) ?_
        exact ih (b + 1) _ H locs ls (by omega) (by omega) (OI_step hI (OI_v1 c83)) w (lv_sub hl [1, 2, 0] rfl)
set_option maxHeartbeats 4000000 in
set_option maxRecDepth 100000 in
/-- observe(a, b) -/
theorem metX0_observe (l : Launch) (D : va_G) (di dj : ClassId) (h : Nat → Nat) (hD : xD h) (C : Cfg) (dv : Int32) (nt : Nat) (lf lh : Int64) (gr : Nat) (wo st an lk : Nat → Int64) (hC : CW C) (hG : gr = 0 ∨ gr = 1 ∧ GI C lh lk) (a b : Int32) (d : Nat) (hj : FJ C dv d) (hn : nt ≤ 20) : Met l yX0_observe (ws_ yX0_observe cX0_observe 6 (some .int)) rmX0_observe (GPc D (tyX di dj) h [.int a, .int b] (wX di dj h (C, dv, nt, lf, lh, gr, wo, st, an, lk))) (GQi D h (wX di dj h) (fun r u => ∃ ob, Robs C nt d a b r ob ∧ (ob = none → XK C dv nt lf u) ∧ ∀ x y, ob = some (x, y) → ∃ lf1, (∀ j, j < 64 → lb lf1 j = (lb lf j && decide (ansN C j x y = ansN C d x y))) ∧ XK C dv (nt + 1) lf1 u)) 0 0 (xB h) := by
  refine g_met (own := RX0) rfl (by decide) hD (Nat.le_of_ble_eq_true rfl) ?_
  intro p e s m args below meth c ls K hr hlk w hl
  obtain ⟨hx, hb, hml, hown, hts, hK, -⟩ := id K
  have hR : rmX0_observe.frames ≤ rmX0_observe.frames ∧ rmX0_observe.locals ≤ rmX0_observe.locals := ⟨Nat.le_refl _, Nat.le_refl _⟩
  have hl : lv_has ls 6 [(0, .ref (h 0)), (1, .int a), (2, .int b)] := hl
  have hd9 := FJ_lt hC hj
  refine lv_iload_n hx hb dX0_observe_0 rfl (lv_at hl 1 rfl) ?_
  refine s_calli (rest := []) K.sc (metX0_isPattern l a) (cwX0_X0_isPattern hts ⟨Nat.le_trans (by decide) hR.1, Nat.le_trans (by decide) hR.2⟩) rfl hl.1 rfl (Nat.le_of_ble_eq_true rfl) dX0_observe_1 ⟨Nat.zero_le _, Nat.zero_le _⟩ (fun rb hp1 => ?_)
  rcases hp1 with ⟨rfl, hp1⟩ | ⟨rfl, hp1⟩
  · obtain ⟨x, hx9, rfl⟩ := hp1
    refine n_ifne1 (tgt := 9) hx hb dX0_observe_4 (by decide) ?_
    refine lv_iload_n hx hb dX0_observe_9 rfl (lv_at hl 2 rfl) ?_
    refine s_calli (rest := []) K.sc (metX0_isCycles l b) (cwX0_X0_isCycles hts ⟨Nat.le_trans (by decide) hR.1, Nat.le_trans (by decide) hR.2⟩) rfl hl.1 rfl (Nat.le_of_ble_eq_true rfl) dX0_observe_10 ⟨Nat.zero_le _, Nat.zero_le _⟩ (fun rb hp2 => ?_)
    rcases hp2 with ⟨rfl, hp2⟩ | ⟨rfl, hp2⟩
    · obtain ⟨y, hy1, hy2, rfl⟩ := hp2
      refine n_ifne1 (tgt := 19) hx hb dX0_observe_13 (by decide) ?_
      refine lv_aload_n hx hb dX0_observe_19 rfl (lv_at hl 0 rfl) ?_
      refine xg_noted K w dX0_observe_20 ?_
      refine lv_bipush (v := nI 20) hx hb dX0_observe_23 (by decide) ?_
      refine n_ne (tgt := 31) hx hb dX0_observe_25 (by decide) (by omega) (by omega) (fun c25 => ?_) (fun c25 => ?_)
      · refine lv_aload_n hx hb dX0_observe_31 rfl (lv_at hl 0 rfl) ?_
        refine lv_iload_n hx hb dX0_observe_32 rfl (lv_at hl 1 rfl) ?_
        refine lv_iload_n hx hb dX0_observe_33 rfl (lv_at hl 2 rfl) ?_
        refine g_callv (ci := 0) (q := (RX0, TX0, 15)) (rest := []) K w (metX0_runAll l D di dj h hD C dv nt lf lh gr wo st an lk hC x y hx9 hy1 hy2) (cwX0_X0_runAll hts ⟨Nat.le_trans (by decide) hR.1, Nat.le_trans (by decide) hR.2⟩) rfl rfl rfl hl.1 rfl (Nat.le_of_ble_eq_true rfl) dX0_observe_34 ⟨Nat.zero_le _, Nat.zero_le _⟩ (fun u H locs hp w => ?_)
        obtain ⟨wo1, st1, an1, rfl, han⟩ := hp
        refine lv_aload_n hx hb dX0_observe_37 rfl (lv_at hl 0 rfl) ?_
        refine xg_device K w dX0_observe_38 ?_
        refine lv_if_ge (tgt := 49) hx hb dX0_observe_41 (by decide) (fun c41 => ?_) (fun c41 => ?_)
        · refine lv_aload_n hx hb dX0_observe_49 rfl (lv_at hl 0 rfl) ?_
          refine xg_device K w dX0_observe_50 ?_
          refine n_tope (dev_pos hj c41) ?_
          refine lv_istore_n (lv' := [(3, .int (nI d)), (0, .ref (h 0)), (1, .int (nI x)), (2, .int (nI y))]) hx hb dX0_observe_53 rfl hl (by decide) rfl (fun ls hl => ?_)
          refine lv_aload_n hx hb dX0_observe_54 rfl (lv_at hl 1 rfl) ?_
          refine lv_iload_n hx hb dX0_observe_55 rfl (lv_at hl 0 rfl) ?_
          refine g_readi (ci := 0) (q := (RX0, TX0, 15)) (rest := []) K w (metX0_answerOf l D di dj h hD C dv nt lf lh gr wo1 st1 an1 lk d hd9) (cwX0_X0_answerOf hts ⟨Nat.le_trans (by decide) hR.1, Nat.le_trans (by decide) hR.2⟩) rfl rfl rfl hl.1 rfl (Nat.le_of_ble_eq_true rfl) dX0_observe_56 ⟨Nat.zero_le _, Nat.zero_le _⟩ (fun r1 hr1 => ?_)
          rw [s5_of hd9 han] at hr1
          subst hr1
          refine lv_istore (lv' := [(4, .int (nI (ansN C d x y))), (3, .int (nI d)), (0, .ref (h 0)), (1, .int (nI x)), (2, .int (nI y))]) hx hb dX0_observe_59 hl (by decide) rfl (fun ls hl => ?_)
          refine lv_iconst (v := nI 0) hx hb dX0_observe_61 (by decide) ?_
          refine lv_istore (lv' := [(5, .int (nI 0)), (4, .int (nI (ansN C d x y))), (3, .int (nI d)), (0, .ref (h 0)), (1, .int (nI x)), (2, .int (nI y))]) hx hb dX0_observe_62 hl (by decide) rfl (fun ls hl => ?_)
          refine lpX0_observe K hR (ansN_lt C d x y) (fun b hb => (by rw [han b hb d hd9]; exact s5_bit _ b hb)) (fun lf1 H locs ls hO w hl => ?_) 6 0 lf H locs ls (by omega) (by omega) (fun j hj => ⟨fun z => ⟨z, fun i hi => absurd hi (by omega)⟩, fun z => z.1⟩) w (lv_sub hl [3, 1, 0] rfl)
          refine lv_aload_n hx hb dX0_observe_117 rfl (lv_at hl 0 rfl) ?_
          refine lv_dup hx hb dX0_observe_118 rfl ?_
          refine xg_noted K w dX0_observe_119 ?_
          refine lv_iconst (v := nI 1) hx hb dX0_observe_122 (by decide) ?_
          refine n_iadd hx hb dX0_observe_123 ?_
          refine xp_noted K w dX0_observe_124 (fun H locs w => ?_)
          refine lv_iload hx hb dX0_observe_127 (lv_at hl 1 rfl) ?_
          exact W.iret (v := (nI (ansN C d x y))) hx hb hr (fun t ht hW => ⟨⟨_, (C, dv, nt + 1, lf1, lh, gr, wo1, st1, an1, lk), rfl, ⟨some (x, y), Or.inr (Or.inr (Or.inr ⟨c25, x, y, hx9, hy1, hy2, rfl, rfl, rfl, rfl⟩)), fun z => (by cases z), fun x2 y2 z => (by cases z; exact ⟨lf1, OI_end hd9 hO han, ⟨lh, gr, wo1, st1, an1, lk, rfl, hG⟩⟩)⟩, (by show va_P D vwCl _ t.heap; rw [ht]; exact w.1)⟩, w.2.F ht⟩) w.2.2.2 dX0_observe_129
        · refine lv_bipush (v := nI 63) hx hb dX0_observe_44 (by decide) ?_
          refine lv_goto (tgt := 53) hx hb dX0_observe_46 (by decide) ?_
          refine n_tope (dev_neg hC hj c41) ?_
          refine lv_istore_n (lv' := [(3, .int (nI d)), (0, .ref (h 0)), (1, .int (nI x)), (2, .int (nI y))]) hx hb dX0_observe_53 rfl hl (by decide) rfl (fun ls hl => ?_)
          refine lv_aload_n hx hb dX0_observe_54 rfl (lv_at hl 1 rfl) ?_
          refine lv_iload_n hx hb dX0_observe_55 rfl (lv_at hl 0 rfl) ?_
          refine g_readi (ci := 0) (q := (RX0, TX0, 15)) (rest := []) K w (metX0_answerOf l D di dj h hD C dv nt lf lh gr wo1 st1 an1 lk d hd9) (cwX0_X0_answerOf hts ⟨Nat.le_trans (by decide) hR.1, Nat.le_trans (by decide) hR.2⟩) rfl rfl rfl hl.1 rfl (Nat.le_of_ble_eq_true rfl) dX0_observe_56 ⟨Nat.zero_le _, Nat.zero_le _⟩ (fun r1 hr1 => ?_)
          rw [s5_of hd9 han] at hr1
          subst hr1
          refine lv_istore (lv' := [(4, .int (nI (ansN C d x y))), (3, .int (nI d)), (0, .ref (h 0)), (1, .int (nI x)), (2, .int (nI y))]) hx hb dX0_observe_59 hl (by decide) rfl (fun ls hl => ?_)
          refine lv_iconst (v := nI 0) hx hb dX0_observe_61 (by decide) ?_
          refine lv_istore (lv' := [(5, .int (nI 0)), (4, .int (nI (ansN C d x y))), (3, .int (nI d)), (0, .ref (h 0)), (1, .int (nI x)), (2, .int (nI y))]) hx hb dX0_observe_62 hl (by decide) rfl (fun ls hl => ?_)
          refine lpX0_observe K hR (ansN_lt C d x y) (fun b hb => (by rw [han b hb d hd9]; exact s5_bit _ b hb)) (fun lf1 H locs ls hO w hl => ?_) 6 0 lf H locs ls (by omega) (by omega) (fun j hj => ⟨fun z => ⟨z, fun i hi => absurd hi (by omega)⟩, fun z => z.1⟩) w (lv_sub hl [3, 1, 0] rfl)
          refine lv_aload_n hx hb dX0_observe_117 rfl (lv_at hl 0 rfl) ?_
          refine lv_dup hx hb dX0_observe_118 rfl ?_
          refine xg_noted K w dX0_observe_119 ?_
          refine lv_iconst (v := nI 1) hx hb dX0_observe_122 (by decide) ?_
          refine n_iadd hx hb dX0_observe_123 ?_
          refine xp_noted K w dX0_observe_124 (fun H locs w => ?_)
          refine lv_iload hx hb dX0_observe_127 (lv_at hl 1 rfl) ?_
          exact W.iret (v := (nI (ansN C d x y))) hx hb hr (fun t ht hW => ⟨⟨_, (C, dv, nt + 1, lf1, lh, gr, wo1, st1, an1, lk), rfl, ⟨some (x, y), Or.inr (Or.inr (Or.inr ⟨c25, x, y, hx9, hy1, hy2, rfl, rfl, rfl, rfl⟩)), fun z => (by cases z), fun x2 y2 z => (by cases z; exact ⟨lf1, OI_end hd9 hO han, ⟨lh, gr, wo1, st1, an1, lk, rfl, hG⟩⟩)⟩, (by show va_P D vwCl _ t.heap; rw [ht]; exact w.1)⟩, w.2.F ht⟩) w.2.2.2 dX0_observe_129
      · refine lv_bipush (v := -3) hx hb dX0_observe_28 (by decide) ?_
        exact W.iret (v := (-3)) hx hb hr (fun t ht hW => ⟨⟨_, (C, dv, nt, lf, lh, gr, wo, st, an, lk), rfl, ⟨none, Or.inr (Or.inr (Or.inl ⟨⟨x, hx9, rfl⟩, ⟨y, hy1, hy2, rfl⟩, c25, rfl, rfl⟩)), fun _ => ⟨lh, gr, wo, st, an, lk, rfl, hG⟩, fun _ _ z => (by cases z)⟩, (by show va_P D vwCl _ t.heap; rw [ht]; exact w.1)⟩, w.2.F ht⟩) w.2.2.2 dX0_observe_30
    · refine n_ifne0 (tgt := 19) hx hb dX0_observe_13 (by decide) ?_
      refine lv_bipush (v := -2) hx hb dX0_observe_16 (by decide) ?_
      exact W.iret (v := (-2)) hx hb hr (fun t ht hW => ⟨⟨_, (C, dv, nt, lf, lh, gr, wo, st, an, lk), rfl, ⟨none, Or.inr (Or.inl ⟨⟨x, hx9, rfl⟩, hp2, rfl, rfl⟩), fun _ => ⟨lh, gr, wo, st, an, lk, rfl, hG⟩, fun _ _ z => (by cases z)⟩, (by show va_P D vwCl _ t.heap; rw [ht]; exact w.1)⟩, w.2.F ht⟩) w.2.2.2 dX0_observe_18
  · refine n_ifne0 (tgt := 9) hx hb dX0_observe_4 (by decide) ?_
    refine lv_iconst (v := -1) hx hb dX0_observe_7 (by decide) ?_
    exact W.iret (v := (-1)) hx hb hr (fun t ht hW => ⟨⟨_, (C, dv, nt, lf, lh, gr, wo, st, an, lk), rfl, ⟨none, Or.inl ⟨hp1, rfl, rfl⟩, fun _ => ⟨lh, gr, wo, st, an, lk, rfl, hG⟩, fun _ _ z => (by cases z)⟩, (by show va_P D vwCl _ t.heap; rw [ht]; exact w.1)⟩, w.2.F ht⟩) w.2.2.2 dX0_observe_8
end
end
section
/-! the component: gate, feed, output, inject -/
set_option maxRecDepth 100000
theorem isN_iff {n : Nat} (hn : n < 1000) (k : Int32) : isN (n + 1) k ↔ ¬ k < 0 ∧ k ≤ nI n := by
  constructor
  · rintro ⟨j, hj, rfl⟩
    exact ⟨nI_pos (by omega), nI_le (by omega) (by omega)⟩
  · rintro ⟨h1, h2⟩
    obtain ⟨j, hj, e⟩ := nI_of2 (M := nI n) (n := n) (nI_toInt (by omega)) h1 h2
    exact ⟨j, by omega, e⟩
theorem isN2_no {k : Int32} (h0 : ¬ k = 0) (h1 : ¬ k = nI 1) : ¬ isN 2 k := by
  rintro ⟨j, hj, e⟩
  rcases (show j = 0 ∨ j = 1 by omega) with rfl | rfl
  · exact h0 e
  · exact h1 e
theorem gateC_5 {g : Nat} {kd f1 f2 fd op : Nat → Int32} {k a : Int32} (b : Int32) (h : k = nI 5) : gateC (g, kd, f1, f2, fd, op) k a b = (g + 1, upd kd g k, upd f1 g a, upd f2 g a, fd, op) := by
  unfold gateC
  rw [if_pos h]
theorem gateC_n {g : Nat} {kd f1 f2 fd op : Nat → Int32} {k : Int32} (a b : Int32) (h : ¬ k = nI 5) : gateC (g, kd, f1, f2, fd, op) k a b = (g + 1, upd kd g k, upd f1 g a, upd f2 g b, fd, op) := by
  unfold gateC
  rw [if_neg h]
set_option maxHeartbeats 4000000 in
set_option maxRecDepth 100000 in
/-- gate(k, a, b) -/
theorem metX0_gate (l : Launch) (D : va_G) (di dj : ClassId) (h : Nat → Nat) (hD : xD h) (C : Cfg) (dv : Int32) (nt : Nat) (lf lh : Int64) (gr : Nat) (wo st an lk : Nat → Int64) (hC : CW C) (hG : gr = 0 ∨ gr = 1 ∧ GI C lh lk) (k a b : Int32) : Met l yX0_gate (ws_ yX0_gate cX0_gate 4 (some .int)) rmX0_gate (GPc D (tyX di dj) h [.int k, .int a, .int b] (wX di dj h (C, dv, nt, lf, lh, gr, wo, st, an, lk))) (GQi D h (wX di dj h) (fun r u => ∃ ok, Rgate C k a b r ok ∧ (ok = false → XK C dv nt lf u) ∧ (ok = true → XK (gateC C k a b) dv 0 (-1) u))) 0 0 (xB h) := by
  obtain ⟨g, kd, f1, f2, fd, op⟩ := C
  refine g_met (own := RX0) rfl (by decide) hD (Nat.le_of_ble_eq_true rfl) ?_
  intro p e s m args below meth c ls K hr hlk w hl
  obtain ⟨hx, hb, hml, hown, hts, hK, -⟩ := id K
  have hR : rmX0_gate.frames ≤ rmX0_gate.frames ∧ rmX0_gate.locals ≤ rmX0_gate.locals := ⟨Nat.le_refl _, Nat.le_refl _⟩
  have hl : lv_has ls 4 [(0, .ref (h 0)), (1, .int k), (2, .int a), (3, .int b)] := hl
  have hg : g ≤ 14 := hC.1
  refine lv_iload_n hx hb dX0_gate_0 rfl (lv_at hl 1 rfl) ?_
  refine lv_if_lt (tgt := 9) hx hb dX0_gate_1 (by decide) (fun c1 => ?_) (fun c1 => ?_)
  · refine lv_iconst (v := -1) hx hb dX0_gate_9 (by decide) ?_
    exact W.iret (v := (-1)) hx hb hr (fun t ht hW => ⟨⟨_, ((g, kd, f1, f2, fd, op), dv, nt, lf, lh, gr, wo, st, an, lk), rfl, ⟨false, Or.inl ⟨fun z => ((isN_iff (by decide) k).mp z).1 c1, rfl, rfl⟩, fun _ => ⟨lh, gr, wo, st, an, lk, rfl, hG⟩, fun z => (by cases z)⟩, (by show va_P D vwCl _ t.heap; rw [ht]; exact w.1)⟩, w.2.F ht⟩) w.2.2.2 dX0_gate_10
  · refine lv_iload_n hx hb dX0_gate_4 rfl (lv_at hl 1 rfl) ?_
    refine lv_iconst (v := nI 5) hx hb dX0_gate_5 (by decide) ?_
    refine lv_icmp_le (tgt := 11) hx hb dX0_gate_6 (by decide) (fun c6 => ?_) (fun c6 => ?_)
    · have hk6 : isN 6 k := (isN_iff (by decide) k).mpr ⟨c1, c6⟩
      refine lv_aload_n hx hb dX0_gate_11 rfl (lv_at hl 0 rfl) ?_
      refine lv_iload_n hx hb dX0_gate_12 rfl (lv_at hl 2 rfl) ?_
      refine g_readi (ci := 0) (q := (RX0, TX0, 15)) (rest := []) K w (metX0_isLine l D di dj h hD (g, kd, f1, f2, fd, op) dv nt lf lh gr wo st an lk hC a) (cwX0_X0_isLine hts ⟨Nat.le_trans (by decide) hR.1, Nat.le_trans (by decide) hR.2⟩) rfl rfl rfl hl.1 rfl (Nat.le_of_ble_eq_true rfl) dX0_gate_13 ⟨Nat.zero_le _, Nat.zero_le _⟩ (fun rb hL1 => ?_)
      rcases hL1 with ⟨rfl, hL1⟩ | ⟨rfl, hL1⟩
      · refine n_ifeq1 (tgt := 32) hx hb dX0_gate_16 (by decide) ?_
        refine lv_iload_n hx hb dX0_gate_19 rfl (lv_at hl 1 rfl) ?_
        refine lv_iconst (v := nI 5) hx hb dX0_gate_20 (by decide) ?_
        refine lv_icmp_eq (tgt := 35) hx hb dX0_gate_21 (by decide) (fun c21 => ?_) (fun c21 => ?_)
        · have hkb : k = nI 5 ∨ isL (cg (g, kd, f1, f2, fd, op)) b := Or.inl c21
          refine lv_aload_n hx hb dX0_gate_35 rfl (lv_at hl 0 rfl) ?_
          refine xg_gates K w dX0_gate_36 ?_
          refine n_tope (show _ = nI g from rfl) ?_
          refine lv_bipush (v := nI 14) hx hb dX0_gate_39 (by decide) ?_
          refine n_ne (tgt := 47) hx hb dX0_gate_41 (by decide) (by omega) (by omega) (fun c41 => ?_) (fun c41 => ?_)
          · refine lv_aload_n hx hb dX0_gate_47 rfl (lv_at hl 0 rfl) ?_
            refine xg_kinds K w dX0_gate_48 ?_
            refine lv_aload_n hx hb dX0_gate_51 rfl (lv_at hl 0 rfl) ?_
            refine xg_gates K w dX0_gate_52 ?_
            refine n_tope (show _ = nI g from rfl) ?_
            refine lv_iload_n hx hb dX0_gate_55 rfl (lv_at hl 1 rfl) ?_
            refine xs_kinds (k := g) K w (by omega) dX0_gate_56 (fun H locs w => ?_)
            refine lv_aload_n hx hb dX0_gate_57 rfl (lv_at hl 0 rfl) ?_
            refine xg_firsts K w dX0_gate_58 ?_
            refine lv_aload_n hx hb dX0_gate_61 rfl (lv_at hl 0 rfl) ?_
            refine xg_gates K w dX0_gate_62 ?_
            refine n_tope (show _ = nI g from rfl) ?_
            refine lv_iload_n hx hb dX0_gate_65 rfl (lv_at hl 2 rfl) ?_
            refine xs_firsts (k := g) K w (by omega) dX0_gate_66 (fun H locs w => ?_)
            refine lv_aload_n hx hb dX0_gate_67 rfl (lv_at hl 0 rfl) ?_
            refine xg_seconds K w dX0_gate_68 ?_
            refine lv_aload_n hx hb dX0_gate_71 rfl (lv_at hl 0 rfl) ?_
            refine xg_gates K w dX0_gate_72 ?_
            refine n_tope (show _ = nI g from rfl) ?_
            refine lv_iload_n hx hb dX0_gate_75 rfl (lv_at hl 1 rfl) ?_
            refine lv_iconst (v := nI 5) hx hb dX0_gate_76 (by decide) ?_
            refine lv_icmp_ne (tgt := 84) hx hb dX0_gate_77 (by decide) (fun c77 => ?_) (fun c77 => ?_)
            · exact absurd c21 c77
            · refine lv_iload_n hx hb dX0_gate_80 rfl (lv_at hl 2 rfl) ?_
              refine lv_goto (tgt := 85) hx hb dX0_gate_81 (by decide) ?_
              refine xs_seconds (k := g) K w (by omega) dX0_gate_85 (fun H locs w => ?_)
              refine lv_aload_n hx hb dX0_gate_86 rfl (lv_at hl 0 rfl) ?_
              refine lv_dup hx hb dX0_gate_87 rfl ?_
              refine xg_gates K w dX0_gate_88 ?_
              refine n_tope (show _ = nI g from rfl) ?_
              refine lv_iconst (v := nI 1) hx hb dX0_gate_91 (by decide) ?_
              refine n_iadd hx hb dX0_gate_92 ?_
              refine xp_gates K w dX0_gate_93 (fun H locs w => ?_)
              refine lv_aload_n hx hb dX0_gate_96 rfl (lv_at hl 0 rfl) ?_
              refine g_callv (ci := 0) (q := (RX0, TX0, 15)) (rest := []) K w (metX0_drop l D di dj h hD (g + 1, (upd kd g k), (upd f1 g a), (upd f2 g a), fd, op) dv nt lf lh gr wo st an lk) (cwX0_X0_drop hts ⟨Nat.le_trans (by decide) hR.1, Nat.le_trans (by decide) hR.2⟩) rfl rfl rfl hl.1 rfl (Nat.le_of_ble_eq_true rfl) dX0_gate_97 ⟨Nat.zero_le _, Nat.zero_le _⟩ (fun u H locs hp w => ?_)
              obtain rfl := hp
              refine lv_bipush (v := nI 7) hx hb dX0_gate_100 (by decide) ?_
              refine lv_aload_n hx hb dX0_gate_102 rfl (lv_at hl 0 rfl) ?_
              refine xg_gates K w dX0_gate_103 ?_
              refine n_tope (show _ = nI (g + 1) from rfl) ?_
              refine n_iadd hx hb dX0_gate_106 ?_
              refine lv_iconst (v := nI 1) hx hb dX0_gate_107 (by decide) ?_
              refine n_isub hx hb dX0_gate_108 (by omega) ?_
              exact W.iret (v := (nI ((7 + (g + 1)) - 1))) hx hb hr (fun t ht hW => ⟨⟨_, ((g + 1, (upd kd g k), (upd f1 g a), (upd f2 g a), fd, op), dv, 0, (-1), lh, 0, wo, st, an, lk), rfl, ⟨true, Or.inr (Or.inr (Or.inr ⟨hk6, hL1, hkb, c41, rfl, rfl⟩)), fun z => (by cases z), fun _ => ⟨lh, 0, wo, st, an, lk, (by rw [gateC_5 b c21]), Or.inl rfl⟩⟩, (by show va_P D vwCl _ t.heap; rw [ht]; exact w.1)⟩, w.2.F ht⟩) w.2.2.2 dX0_gate_109
          · refine lv_bipush (v := -3) hx hb dX0_gate_44 (by decide) ?_
            exact W.iret (v := (-3)) hx hb hr (fun t ht hW => ⟨⟨_, ((g, kd, f1, f2, fd, op), dv, nt, lf, lh, gr, wo, st, an, lk), rfl, ⟨false, Or.inr (Or.inr (Or.inl ⟨hk6, hL1, hkb, c41, rfl, rfl⟩)), fun _ => ⟨lh, gr, wo, st, an, lk, rfl, hG⟩, fun z => (by cases z)⟩, (by show va_P D vwCl _ t.heap; rw [ht]; exact w.1)⟩, w.2.F ht⟩) w.2.2.2 dX0_gate_46
        · refine lv_aload_n hx hb dX0_gate_24 rfl (lv_at hl 0 rfl) ?_
          refine lv_iload_n hx hb dX0_gate_25 rfl (lv_at hl 3 rfl) ?_
          refine g_readi (ci := 0) (q := (RX0, TX0, 15)) (rest := []) K w (metX0_isLine l D di dj h hD (g, kd, f1, f2, fd, op) dv nt lf lh gr wo st an lk hC b) (cwX0_X0_isLine hts ⟨Nat.le_trans (by decide) hR.1, Nat.le_trans (by decide) hR.2⟩) rfl rfl rfl hl.1 rfl (Nat.le_of_ble_eq_true rfl) dX0_gate_26 ⟨Nat.zero_le _, Nat.zero_le _⟩ (fun rb hL2 => ?_)
          rcases hL2 with ⟨rfl, hL2⟩ | ⟨rfl, hL2⟩
          · refine n_ifne1 (tgt := 35) hx hb dX0_gate_29 (by decide) ?_
            have hkb : k = nI 5 ∨ isL (cg (g, kd, f1, f2, fd, op)) b := Or.inr hL2
            refine lv_aload_n hx hb dX0_gate_35 rfl (lv_at hl 0 rfl) ?_
            refine xg_gates K w dX0_gate_36 ?_
            refine n_tope (show _ = nI g from rfl) ?_
            refine lv_bipush (v := nI 14) hx hb dX0_gate_39 (by decide) ?_
            refine n_ne (tgt := 47) hx hb dX0_gate_41 (by decide) (by omega) (by omega) (fun c41 => ?_) (fun c41 => ?_)
            · refine lv_aload_n hx hb dX0_gate_47 rfl (lv_at hl 0 rfl) ?_
              refine xg_kinds K w dX0_gate_48 ?_
              refine lv_aload_n hx hb dX0_gate_51 rfl (lv_at hl 0 rfl) ?_
              refine xg_gates K w dX0_gate_52 ?_
              refine n_tope (show _ = nI g from rfl) ?_
              refine lv_iload_n hx hb dX0_gate_55 rfl (lv_at hl 1 rfl) ?_
              refine xs_kinds (k := g) K w (by omega) dX0_gate_56 (fun H locs w => ?_)
              refine lv_aload_n hx hb dX0_gate_57 rfl (lv_at hl 0 rfl) ?_
              refine xg_firsts K w dX0_gate_58 ?_
              refine lv_aload_n hx hb dX0_gate_61 rfl (lv_at hl 0 rfl) ?_
              refine xg_gates K w dX0_gate_62 ?_
              refine n_tope (show _ = nI g from rfl) ?_
              refine lv_iload_n hx hb dX0_gate_65 rfl (lv_at hl 2 rfl) ?_
              refine xs_firsts (k := g) K w (by omega) dX0_gate_66 (fun H locs w => ?_)
              refine lv_aload_n hx hb dX0_gate_67 rfl (lv_at hl 0 rfl) ?_
              refine xg_seconds K w dX0_gate_68 ?_
              refine lv_aload_n hx hb dX0_gate_71 rfl (lv_at hl 0 rfl) ?_
              refine xg_gates K w dX0_gate_72 ?_
              refine n_tope (show _ = nI g from rfl) ?_
              refine lv_iload_n hx hb dX0_gate_75 rfl (lv_at hl 1 rfl) ?_
              refine lv_iconst (v := nI 5) hx hb dX0_gate_76 (by decide) ?_
              refine lv_icmp_ne (tgt := 84) hx hb dX0_gate_77 (by decide) (fun c77 => ?_) (fun c77 => ?_)
              · refine lv_iload_n hx hb dX0_gate_84 rfl (lv_at hl 3 rfl) ?_
                refine xs_seconds (k := g) K w (by omega) dX0_gate_85 (fun H locs w => ?_)
                refine lv_aload_n hx hb dX0_gate_86 rfl (lv_at hl 0 rfl) ?_
                refine lv_dup hx hb dX0_gate_87 rfl ?_
                refine xg_gates K w dX0_gate_88 ?_
                refine n_tope (show _ = nI g from rfl) ?_
                refine lv_iconst (v := nI 1) hx hb dX0_gate_91 (by decide) ?_
                refine n_iadd hx hb dX0_gate_92 ?_
                refine xp_gates K w dX0_gate_93 (fun H locs w => ?_)
                refine lv_aload_n hx hb dX0_gate_96 rfl (lv_at hl 0 rfl) ?_
                refine g_callv (ci := 0) (q := (RX0, TX0, 15)) (rest := []) K w (metX0_drop l D di dj h hD (g + 1, (upd kd g k), (upd f1 g a), (upd f2 g b), fd, op) dv nt lf lh gr wo st an lk) (cwX0_X0_drop hts ⟨Nat.le_trans (by decide) hR.1, Nat.le_trans (by decide) hR.2⟩) rfl rfl rfl hl.1 rfl (Nat.le_of_ble_eq_true rfl) dX0_gate_97 ⟨Nat.zero_le _, Nat.zero_le _⟩ (fun u H locs hp w => ?_)
                obtain rfl := hp
                refine lv_bipush (v := nI 7) hx hb dX0_gate_100 (by decide) ?_
                refine lv_aload_n hx hb dX0_gate_102 rfl (lv_at hl 0 rfl) ?_
                refine xg_gates K w dX0_gate_103 ?_
                refine n_tope (show _ = nI (g + 1) from rfl) ?_
                refine n_iadd hx hb dX0_gate_106 ?_
                refine lv_iconst (v := nI 1) hx hb dX0_gate_107 (by decide) ?_
                refine n_isub hx hb dX0_gate_108 (by omega) ?_
                exact W.iret (v := (nI ((7 + (g + 1)) - 1))) hx hb hr (fun t ht hW => ⟨⟨_, ((g + 1, (upd kd g k), (upd f1 g a), (upd f2 g b), fd, op), dv, 0, (-1), lh, 0, wo, st, an, lk), rfl, ⟨true, Or.inr (Or.inr (Or.inr ⟨hk6, hL1, hkb, c41, rfl, rfl⟩)), fun z => (by cases z), fun _ => ⟨lh, 0, wo, st, an, lk, (by rw [gateC_n a b c21]), Or.inl rfl⟩⟩, (by show va_P D vwCl _ t.heap; rw [ht]; exact w.1)⟩, w.2.F ht⟩) w.2.2.2 dX0_gate_109
              · exact absurd c77 c21
            · refine lv_bipush (v := -3) hx hb dX0_gate_44 (by decide) ?_
              exact W.iret (v := (-3)) hx hb hr (fun t ht hW => ⟨⟨_, ((g, kd, f1, f2, fd, op), dv, nt, lf, lh, gr, wo, st, an, lk), rfl, ⟨false, Or.inr (Or.inr (Or.inl ⟨hk6, hL1, hkb, c41, rfl, rfl⟩)), fun _ => ⟨lh, gr, wo, st, an, lk, rfl, hG⟩, fun z => (by cases z)⟩, (by show va_P D vwCl _ t.heap; rw [ht]; exact w.1)⟩, w.2.F ht⟩) w.2.2.2 dX0_gate_46
          · refine n_ifne0 (tgt := 35) hx hb dX0_gate_29 (by decide) ?_
            refine lv_bipush (v := -2) hx hb dX0_gate_32 (by decide) ?_
            exact W.iret (v := (-2)) hx hb hr (fun t ht hW => ⟨⟨_, ((g, kd, f1, f2, fd, op), dv, nt, lf, lh, gr, wo, st, an, lk), rfl, ⟨false, Or.inr (Or.inl ⟨hk6, Or.inr ⟨c21, hL2⟩, rfl, rfl⟩), fun _ => ⟨lh, gr, wo, st, an, lk, rfl, hG⟩, fun z => (by cases z)⟩, (by show va_P D vwCl _ t.heap; rw [ht]; exact w.1)⟩, w.2.F ht⟩) w.2.2.2 dX0_gate_34
      · refine n_ifeq0 (tgt := 32) hx hb dX0_gate_16 (by decide) ?_
        refine lv_bipush (v := -2) hx hb dX0_gate_32 (by decide) ?_
        exact W.iret (v := (-2)) hx hb hr (fun t ht hW => ⟨⟨_, ((g, kd, f1, f2, fd, op), dv, nt, lf, lh, gr, wo, st, an, lk), rfl, ⟨false, Or.inr (Or.inl ⟨hk6, Or.inl hL1, rfl, rfl⟩), fun _ => ⟨lh, gr, wo, st, an, lk, rfl, hG⟩, fun z => (by cases z)⟩, (by show va_P D vwCl _ t.heap; rw [ht]; exact w.1)⟩, w.2.F ht⟩) w.2.2.2 dX0_gate_34
    · refine lv_iconst (v := -1) hx hb dX0_gate_9 (by decide) ?_
      exact W.iret (v := (-1)) hx hb hr (fun t ht hW => ⟨⟨_, ((g, kd, f1, f2, fd, op), dv, nt, lf, lh, gr, wo, st, an, lk), rfl, ⟨false, Or.inl ⟨fun z => c6 ((isN_iff (by decide) k).mp z).2, rfl, rfl⟩, fun _ => ⟨lh, gr, wo, st, an, lk, rfl, hG⟩, fun z => (by cases z)⟩, (by show va_P D vwCl _ t.heap; rw [ht]; exact w.1)⟩, w.2.F ht⟩) w.2.2.2 dX0_gate_10
set_option maxHeartbeats 4000000 in
set_option maxRecDepth 100000 in
/-- feed(k, a) -/
theorem metX0_feed (l : Launch) (D : va_G) (di dj : ClassId) (h : Nat → Nat) (hD : xD h) (C : Cfg) (dv : Int32) (nt : Nat) (lf lh : Int64) (gr : Nat) (wo st an lk : Nat → Int64) (hC : CW C) (hG : gr = 0 ∨ gr = 1 ∧ GI C lh lk) (k a : Int32) : Met l yX0_feed (ws_ yX0_feed cX0_feed 4 (some .int)) rmX0_feed (GPc D (tyX di dj) h [.int k, .int a] (wX di dj h (C, dv, nt, lf, lh, gr, wo, st, an, lk))) (GQi D h (wX di dj h) (fun r u => ∃ ob, Rput C 3 (cfd C) k a r ob ∧ (ob = none → XK C dv nt lf u) ∧ ∀ j, ob = some j → XK (feedC C j a) dv 0 (-1) u)) 0 0 (xB h) := by
  obtain ⟨g, kd, f1, f2, fd, op⟩ := C
  refine g_met (own := RX0) rfl (by decide) hD (Nat.le_of_ble_eq_true rfl) ?_
  intro p e s m args below meth c ls K hr hlk w hl
  obtain ⟨hx, hb, hml, hown, hts, hK, -⟩ := id K
  have hR : rmX0_feed.frames ≤ rmX0_feed.frames ∧ rmX0_feed.locals ≤ rmX0_feed.locals := ⟨Nat.le_refl _, Nat.le_refl _⟩
  have hl : lv_has ls 4 [(0, .ref (h 0)), (1, .int k), (2, .int a)] := hl
  refine lv_iload_n hx hb dX0_feed_0 rfl (lv_at hl 1 rfl) ?_
  refine lv_if_lt (tgt := 9) hx hb dX0_feed_1 (by decide) (fun c1 => ?_) (fun c1 => ?_)
  · refine lv_iconst (v := -1) hx hb dX0_feed_9 (by decide) ?_
    exact W.iret (v := (-1)) hx hb hr (fun t ht hW => ⟨⟨_, ((g, kd, f1, f2, fd, op), dv, nt, lf, lh, gr, wo, st, an, lk), rfl, ⟨none, Or.inl ⟨fun z => ((isN_iff (by decide) k).mp z).1 c1, rfl, rfl⟩, fun _ => ⟨lh, gr, wo, st, an, lk, rfl, hG⟩, fun _ z => (by cases z)⟩, (by show va_P D vwCl _ t.heap; rw [ht]; exact w.1)⟩, w.2.F ht⟩) w.2.2.2 dX0_feed_10
  · refine lv_iload_n hx hb dX0_feed_4 rfl (lv_at hl 1 rfl) ?_
    refine lv_iconst (v := nI 2) hx hb dX0_feed_5 (by decide) ?_
    refine lv_icmp_le (tgt := 11) hx hb dX0_feed_6 (by decide) (fun c6 => ?_) (fun c6 => ?_)
    · have hk9 : isN 3 k := (isN_iff (by decide) k).mpr ⟨c1, c6⟩
      obtain ⟨j, hj, rfl⟩ := hk9
      refine lv_aload_n hx hb dX0_feed_11 rfl (lv_at hl 0 rfl) ?_
      refine lv_iload_n hx hb dX0_feed_12 rfl (lv_at hl 2 rfl) ?_
      refine g_readi (ci := 0) (q := (RX0, TX0, 15)) (rest := []) K w (metX0_isLine l D di dj h hD (g, kd, f1, f2, fd, op) dv nt lf lh gr wo st an lk hC a) (cwX0_X0_isLine hts ⟨Nat.le_trans (by decide) hR.1, Nat.le_trans (by decide) hR.2⟩) rfl rfl rfl hl.1 rfl (Nat.le_of_ble_eq_true rfl) dX0_feed_13 ⟨Nat.zero_le _, Nat.zero_le _⟩ (fun rb hL1 => ?_)
      rcases hL1 with ⟨rfl, hL1⟩ | ⟨rfl, hL1⟩
      · refine n_ifne1 (tgt := 22) hx hb dX0_feed_16 (by decide) ?_
        refine lv_aload_n hx hb dX0_feed_22 rfl (lv_at hl 0 rfl) ?_
        refine xg_feeds K w dX0_feed_23 ?_
        refine lv_iload_n hx hb dX0_feed_26 rfl (lv_at hl 1 rfl) ?_
        refine xl_feeds (k := j) K w (by omega) dX0_feed_27 ?_
        refine lv_istore_n (lv' := [(3, .int (cfd (g, kd, f1, f2, fd, op) j)), (0, .ref (h 0)), (1, .int (nI j)), (2, .int a)]) hx hb dX0_feed_28 rfl hl (by decide) rfl (fun ls hl => ?_)
        refine lv_aload_n hx hb dX0_feed_29 rfl (lv_at hl 1 rfl) ?_
        refine xg_feeds K w dX0_feed_30 ?_
        refine lv_iload_n hx hb dX0_feed_33 rfl (lv_at hl 2 rfl) ?_
        refine lv_iload_n hx hb dX0_feed_34 rfl (lv_at hl 3 rfl) ?_
        refine xs_feeds (k := j) K w (by omega) dX0_feed_35 (fun H locs w => ?_)
        refine lv_aload_n hx hb dX0_feed_36 rfl (lv_at hl 1 rfl) ?_
        refine g_callv (ci := 0) (q := (RX0, TX0, 15)) (rest := []) K w (metX0_drop l D di dj h hD (g, kd, f1, f2, (upd fd j a), op) dv nt lf lh gr wo st an lk) (cwX0_X0_drop hts ⟨Nat.le_trans (by decide) hR.1, Nat.le_trans (by decide) hR.2⟩) rfl rfl rfl hl.1 rfl (Nat.le_of_ble_eq_true rfl) dX0_feed_37 ⟨Nat.zero_le _, Nat.zero_le _⟩ (fun u H locs hp w => ?_)
        obtain rfl := hp
        refine lv_iload_n hx hb dX0_feed_40 rfl (lv_at hl 0 rfl) ?_
        exact W.iret (v := (cfd (g, kd, f1, f2, fd, op) j)) hx hb hr (fun t ht hW => ⟨⟨_, ((g, kd, f1, f2, (upd fd j a), op), dv, 0, (-1), lh, 0, wo, st, an, lk), rfl, ⟨some j, Or.inr (Or.inr ⟨hL1, j, hj, rfl, rfl, rfl⟩), fun z => (by cases z), fun j2 z => (by cases z; exact ⟨lh, 0, wo, st, an, lk, rfl, Or.inl rfl⟩)⟩, (by show va_P D vwCl _ t.heap; rw [ht]; exact w.1)⟩, w.2.F ht⟩) w.2.2.2 dX0_feed_41
      · refine n_ifne0 (tgt := 22) hx hb dX0_feed_16 (by decide) ?_
        refine lv_bipush (v := -2) hx hb dX0_feed_19 (by decide) ?_
        exact W.iret (v := (-2)) hx hb hr (fun t ht hW => ⟨⟨_, ((g, kd, f1, f2, fd, op), dv, nt, lf, lh, gr, wo, st, an, lk), rfl, ⟨none, Or.inr (Or.inl ⟨⟨j, hj, rfl⟩, hL1, rfl, rfl⟩), fun _ => ⟨lh, gr, wo, st, an, lk, rfl, hG⟩, fun _ z => (by cases z)⟩, (by show va_P D vwCl _ t.heap; rw [ht]; exact w.1)⟩, w.2.F ht⟩) w.2.2.2 dX0_feed_21
    · refine lv_iconst (v := -1) hx hb dX0_feed_9 (by decide) ?_
      exact W.iret (v := (-1)) hx hb hr (fun t ht hW => ⟨⟨_, ((g, kd, f1, f2, fd, op), dv, nt, lf, lh, gr, wo, st, an, lk), rfl, ⟨none, Or.inl ⟨fun z => c6 ((isN_iff (by decide) k).mp z).2, rfl, rfl⟩, fun _ => ⟨lh, gr, wo, st, an, lk, rfl, hG⟩, fun _ z => (by cases z)⟩, (by show va_P D vwCl _ t.heap; rw [ht]; exact w.1)⟩, w.2.F ht⟩) w.2.2.2 dX0_feed_10
set_option maxHeartbeats 4000000 in
set_option maxRecDepth 100000 in
/-- output(k, a) -/
theorem metX0_output (l : Launch) (D : va_G) (di dj : ClassId) (h : Nat → Nat) (hD : xD h) (C : Cfg) (dv : Int32) (nt : Nat) (lf lh : Int64) (gr : Nat) (wo st an lk : Nat → Int64) (hC : CW C) (hG : gr = 0 ∨ gr = 1 ∧ GI C lh lk) (k a : Int32) : Met l yX0_output (ws_ yX0_output cX0_output 4 (some .int)) rmX0_output (GPc D (tyX di dj) h [.int k, .int a] (wX di dj h (C, dv, nt, lf, lh, gr, wo, st, an, lk))) (GQi D h (wX di dj h) (fun r u => ∃ ob, Rput C 2 (cop C) k a r ob ∧ (ob = none → XK C dv nt lf u) ∧ ∀ j, ob = some j → XK (outC C j a) dv 0 (-1) u)) 0 0 (xB h) := by
  obtain ⟨g, kd, f1, f2, fd, op⟩ := C
  refine g_met (own := RX0) rfl (by decide) hD (Nat.le_of_ble_eq_true rfl) ?_
  intro p e s m args below meth c ls K hr hlk w hl
  obtain ⟨hx, hb, hml, hown, hts, hK, -⟩ := id K
  have hR : rmX0_output.frames ≤ rmX0_output.frames ∧ rmX0_output.locals ≤ rmX0_output.locals := ⟨Nat.le_refl _, Nat.le_refl _⟩
  have hl : lv_has ls 4 [(0, .ref (h 0)), (1, .int k), (2, .int a)] := hl
  refine lv_iload_n hx hb dX0_output_0 rfl (lv_at hl 1 rfl) ?_
  refine lv_if_eq (tgt := 11) hx hb dX0_output_1 (by decide) (fun c1 => ?_) (fun c1 => ?_)
  · have hk9 : isN 2 k := ⟨0, by decide, c1⟩
    obtain ⟨j, hj, rfl⟩ := hk9
    refine lv_aload_n hx hb dX0_output_11 rfl (lv_at hl 0 rfl) ?_
    refine lv_iload_n hx hb dX0_output_12 rfl (lv_at hl 2 rfl) ?_
    refine g_readi (ci := 0) (q := (RX0, TX0, 15)) (rest := []) K w (metX0_isLine l D di dj h hD (g, kd, f1, f2, fd, op) dv nt lf lh gr wo st an lk hC a) (cwX0_X0_isLine hts ⟨Nat.le_trans (by decide) hR.1, Nat.le_trans (by decide) hR.2⟩) rfl rfl rfl hl.1 rfl (Nat.le_of_ble_eq_true rfl) dX0_output_13 ⟨Nat.zero_le _, Nat.zero_le _⟩ (fun rb hL1 => ?_)
    rcases hL1 with ⟨rfl, hL1⟩ | ⟨rfl, hL1⟩
    · refine n_ifne1 (tgt := 22) hx hb dX0_output_16 (by decide) ?_
      refine lv_aload_n hx hb dX0_output_22 rfl (lv_at hl 0 rfl) ?_
      refine xg_outputs K w dX0_output_23 ?_
      refine lv_iload_n hx hb dX0_output_26 rfl (lv_at hl 1 rfl) ?_
      refine xl_outputs (k := j) K w (by omega) dX0_output_27 ?_
      refine lv_istore_n (lv' := [(3, .int (cop (g, kd, f1, f2, fd, op) j)), (0, .ref (h 0)), (1, .int (nI j)), (2, .int a)]) hx hb dX0_output_28 rfl hl (by decide) rfl (fun ls hl => ?_)
      refine lv_aload_n hx hb dX0_output_29 rfl (lv_at hl 1 rfl) ?_
      refine xg_outputs K w dX0_output_30 ?_
      refine lv_iload_n hx hb dX0_output_33 rfl (lv_at hl 2 rfl) ?_
      refine lv_iload_n hx hb dX0_output_34 rfl (lv_at hl 3 rfl) ?_
      refine xs_outputs (k := j) K w (by omega) dX0_output_35 (fun H locs w => ?_)
      refine lv_aload_n hx hb dX0_output_36 rfl (lv_at hl 1 rfl) ?_
      refine g_callv (ci := 0) (q := (RX0, TX0, 15)) (rest := []) K w (metX0_drop l D di dj h hD (g, kd, f1, f2, fd, (upd op j a)) dv nt lf lh gr wo st an lk) (cwX0_X0_drop hts ⟨Nat.le_trans (by decide) hR.1, Nat.le_trans (by decide) hR.2⟩) rfl rfl rfl hl.1 rfl (Nat.le_of_ble_eq_true rfl) dX0_output_37 ⟨Nat.zero_le _, Nat.zero_le _⟩ (fun u H locs hp w => ?_)
      obtain rfl := hp
      refine lv_iload_n hx hb dX0_output_40 rfl (lv_at hl 0 rfl) ?_
      exact W.iret (v := (cop (g, kd, f1, f2, fd, op) j)) hx hb hr (fun t ht hW => ⟨⟨_, ((g, kd, f1, f2, fd, (upd op j a)), dv, 0, (-1), lh, 0, wo, st, an, lk), rfl, ⟨some j, Or.inr (Or.inr ⟨hL1, j, hj, rfl, rfl, rfl⟩), fun z => (by cases z), fun j2 z => (by cases z; exact ⟨lh, 0, wo, st, an, lk, rfl, Or.inl rfl⟩)⟩, (by show va_P D vwCl _ t.heap; rw [ht]; exact w.1)⟩, w.2.F ht⟩) w.2.2.2 dX0_output_41
    · refine n_ifne0 (tgt := 22) hx hb dX0_output_16 (by decide) ?_
      refine lv_bipush (v := -2) hx hb dX0_output_19 (by decide) ?_
      exact W.iret (v := (-2)) hx hb hr (fun t ht hW => ⟨⟨_, ((g, kd, f1, f2, fd, op), dv, nt, lf, lh, gr, wo, st, an, lk), rfl, ⟨none, Or.inr (Or.inl ⟨⟨j, hj, rfl⟩, hL1, rfl, rfl⟩), fun _ => ⟨lh, gr, wo, st, an, lk, rfl, hG⟩, fun _ z => (by cases z)⟩, (by show va_P D vwCl _ t.heap; rw [ht]; exact w.1)⟩, w.2.F ht⟩) w.2.2.2 dX0_output_21
  · refine lv_iload_n hx hb dX0_output_4 rfl (lv_at hl 1 rfl) ?_
    refine lv_iconst (v := nI 1) hx hb dX0_output_5 (by decide) ?_
    refine lv_icmp_eq (tgt := 11) hx hb dX0_output_6 (by decide) (fun c6 => ?_) (fun c6 => ?_)
    · have hk9 : isN 2 k := ⟨1, by decide, c6⟩
      obtain ⟨j, hj, rfl⟩ := hk9
      refine lv_aload_n hx hb dX0_output_11 rfl (lv_at hl 0 rfl) ?_
      refine lv_iload_n hx hb dX0_output_12 rfl (lv_at hl 2 rfl) ?_
      refine g_readi (ci := 0) (q := (RX0, TX0, 15)) (rest := []) K w (metX0_isLine l D di dj h hD (g, kd, f1, f2, fd, op) dv nt lf lh gr wo st an lk hC a) (cwX0_X0_isLine hts ⟨Nat.le_trans (by decide) hR.1, Nat.le_trans (by decide) hR.2⟩) rfl rfl rfl hl.1 rfl (Nat.le_of_ble_eq_true rfl) dX0_output_13 ⟨Nat.zero_le _, Nat.zero_le _⟩ (fun rb hL1 => ?_)
      rcases hL1 with ⟨rfl, hL1⟩ | ⟨rfl, hL1⟩
      · refine n_ifne1 (tgt := 22) hx hb dX0_output_16 (by decide) ?_
        refine lv_aload_n hx hb dX0_output_22 rfl (lv_at hl 0 rfl) ?_
        refine xg_outputs K w dX0_output_23 ?_
        refine lv_iload_n hx hb dX0_output_26 rfl (lv_at hl 1 rfl) ?_
        refine xl_outputs (k := j) K w (by omega) dX0_output_27 ?_
        refine lv_istore_n (lv' := [(3, .int (cop (g, kd, f1, f2, fd, op) j)), (0, .ref (h 0)), (1, .int (nI j)), (2, .int a)]) hx hb dX0_output_28 rfl hl (by decide) rfl (fun ls hl => ?_)
        refine lv_aload_n hx hb dX0_output_29 rfl (lv_at hl 1 rfl) ?_
        refine xg_outputs K w dX0_output_30 ?_
        refine lv_iload_n hx hb dX0_output_33 rfl (lv_at hl 2 rfl) ?_
        refine lv_iload_n hx hb dX0_output_34 rfl (lv_at hl 3 rfl) ?_
        refine xs_outputs (k := j) K w (by omega) dX0_output_35 (fun H locs w => ?_)
        refine lv_aload_n hx hb dX0_output_36 rfl (lv_at hl 1 rfl) ?_
        refine g_callv (ci := 0) (q := (RX0, TX0, 15)) (rest := []) K w (metX0_drop l D di dj h hD (g, kd, f1, f2, fd, (upd op j a)) dv nt lf lh gr wo st an lk) (cwX0_X0_drop hts ⟨Nat.le_trans (by decide) hR.1, Nat.le_trans (by decide) hR.2⟩) rfl rfl rfl hl.1 rfl (Nat.le_of_ble_eq_true rfl) dX0_output_37 ⟨Nat.zero_le _, Nat.zero_le _⟩ (fun u H locs hp w => ?_)
        obtain rfl := hp
        refine lv_iload_n hx hb dX0_output_40 rfl (lv_at hl 0 rfl) ?_
        exact W.iret (v := (cop (g, kd, f1, f2, fd, op) j)) hx hb hr (fun t ht hW => ⟨⟨_, ((g, kd, f1, f2, fd, (upd op j a)), dv, 0, (-1), lh, 0, wo, st, an, lk), rfl, ⟨some j, Or.inr (Or.inr ⟨hL1, j, hj, rfl, rfl, rfl⟩), fun z => (by cases z), fun j2 z => (by cases z; exact ⟨lh, 0, wo, st, an, lk, rfl, Or.inl rfl⟩)⟩, (by show va_P D vwCl _ t.heap; rw [ht]; exact w.1)⟩, w.2.F ht⟩) w.2.2.2 dX0_output_41
      · refine n_ifne0 (tgt := 22) hx hb dX0_output_16 (by decide) ?_
        refine lv_bipush (v := -2) hx hb dX0_output_19 (by decide) ?_
        exact W.iret (v := (-2)) hx hb hr (fun t ht hW => ⟨⟨_, ((g, kd, f1, f2, fd, op), dv, nt, lf, lh, gr, wo, st, an, lk), rfl, ⟨none, Or.inr (Or.inl ⟨⟨j, hj, rfl⟩, hL1, rfl, rfl⟩), fun _ => ⟨lh, gr, wo, st, an, lk, rfl, hG⟩, fun _ z => (by cases z)⟩, (by show va_P D vwCl _ t.heap; rw [ht]; exact w.1)⟩, w.2.F ht⟩) w.2.2.2 dX0_output_21
    · refine lv_iconst (v := -1) hx hb dX0_output_9 (by decide) ?_
      exact W.iret (v := (-1)) hx hb hr (fun t ht hW => ⟨⟨_, ((g, kd, f1, f2, fd, op), dv, nt, lf, lh, gr, wo, st, an, lk), rfl, ⟨none, Or.inl ⟨isN2_no c1 c6, rfl, rfl⟩, fun _ => ⟨lh, gr, wo, st, an, lk, rfl, hG⟩, fun _ z => (by cases z)⟩, (by show va_P D vwCl _ t.heap; rw [ht]; exact w.1)⟩, w.2.F ht⟩) w.2.2.2 dX0_output_10
set_option maxHeartbeats 4000000 in
set_option maxRecDepth 100000 in
/-- inject(a) -/
theorem metX0_inject (l : Launch) (D : va_G) (di dj : ClassId) (h : Nat → Nat) (hD : xD h) (C : Cfg) (dv : Int32) (nt : Nat) (lf lh : Int64) (gr : Nat) (wo st an lk : Nat → Int64) (hC : CW C) (hG : gr = 0 ∨ gr = 1 ∧ GI C lh lk) (a : Int32) : Met l yX0_inject (ws_ yX0_inject cX0_inject 2 (some .int)) rmX0_inject (GPc D (tyX di dj) h [.int a] (wX di dj h (C, dv, nt, lf, lh, gr, wo, st, an, lk))) (GQi D h (wX di dj h) (fun r u => ∃ ok, Rinj C a r ok ∧ (ok = false → XK C dv nt lf u) ∧ (ok = true → XK C a 0 (-1) u))) 0 0 (xB h) := by
  refine g_met (own := RX0) rfl (by decide) hD (Nat.le_of_ble_eq_true rfl) ?_
  intro p e s m args below meth c ls K hr hlk w hl
  obtain ⟨hx, hb, hml, hown, hts, hK, -⟩ := id K
  have hR : rmX0_inject.frames ≤ rmX0_inject.frames ∧ rmX0_inject.locals ≤ rmX0_inject.locals := ⟨Nat.le_refl _, Nat.le_refl _⟩
  have hl : lv_has ls 2 [(0, .ref (h 0)), (1, .int a)] := hl
  refine lv_iload_n hx hb dX0_inject_0 rfl (lv_at hl 1 rfl) ?_
  refine lv_iconst (v := -1) hx hb dX0_inject_1 (by decide) ?_
  refine lv_icmp_eq (tgt := 15) hx hb dX0_inject_2 (by decide) (fun c2 => ?_) (fun c2 => ?_)
  · refine lv_aload_n hx hb dX0_inject_15 rfl (lv_at hl 0 rfl) ?_
    refine lv_iload_n hx hb dX0_inject_16 rfl (lv_at hl 1 rfl) ?_
    refine xp_device K w dX0_inject_17 (fun H locs w => ?_)
    refine lv_aload_n hx hb dX0_inject_20 rfl (lv_at hl 0 rfl) ?_
    refine g_callv (ci := 0) (q := (RX0, TX0, 15)) (rest := []) K w (metX0_drop l D di dj h hD C a nt lf lh gr wo st an lk) (cwX0_X0_drop hts ⟨Nat.le_trans (by decide) hR.1, Nat.le_trans (by decide) hR.2⟩) rfl rfl rfl hl.1 rfl (Nat.le_of_ble_eq_true rfl) dX0_inject_21 ⟨Nat.zero_le _, Nat.zero_le _⟩ (fun u H locs hp w => ?_)
    obtain rfl := hp
    refine lv_iconst (v := nI 0) hx hb dX0_inject_24 (by decide) ?_
    exact W.iret (v := (nI 0)) hx hb hr (fun t ht hW => ⟨⟨_, (C, a, 0, (-1), lh, 0, wo, st, an, lk), rfl, ⟨true, Or.inr ⟨Or.inl c2, rfl, rfl⟩, fun z => (by cases z), fun _ => ⟨lh, 0, wo, st, an, lk, rfl, Or.inl rfl⟩⟩, (by show va_P D vwCl _ t.heap; rw [ht]; exact w.1)⟩, w.2.F ht⟩) w.2.2.2 dX0_inject_25
  · refine lv_aload_n hx hb dX0_inject_5 rfl (lv_at hl 0 rfl) ?_
    refine lv_iload_n hx hb dX0_inject_6 rfl (lv_at hl 1 rfl) ?_
    refine g_readi (ci := 0) (q := (RX0, TX0, 15)) (rest := []) K w (metX0_isFault l D di dj h hD C dv nt lf lh gr wo st an lk hC a) (cwX0_X0_isFault hts ⟨Nat.le_trans (by decide) hR.1, Nat.le_trans (by decide) hR.2⟩) rfl rfl rfl hl.1 rfl (Nat.le_of_ble_eq_true rfl) dX0_inject_7 ⟨Nat.zero_le _, Nat.zero_le _⟩ (fun rb hf1 => ?_)
    rcases hf1 with ⟨rfl, hf1⟩ | ⟨rfl, hf1⟩
    · refine n_ifne1 (tgt := 15) hx hb dX0_inject_10 (by decide) ?_
      refine lv_aload_n hx hb dX0_inject_15 rfl (lv_at hl 0 rfl) ?_
      refine lv_iload_n hx hb dX0_inject_16 rfl (lv_at hl 1 rfl) ?_
      refine xp_device K w dX0_inject_17 (fun H locs w => ?_)
      refine lv_aload_n hx hb dX0_inject_20 rfl (lv_at hl 0 rfl) ?_
      refine g_callv (ci := 0) (q := (RX0, TX0, 15)) (rest := []) K w (metX0_drop l D di dj h hD C a nt lf lh gr wo st an lk) (cwX0_X0_drop hts ⟨Nat.le_trans (by decide) hR.1, Nat.le_trans (by decide) hR.2⟩) rfl rfl rfl hl.1 rfl (Nat.le_of_ble_eq_true rfl) dX0_inject_21 ⟨Nat.zero_le _, Nat.zero_le _⟩ (fun u H locs hp w => ?_)
      obtain rfl := hp
      refine lv_iconst (v := nI 0) hx hb dX0_inject_24 (by decide) ?_
      exact W.iret (v := (nI 0)) hx hb hr (fun t ht hW => ⟨⟨_, (C, a, 0, (-1), lh, 0, wo, st, an, lk), rfl, ⟨true, Or.inr ⟨Or.inr hf1, rfl, rfl⟩, fun z => (by cases z), fun _ => ⟨lh, 0, wo, st, an, lk, rfl, Or.inl rfl⟩⟩, (by show va_P D vwCl _ t.heap; rw [ht]; exact w.1)⟩, w.2.F ht⟩) w.2.2.2 dX0_inject_25
    · refine n_ifne0 (tgt := 15) hx hb dX0_inject_10 (by decide) ?_
      refine lv_iconst (v := -1) hx hb dX0_inject_13 (by decide) ?_
      exact W.iret (v := (-1)) hx hb hr (fun t ht hW => ⟨⟨_, (C, dv, nt, lf, lh, gr, wo, st, an, lk), rfl, ⟨false, Or.inl ⟨c2, hf1, rfl, rfl⟩, fun _ => ⟨lh, gr, wo, st, an, lk, rfl, hG⟩, fun z => (by cases z)⟩, (by show va_P D vwCl _ t.heap; rw [ht]; exact w.1)⟩, w.2.F ht⟩) w.2.2.2 dX0_inject_14
end
section
/-! the model: rooms, call words; its small methods -/
set_option maxRecDepth 100000
abbrev rmX1_gate : Room := { frames := 2, cells := 0, slots := 0, locals := 41 }
abbrev rmX1_badLine : Room := { frames := 1, cells := 0, slots := 0, locals := 20 }
abbrev rmX1_lineCount : Room := { frames := 0, cells := 0, slots := 0, locals := 0 }
abbrev rmX1_feed : Room := { frames := 2, cells := 0, slots := 0, locals := 41 }
abbrev rmX1_output : Room := { frames := 2, cells := 0, slots := 0, locals := 41 }
abbrev rmX1_lines : Room := { frames := 1, cells := 0, slots := 0, locals := 20 }
abbrev rmX1_inject : Room := { frames := 2, cells := 0, slots := 0, locals := 41 }
abbrev rmX1_badFault : Room := { frames := 1, cells := 0, slots := 0, locals := 20 }
abbrev rmX1_observe : Room := { frames := 3, cells := 0, slots := 0, locals := 74 }
abbrev rmX1_badPattern : Room := { frames := 0, cells := 0, slots := 0, locals := 0 }
abbrev rmX1_badCycles : Room := { frames := 0, cells := 0, slots := 0, locals := 0 }
abbrev rmX1_run : Room := { frames := 2, cells := 0, slots := 0, locals := 48 }
abbrev rmX1_settle : Room := { frames := 1, cells := 0, slots := 0, locals := 23 }
abbrev rmX1_gateValue : Room := { frames := 0, cells := 0, slots := 0, locals := 0 }
abbrev rmX1_forget : Room := { frames := 0, cells := 0, slots := 0, locals := 0 }
abbrev rmX1_observations : Room := { frames := 0, cells := 0, slots := 0, locals := 0 }
abbrev rmX1_response : Room := { frames := 3, cells := 0, slots := 0, locals := 74 }
abbrev rmX1_responseWith : Room := { frames := 3, cells := 0, slots := 0, locals := 74 }
abbrev rmX1_candidates : Room := { frames := 4, cells := 0, slots := 0, locals := 97 }
abbrev rmX1_explains : Room := { frames := 3, cells := 0, slots := 0, locals := 74 }
abbrev rmX1_candidate : Room := { frames := 4, cells := 0, slots := 0, locals := 97 }
abbrev rmX1_healthy : Room := { frames := 4, cells := 0, slots := 0, locals := 97 }
abbrev rmX1_nextPattern : Room := { frames := 4, cells := 0, slots := 0, locals := 97 }
abbrev rmX1_detected : Room := { frames := 3, cells := 0, slots := 0, locals := 74 }
abbrev rmX1_hidden : Room := { frames := 4, cells := 0, slots := 0, locals := 99 }
abbrev rmX1_alike : Room := { frames := 3, cells := 0, slots := 0, locals := 74 }
abbrev rmX1_leader : Room := { frames := 5, cells := 0, slots := 0, locals := 121 }
abbrev rmX1_earliest : Room := { frames := 4, cells := 0, slots := 0, locals := 99 }
abbrev rmX1_groups : Room := { frames := 5, cells := 0, slots := 0, locals := 121 }
abbrev rmX1_candidateGroups : Room := { frames := 5, cells := 0, slots := 0, locals := 121 }
abbrev rmX1_possible : Room := { frames := 4, cells := 0, slots := 0, locals := 99 }
theorem cwX1_X1_badLine {R : Room} {s : State} {args : Array Value} (hts : ∀ w ∈ lw_all, w.before args s = true) (hR : rmX1_badLine.frames + 1 ≤ R.frames ∧ 8 + (2 + 11) + rmX1_badLine.locals ≤ R.locals) : CallW R s args RX1 RX1 48 yX1_badLine cX1_badLine 2 (some .boolean) (ws_ yX1_badLine cX1_badLine 2 (some .boolean)) rmX1_badLine 0 0 1 := cwV 1 hts (lw_V q267 q269 qs10 q24 q270) rfl rfl rfl (by decide +kernel) hR
theorem cwX1_X1_lineCount {R : Room} {s : State} {args : Array Value} (hts : ∀ w ∈ lw_all, w.before args s = true) (hR : rmX1_lineCount.frames + 1 ≤ R.frames ∧ 8 + (1 + 11) + rmX1_lineCount.locals ≤ R.locals) : CallW R s args RX1 RX1 44 yX1_lineCount cX1_lineCount 1 (some .int) (ws_ yX1_lineCount cX1_lineCount 1 (some .int)) rmX1_lineCount 0 0 0 := cwV 0 hts (lw_V q271 q273 qs11 q24 q274) rfl rfl rfl (by decide +kernel) hR
theorem cwX1_X1_badFault {R : Room} {s : State} {args : Array Value} (hts : ∀ w ∈ lw_all, w.before args s = true) (hR : rmX1_badFault.frames + 1 ≤ R.frames ∧ 8 + (2 + 11) + rmX1_badFault.locals ≤ R.locals) : CallW R s args RX1 RX1 63 yX1_badFault cX1_badFault 2 (some .boolean) (ws_ yX1_badFault cX1_badFault 2 (some .boolean)) rmX1_badFault 0 0 1 := cwV 1 hts (lw_V q291 q293 qs12 q24 q294) rfl rfl rfl (by decide +kernel) hR
theorem cwX1_X1_badPattern {R : Room} {s : State} {args : Array Value} (hts : ∀ w ∈ lw_all, w.before args s = true) (hR : rmX1_badPattern.frames + 1 ≤ R.frames ∧ 8 + (2 + 11) + rmX1_badPattern.locals ≤ R.locals) : CallW R s args RX1 RX1 66 yX1_badPattern cX1_badPattern 2 (some .boolean) (ws_ yX1_badPattern cX1_badPattern 2 (some .boolean)) rmX1_badPattern 0 0 1 := cwV 1 hts (lw_V q299 q301 qs13 q24 q302) rfl rfl rfl (by decide +kernel) hR
theorem cwX1_X1_badCycles {R : Room} {s : State} {args : Array Value} (hts : ∀ w ∈ lw_all, w.before args s = true) (hR : rmX1_badCycles.frames + 1 ≤ R.frames ∧ 8 + (2 + 11) + rmX1_badCycles.locals ≤ R.locals) : CallW R s args RX1 RX1 69 yX1_badCycles cX1_badCycles 2 (some .boolean) (ws_ yX1_badCycles cX1_badCycles 2 (some .boolean)) rmX1_badCycles 0 0 1 := cwV 1 hts (lw_V q303 q305 qs14 q24 q306) rfl rfl rfl (by decide +kernel) hR
theorem cwX1_X1_run {R : Room} {s : State} {args : Array Value} (hts : ∀ w ∈ lw_all, w.before args s = true) (hR : rmX1_run.frames + 1 ≤ R.frames ∧ 8 + (7 + 11) + rmX1_run.locals ≤ R.locals) : CallW R s args RX1 RX1 72 yX1_run cX1_run 7 (some .int) (ws_ yX1_run cX1_run 7 (some .int)) rmX1_run 0 0 3 := cwV 3 hts (lw_V q307 q309 qs15 q24 q310) rfl rfl rfl (by decide +kernel) hR
theorem cwX1_X1_settle {R : Room} {s : State} {args : Array Value} (hts : ∀ w ∈ lw_all, w.before args s = true) (hR : rmX1_settle.frames + 1 ≤ R.frames ∧ 8 + (6 + 11) + rmX1_settle.locals ≤ R.locals) : CallW R s args RX1 RX1 59 yX1_settle cX1_settle 6 none (ws_ yX1_settle cX1_settle 6 none) rmX1_settle 0 0 3 := cwV 3 hts (lw_V q311 q313 qs16 q24 q314) rfl rfl rfl (by decide +kernel) hR
theorem cwX1_X1_gateValue {R : Room} {s : State} {args : Array Value} (hts : ∀ w ∈ lw_all, w.before args s = true) (hR : rmX1_gateValue.frames + 1 ≤ R.frames ∧ 8 + (4 + 11) + rmX1_gateValue.locals ≤ R.locals) : CallW R s args RX1 RX1 55 yX1_gateValue cX1_gateValue 4 (some .int) (ws_ yX1_gateValue cX1_gateValue 4 (some .int)) rmX1_gateValue 0 0 1 := cwV 1 hts (lw_V q315 q317 qs17 q24 q318) rfl rfl rfl (by decide +kernel) hR
theorem cwX1_X1_explains {R : Room} {s : State} {args : Array Value} (hts : ∀ w ∈ lw_all, w.before args s = true) (hR : rmX1_explains.frames + 1 ≤ R.frames ∧ 8 + (4 + 11) + rmX1_explains.locals ≤ R.locals) : CallW R s args RX1 RX1 76 yX1_explains cX1_explains 4 (some .boolean) (ws_ yX1_explains cX1_explains 4 (some .boolean)) rmX1_explains 0 0 1 := cwV 1 hts (lw_V q339 q341 qs18 q24 q342) rfl rfl rfl (by decide +kernel) hR
theorem cwX1_X1_alike {R : Room} {s : State} {args : Array Value} (hts : ∀ w ∈ lw_all, w.before args s = true) (hR : rmX1_alike.frames + 1 ≤ R.frames ∧ 8 + (6 + 11) + rmX1_alike.locals ≤ R.locals) : CallW R s args RX1 RX1 79 yX1_alike cX1_alike 6 (some .boolean) (ws_ yX1_alike cX1_alike 6 (some .boolean)) rmX1_alike 0 0 2 := cwV 2 hts (lw_V q363 q365 qs19 q24 q366) rfl rfl rfl (by decide +kernel) hR
theorem cwX1_X1_earliest {R : Room} {s : State} {args : Array Value} (hts : ∀ w ∈ lw_all, w.before args s = true) (hR : rmX1_earliest.frames + 1 ≤ R.frames ∧ 8 + (3 + 11) + rmX1_earliest.locals ≤ R.locals) : CallW R s args RX1 RX1 83 yX1_earliest cX1_earliest 3 (some .int) (ws_ yX1_earliest cX1_earliest 3 (some .int)) rmX1_earliest 0 0 1 := cwV 1 hts (lw_V q371 q373 qs20 q24 q374) rfl rfl rfl (by decide +kernel) hR
theorem cwX1_X1_possible {R : Room} {s : State} {args : Array Value} (hts : ∀ w ∈ lw_all, w.before args s = true) (hR : rmX1_possible.frames + 1 ≤ R.frames ∧ 8 + (3 + 11) + rmX1_possible.locals ≤ R.locals) : CallW R s args RX1 RX1 86 yX1_possible cX1_possible 3 (some .boolean) (ws_ yX1_possible cX1_possible 3 (some .boolean)) rmX1_possible 0 0 1 := cwV 1 hts (lw_V q383 q385 qs21 q24 q386) rfl rfl rfl (by decide +kernel) hR
theorem lt_nle32 {a b : Int32} : a < b ↔ ¬ b ≤ a := by
  rw [Int32.lt_iff_toInt_lt, Int32.le_iff_toInt_le]; omega
theorem le_nlt32 {a b : Int32} : a ≤ b ↔ ¬ b < a := by
  rw [Int32.lt_iff_toInt_lt, Int32.le_iff_toInt_le]; omega
theorem gv_0 {k : Int32} (x y : Bool) (h0 : k = 0) : nI x.toNat &&& nI y.toNat = nI (gateB k x y).toNat := by
  rw [gateB, if_pos (show k = nI 0 from h0)]; cases x <;> cases y <;> decide
theorem gv_1 {k : Int32} (x y : Bool) (h0 : ¬ k = 0) (h1 : k = nI 1) : nI x.toNat ||| nI y.toNat = nI (gateB k x y).toNat := by
  rw [gateB, if_neg (show ¬ k = nI 0 from h0), if_pos h1]; cases x <;> cases y <;> decide
theorem gv_2 {k : Int32} (x y : Bool) (h0 : ¬ k = 0) (h1 : ¬ k = nI 1) (h2 : k = nI 2) : nI x.toNat ^^^ nI y.toNat = nI (gateB k x y).toNat := by
  rw [gateB, if_neg (show ¬ k = nI 0 from h0), if_neg h1, if_pos h2]; cases x <;> cases y <;> decide
theorem gv_3 {k : Int32} (x y : Bool) (h0 : ¬ k = 0) (h1 : ¬ k = nI 1) (h2 : ¬ k = nI 2) (h3 : k = nI 3) : nI 1 - (nI x.toNat &&& nI y.toNat) = nI (gateB k x y).toNat := by
  rw [gateB, if_neg (show ¬ k = nI 0 from h0), if_neg h1, if_neg h2, if_pos h3]; cases x <;> cases y <;> decide
theorem gv_4 {k : Int32} (x y : Bool) (h0 : ¬ k = 0) (h1 : ¬ k = nI 1) (h2 : ¬ k = nI 2) (h3 : ¬ k = nI 3) (h4 : k = nI 4) : nI 1 - (nI x.toNat ||| nI y.toNat) = nI (gateB k x y).toNat := by
  rw [gateB, if_neg (show ¬ k = nI 0 from h0), if_neg h1, if_neg h2, if_neg h3, if_pos h4]; cases x <;> cases y <;> decide
theorem gv_5 {k : Int32} (x y : Bool) (h0 : ¬ k = 0) (h1 : ¬ k = nI 1) (h2 : ¬ k = nI 2) (h3 : ¬ k = nI 3) (h4 : ¬ k = nI 4) : nI (1 - x.toNat) = nI (gateB k x y).toNat := by
  rw [gateB, if_neg (show ¬ k = nI 0 from h0), if_neg h1, if_neg h2, if_neg h3, if_neg h4]; cases x <;> decide
/-- the values of the first n lines are the table's -/
def VI (C : Cfg) (j xi q : Nat) (va : Nat → Int32) (n : Nat) : Prop := ∀ k, k < n → va k = nI (tbl C j (fun i => xi.testBit i) (fun i => q.testBit i) n k).toNat
theorem VI_step {C : Cfg} {j xi q n : Nat} {va : Nat → Int32} {v : Bool} (h : VI C j xi q va n) (hv : v = raw C (fun i => xi.testBit i) (fun i => q.testBit i) (tbl C j (fun i => xi.testBit i) (fun i => q.testBit i) n) n) : VI C j xi q (upd va n (nI (fo j n v).toNat)) (n + 1) := by
  intro k hk
  by_cases e : k = n
  · subst e
    rw [pk_us, tbl_new, hv]
  · rw [pk_un e, tbl_old C j _ _ (show k < n by omega)]
    exact h k (by omega)
theorem fo_eq {j n : Nat} (v : Bool) (h : j / 2 = n) : (fo j n v).toNat = j % 2 := by
  unfold fo
  by_cases h1 : j = 2 * n
  · rw [if_pos h1, h1]
    show 0 = 2 * n % 2
    omega
  · rw [if_neg h1, if_pos (by omega)]
    show 1 = j % 2
    omega
theorem fo_ne {j n : Nat} (v : Bool) (h : j / 2 ≠ n) : fo j n v = v := by
  unfold fo
  rw [if_neg (by omega), if_neg (by omega)]
theorem raw_in {C : Cfg} {inp st t : Nat → Bool} {n : Nat} (h : n < 4) : inp n = raw C inp st t n := by
  unfold raw; rw [if_pos h]
theorem raw_st {C : Cfg} {inp st t : Nat → Bool} {n : Nat} (h : 4 ≤ n) (h2 : n < 7) : st (n - 4) = raw C inp st t n := by
  unfold raw; rw [if_neg (by omega), if_pos h2]
theorem raw_gate {C : Cfg} {inp st t : Nat → Bool} {n a1 a2 : Nat} (h : 7 ≤ n) (e1 : cf1 C (n - 7) = nI a1) (h1 : a1 < 1000) (e2 : cf2 C (n - 7) = nI a2) (h2 : a2 < 1000) : gateB (ckd C (n - 7)) (t a1) (t a2) = raw C inp st t n := by
  unfold raw; rw [if_neg (by omega), if_neg (by omega), e1, e2, cN_nI (by omega), cN_nI (by omega)]
/-- run: states q and answer gt after i cycles -/
def RI (C : Cfg) (j x q gt i : Nat) : Prop := q < 8 ∧ (∀ k, k < 3 → q.testBit k = stc C j x i k) ∧ (1 ≤ i → gt = ansN C j x i)
theorem t3 (a b c : Bool) : a.toNat + 2 * b.toNat + 4 * c.toNat < 8 ∧ (a.toNat + 2 * b.toNat + 4 * c.toNat).testBit 0 = a ∧ (a.toNat + 2 * b.toNat + 4 * c.toNat).testBit 1 = b ∧ (a.toNat + 2 * b.toNat + 4 * c.toNat).testBit 2 = c := by
  cases a <;> cases b <;> cases c <;> decide
theorem RI_step {C : Cfg} {j x i : Nat} {v0 v1 v2 v3 v4 : Bool} (h0 : v0 = lnv C j x i (cN (cfd C 0))) (h1 : v1 = lnv C j x i (cN (cfd C 1))) (h2 : v2 = lnv C j x i (cN (cfd C 2))) (h3 : v3 = lnv C j x i (cN (cop C 0))) (h4 : v4 = lnv C j x i (cN (cop C 1))) :
    RI C j x (v0.toNat + 2 * v1.toNat + 4 * v2.toNat) (v0.toNat + 2 * v1.toNat + 4 * v2.toNat + 8 * v3.toNat + 16 * v4.toNat) (i + 1) := by
  have t := t3 v0 v1 v2
  refine ⟨t.1, fun k hk => ?_, fun _ => ?_⟩
  · rcases (show k = 0 ∨ k = 1 ∨ k = 2 by omega) with rfl | rfl | rfl
    · rw [t.2.1, h0]; rfl
    · rw [t.2.2.1, h1]; rfl
    · rw [t.2.2.2, h2]; rfl
  · have e0 : ansB C j x (i + 1) 0 = v0 := by rw [h0]; rfl
    have e1 : ansB C j x (i + 1) 1 = v1 := by rw [h1]; rfl
    have e2 : ansB C j x (i + 1) 2 = v2 := by rw [h2]; rfl
    have e3 : ansB C j x (i + 1) 3 = v3 := by rw [h3]; rfl
    have e4 : ansB C j x (i + 1) 4 = v4 := by rw [h4]; rfl
    unfold ansN s5
    rw [e0, e1, e2, e3, e4]
    omega
/-- a line's value behind settle -/
theorem VI_ln {C : Cfg} {j x q i a : Nat} {va : Nat → Int32} (hx : x < 128) (hV : VI C j (x % 16) q va (7 + cg C)) (hR : ∀ k, k < 3 → q.testBit k = stc C j x i k) (ha : a < 7 + cg C) : va a = nI (lnv C j x i a).toNat := by
  rw [hV a ha]
  unfold lnv
  rw [tbl_cong C j (fun i hi => p_tb15 x hx i hi) (fun k hk => hR k hk)]
theorem ear_is {C : Cfg} {f k : Nat} (hk : k < f) (h1 : alB C k f = true) (h0 : ∀ i, i < k → alB C i f = false) : ear C f = k := by
  rcases Nat.lt_trichotomy (ear C f) k with h | h | h
  · have a := h0 _ h
    rw [ear_al] at a
    cases a
  · exact h
  · have a := ear_no C h
    rw [h1] at a
    cases a
theorem ear_self {C : Cfg} {f : Nat} (h0 : ∀ i, i < f → alB C i f = false) : ear C f = f := by
  rcases Nat.lt_or_ge (ear C f) f with h | h
  · have a := h0 _ h
    rw [ear_al] at a
    cases a
  · exact Nat.le_antisymm (ear_le C f) h
set_option maxHeartbeats 4000000 in
set_option maxRecDepth 100000 in
/-- lineCount() -/
theorem metX1_lineCount (l : Launch) (D : va_G) (di : ClassId) (h : Nat → Nat) (hD : xD h) (C : Cfg) (dv : Int32) (nt : Nat) (pt cy aw va : Nat → Int32)   : Met l yX1_lineCount (ws_ yX1_lineCount cX1_lineCount 1 (some .int)) rmX1_lineCount (GPc D (tyM di) h [] (wM di h (C, dv, nt, pt, cy, aw, va))) (vp_Si (fun r => r = nI (7 + cg C))) 0 0 (fun _ => False) := by
  refine g_met (own := RX1) rfl (by decide) hD (Nat.le_of_ble_eq_true rfl) ?_
  intro p e s m args below meth c ls K hr hlk w hl
  obtain ⟨hx, hb, hml, hown, hts, hK, -⟩ := id K
  have hR : rmX1_lineCount.frames ≤ rmX1_lineCount.frames ∧ rmX1_lineCount.locals ≤ rmX1_lineCount.locals := ⟨Nat.le_refl _, Nat.le_refl _⟩
  have hl : lv_has ls 1 [(0, .ref (h 0))] := hl
  refine lv_bipush (v := nI 7) hx hb dX1_lineCount_0 (by decide) ?_
  refine lv_aload_n hx hb dX1_lineCount_2 rfl (lv_at hl 0 rfl) ?_
  refine mg_gates K w dX1_lineCount_3 ?_
  refine n_iadd hx hb dX1_lineCount_6 ?_
  exact W.iret (v := (nI (7 + (cg C)))) hx hb hr (fun t ht hW => ⟨_, rfl, rfl, ht⟩) (fun q h => by cases h) dX1_lineCount_7
set_option maxHeartbeats 4000000 in
set_option maxRecDepth 100000 in
/-- lines() -/
theorem metX1_lines (l : Launch) (D : va_G) (di : ClassId) (h : Nat → Nat) (hD : xD h) (C : Cfg) (dv : Int32) (nt : Nat) (pt cy aw va : Nat → Int32)   : Met l yX1_lines (ws_ yX1_lines cX1_lines 1 (some .int)) rmX1_lines (GPc D (tyM di) h [] (wM di h (C, dv, nt, pt, cy, aw, va))) (vp_Si (fun r => r = nI (7 + cg C))) 0 0 (fun _ => False) := by
  refine g_met (own := RX1) rfl (by decide) hD (Nat.le_of_ble_eq_true rfl) ?_
  intro p e s m args below meth c ls K hr hlk w hl
  obtain ⟨hx, hb, hml, hown, hts, hK, -⟩ := id K
  have hR : rmX1_lines.frames ≤ rmX1_lines.frames ∧ rmX1_lines.locals ≤ rmX1_lines.locals := ⟨Nat.le_refl _, Nat.le_refl _⟩
  have hl : lv_has ls 1 [(0, .ref (h 0))] := hl
  refine lv_aload_n hx hb dX1_lines_0 rfl (lv_at hl 0 rfl) ?_
  refine g_readi (ci := 1) (q := (RX1, TX1, 12)) (rest := []) K w (metX1_lineCount l D di h hD C dv nt pt cy aw va) (cwX1_X1_lineCount hts ⟨Nat.le_trans (by decide) hR.1, Nat.le_trans (by decide) hR.2⟩) rfl rfl rfl hl.1 rfl (Nat.le_of_ble_eq_true rfl) dX1_lines_1 ⟨Nat.zero_le _, Nat.zero_le _⟩ (fun rl hrl => ?_)
  subst hrl
  exact W.iret (v := (nI (7 + cg C))) hx hb hr (fun t ht hW => ⟨_, rfl, rfl, ht⟩) (fun q h => by cases h) dX1_lines_4
set_option maxHeartbeats 4000000 in
set_option maxRecDepth 100000 in
/-- observations() -/
theorem metX1_observations (l : Launch) (D : va_G) (di : ClassId) (h : Nat → Nat) (hD : xD h) (C : Cfg) (dv : Int32) (nt : Nat) (pt cy aw va : Nat → Int32)   : Met l yX1_observations (ws_ yX1_observations cX1_observations 1 (some .int)) rmX1_observations (GPc D (tyM di) h [] (wM di h (C, dv, nt, pt, cy, aw, va))) (vp_Si (fun r => r = nI nt)) 0 0 (fun _ => False) := by
  refine g_met (own := RX1) rfl (by decide) hD (Nat.le_of_ble_eq_true rfl) ?_
  intro p e s m args below meth c ls K hr hlk w hl
  obtain ⟨hx, hb, hml, hown, hts, hK, -⟩ := id K
  have hR : rmX1_observations.frames ≤ rmX1_observations.frames ∧ rmX1_observations.locals ≤ rmX1_observations.locals := ⟨Nat.le_refl _, Nat.le_refl _⟩
  have hl : lv_has ls 1 [(0, .ref (h 0))] := hl
  refine lv_aload_n hx hb dX1_observations_0 rfl (lv_at hl 0 rfl) ?_
  refine mg_noted K w dX1_observations_1 ?_
  exact W.iret (v := (nI nt)) hx hb hr (fun t ht hW => ⟨_, rfl, rfl, ht⟩) (fun q h => by cases h) dX1_observations_4
set_option maxHeartbeats 4000000 in
set_option maxRecDepth 100000 in
/-- forget() -/
theorem metX1_forget (l : Launch) (D : va_G) (di : ClassId) (h : Nat → Nat) (hD : xD h) (C : Cfg) (dv : Int32) (nt : Nat) (pt cy aw va : Nat → Int32)   : Met l yX1_forget (ws_ yX1_forget cX1_forget 2 (some .int)) rmX1_forget (GPc D (tyM di) h [] (wM di h (C, dv, nt, pt, cy, aw, va))) (GQi D h (wM di h) (fun r u => r = nI nt ∧ u = (C, dv, 0, pt, cy, aw, va))) 0 0 (xB h) := by
  refine g_met (own := RX1) rfl (by decide) hD (Nat.le_of_ble_eq_true rfl) ?_
  intro p e s m args below meth c ls K hr hlk w hl
  obtain ⟨hx, hb, hml, hown, hts, hK, -⟩ := id K
  have hR : rmX1_forget.frames ≤ rmX1_forget.frames ∧ rmX1_forget.locals ≤ rmX1_forget.locals := ⟨Nat.le_refl _, Nat.le_refl _⟩
  have hl : lv_has ls 2 [(0, .ref (h 0))] := hl
  refine lv_aload_n hx hb dX1_forget_0 rfl (lv_at hl 0 rfl) ?_
  refine mg_noted K w dX1_forget_1 ?_
  refine lv_istore_n (lv' := [(1, .int (nI nt)), (0, .ref (h 0))]) hx hb dX1_forget_4 rfl hl (by decide) rfl (fun ls hl => ?_)
  refine lv_aload_n hx hb dX1_forget_5 rfl (lv_at hl 1 rfl) ?_
  refine lv_iconst (v := nI 0) hx hb dX1_forget_6 (by decide) ?_
  refine mp_noted K w dX1_forget_7 (fun H locs w => ?_)
  refine lv_iload_n hx hb dX1_forget_10 rfl (lv_at hl 0 rfl) ?_
  exact W.iret (v := (nI nt)) hx hb hr (fun t ht hW => ⟨⟨_, (C, dv, 0, pt, cy, aw, va), rfl, ⟨rfl, rfl⟩, (by show va_P D vwCl _ t.heap; rw [ht]; exact w.1)⟩, w.2.F ht⟩) w.2.2.2 dX1_forget_11
set_option maxHeartbeats 4000000 in
set_option maxRecDepth 100000 in
/-- badLine(a) -/
theorem metX1_badLine (l : Launch) (D : va_G) (di : ClassId) (h : Nat → Nat) (hD : xD h) (C : Cfg) (dv : Int32) (nt : Nat) (pt cy aw va : Nat → Int32) (hC : CW C) (a : Int32) : Met l yX1_badLine (ws_ yX1_badLine cX1_badLine 2 (some .boolean)) rmX1_badLine (GPc D (tyM di) h [.int a] (wM di h (C, dv, nt, pt, cy, aw, va))) (vp_Si (fun r => (r = nI 1 ∧ ¬ isL (cg C) a) ∨ (r = nI 0 ∧ isL (cg C) a))) 0 0 (fun _ => False) := by
  refine g_met (own := RX1) rfl (by decide) hD (Nat.le_of_ble_eq_true rfl) ?_
  intro p e s m args below meth c ls K hr hlk w hl
  obtain ⟨hx, hb, hml, hown, hts, hK, -⟩ := id K
  have hR : rmX1_badLine.frames ≤ rmX1_badLine.frames ∧ rmX1_badLine.locals ≤ rmX1_badLine.locals := ⟨Nat.le_refl _, Nat.le_refl _⟩
  have hl : lv_has ls 2 [(0, .ref (h 0)), (1, .int a)] := hl
  have hg := hC.1
  refine lv_iload_n hx hb dX1_badLine_0 rfl (lv_at hl 1 rfl) ?_
  refine lv_if_lt (tgt := 18) hx hb dX1_badLine_1 (by decide) (fun c1 => ?_) (fun c1 => ?_)
  · refine lv_iconst (v := nI 1) hx hb dX1_badLine_18 (by decide) ?_
    refine lv_goto (tgt := 23) hx hb dX1_badLine_19 (by decide) ?_
    exact W.zret (v := (nI 1)) hx hb hr (by decide) (fun t ht hW => ⟨_, rfl, (by first | exact Or.inr ⟨rfl, (isL_iff hC.1 a).mpr ⟨c1, c9⟩⟩ | exact Or.inl ⟨rfl, fun z => ((isL_iff hC.1 a).mp z).1 c1⟩ | exact Or.inl ⟨rfl, fun z => ((isL_iff hC.1 a).mp z).2 c9⟩), ht⟩) (fun q h => by cases h) dX1_badLine_23
  · refine lv_iload_n hx hb dX1_badLine_4 rfl (lv_at hl 1 rfl) ?_
    refine lv_aload_n hx hb dX1_badLine_5 rfl (lv_at hl 0 rfl) ?_
    refine g_readi (ci := 1) (q := (RX1, TX1, 12)) (rest := [.int a]) K w (metX1_lineCount l D di h hD C dv nt pt cy aw va) (cwX1_X1_lineCount hts ⟨Nat.le_trans (by decide) hR.1, Nat.le_trans (by decide) hR.2⟩) rfl rfl rfl hl.1 rfl (Nat.le_of_ble_eq_true rfl) dX1_badLine_6 ⟨Nat.zero_le _, Nat.zero_le _⟩ (fun rl hrl => ?_)
    subst hrl
    refine lv_icmp_ge (tgt := 18) hx hb dX1_badLine_9 (by decide) (fun c9 => ?_) (fun c9 => ?_)
    · refine lv_iconst (v := nI 1) hx hb dX1_badLine_18 (by decide) ?_
      refine lv_goto (tgt := 23) hx hb dX1_badLine_19 (by decide) ?_
      exact W.zret (v := (nI 1)) hx hb hr (by decide) (fun t ht hW => ⟨_, rfl, (by first | exact Or.inr ⟨rfl, (isL_iff hC.1 a).mpr ⟨c1, c9⟩⟩ | exact Or.inl ⟨rfl, fun z => ((isL_iff hC.1 a).mp z).1 c1⟩ | exact Or.inl ⟨rfl, fun z => ((isL_iff hC.1 a).mp z).2 c9⟩), ht⟩) (fun q h => by cases h) dX1_badLine_23
    · refine lv_iload_n hx hb dX1_badLine_12 rfl (lv_at hl 1 rfl) ?_
      refine lv_bipush (v := nI 20) hx hb dX1_badLine_13 (by decide) ?_
      refine lv_icmp_le (tgt := 22) hx hb dX1_badLine_15 (by decide) (fun c15 => ?_) (fun c15 => ?_)
      · refine lv_iconst (v := nI 0) hx hb dX1_badLine_22 (by decide) ?_
        exact W.zret (v := (nI 0)) hx hb hr (by decide) (fun t ht hW => ⟨_, rfl, (by first | exact Or.inr ⟨rfl, (isL_iff hC.1 a).mpr ⟨c1, c9⟩⟩ | exact Or.inl ⟨rfl, fun z => ((isL_iff hC.1 a).mp z).1 c1⟩ | exact Or.inl ⟨rfl, fun z => ((isL_iff hC.1 a).mp z).2 c9⟩), ht⟩) (fun q h => by cases h) dX1_badLine_23
      · obtain ⟨j, hj, rfl⟩ := (isL_iff hC.1 a).mpr ⟨c1, c9⟩
        exact absurd (nI_le (by omega) (by decide)) c15
set_option maxHeartbeats 4000000 in
set_option maxRecDepth 100000 in
/-- badFault(a) -/
theorem metX1_badFault (l : Launch) (D : va_G) (di : ClassId) (h : Nat → Nat) (hD : xD h) (C : Cfg) (dv : Int32) (nt : Nat) (pt cy aw va : Nat → Int32) (hC : CW C) (a : Int32) : Met l yX1_badFault (ws_ yX1_badFault cX1_badFault 2 (some .boolean)) rmX1_badFault (GPc D (tyM di) h [.int a] (wM di h (C, dv, nt, pt, cy, aw, va))) (vp_Si (fun r => (r = nI 1 ∧ ¬ isF (cg C) a) ∨ (r = nI 0 ∧ isF (cg C) a))) 0 0 (fun _ => False) := by
  refine g_met (own := RX1) rfl (by decide) hD (Nat.le_of_ble_eq_true rfl) ?_
  intro p e s m args below meth c ls K hr hlk w hl
  obtain ⟨hx, hb, hml, hown, hts, hK, -⟩ := id K
  have hR : rmX1_badFault.frames ≤ rmX1_badFault.frames ∧ rmX1_badFault.locals ≤ rmX1_badFault.locals := ⟨Nat.le_refl _, Nat.le_refl _⟩
  have hl : lv_has ls 2 [(0, .ref (h 0)), (1, .int a)] := hl
  have hg := hC.1
  refine lv_iload_n hx hb dX1_badFault_0 rfl (lv_at hl 1 rfl) ?_
  refine lv_if_lt (tgt := 14) hx hb dX1_badFault_1 (by decide) (fun c1 => ?_) (fun c1 => ?_)
  · refine lv_iconst (v := nI 1) hx hb dX1_badFault_14 (by decide) ?_
    refine lv_goto (tgt := 19) hx hb dX1_badFault_15 (by decide) ?_
    exact W.zret (v := (nI 1)) hx hb hr (by decide) (fun t ht hW => ⟨_, rfl, (by first | exact Or.inr ⟨rfl, (isF_iff hC.1 a).mpr ⟨c1, lt_nle32.mp c11⟩⟩ | exact Or.inl ⟨rfl, fun z => ((isF_iff hC.1 a).mp z).1 c1⟩ | exact Or.inl ⟨rfl, fun z => c11 (lt_nle32.mpr ((isF_iff hC.1 a).mp z).2)⟩), ht⟩) (fun q h => by cases h) dX1_badFault_19
  · refine lv_iload_n hx hb dX1_badFault_4 rfl (lv_at hl 1 rfl) ?_
    refine lv_iconst (v := nI 2) hx hb dX1_badFault_5 (by decide) ?_
    refine lv_aload_n hx hb dX1_badFault_6 rfl (lv_at hl 0 rfl) ?_
    refine g_readi (ci := 1) (q := (RX1, TX1, 12)) (rest := [.int (nI 2), .int a]) K w (metX1_lineCount l D di h hD C dv nt pt cy aw va) (cwX1_X1_lineCount hts ⟨Nat.le_trans (by decide) hR.1, Nat.le_trans (by decide) hR.2⟩) rfl rfl rfl hl.1 rfl (Nat.le_of_ble_eq_true rfl) dX1_badFault_7 ⟨Nat.zero_le _, Nat.zero_le _⟩ (fun rl hrl => ?_)
    subst hrl
    refine n_imul hx hb dX1_badFault_10 ?_
    refine lv_icmp_lt (tgt := 18) hx hb dX1_badFault_11 (by decide) (fun c11 => ?_) (fun c11 => ?_)
    · refine lv_iconst (v := nI 0) hx hb dX1_badFault_18 (by decide) ?_
      exact W.zret (v := (nI 0)) hx hb hr (by decide) (fun t ht hW => ⟨_, rfl, (by first | exact Or.inr ⟨rfl, (isF_iff hC.1 a).mpr ⟨c1, lt_nle32.mp c11⟩⟩ | exact Or.inl ⟨rfl, fun z => ((isF_iff hC.1 a).mp z).1 c1⟩ | exact Or.inl ⟨rfl, fun z => c11 (lt_nle32.mpr ((isF_iff hC.1 a).mp z).2)⟩), ht⟩) (fun q h => by cases h) dX1_badFault_19
    · refine lv_iconst (v := nI 1) hx hb dX1_badFault_14 (by decide) ?_
      refine lv_goto (tgt := 19) hx hb dX1_badFault_15 (by decide) ?_
      exact W.zret (v := (nI 1)) hx hb hr (by decide) (fun t ht hW => ⟨_, rfl, (by first | exact Or.inr ⟨rfl, (isF_iff hC.1 a).mpr ⟨c1, lt_nle32.mp c11⟩⟩ | exact Or.inl ⟨rfl, fun z => ((isF_iff hC.1 a).mp z).1 c1⟩ | exact Or.inl ⟨rfl, fun z => c11 (lt_nle32.mpr ((isF_iff hC.1 a).mp z).2)⟩), ht⟩) (fun q h => by cases h) dX1_badFault_19
set_option maxHeartbeats 4000000 in
set_option maxRecDepth 100000 in
/-- X1_badPattern -/
theorem metX1_badPattern (l : Launch) (D : va_G) (di : ClassId) (h : Nat → Nat) (hD : xD h) (C : Cfg) (dv : Int32) (nt : Nat) (pt cy aw va : Nat → Int32)  (a : Int32) : Met l yX1_badPattern (ws_ yX1_badPattern cX1_badPattern 2 (some .boolean)) rmX1_badPattern (GPc D (tyM di) h [.int a] (wM di h (C, dv, nt, pt, cy, aw, va))) (vp_Si (fun r => (r = nI 1 ∧ ¬ isP a) ∨ (r = nI 0 ∧ isP a))) 0 0 (fun _ => False) := by
  refine g_met (own := RX1) rfl (by decide) hD (Nat.le_of_ble_eq_true rfl) ?_
  intro p e s m args below meth c ls K hr hlk w hl
  obtain ⟨hx, hb, hml, hown, hts, hK, -⟩ := id K
  have hR : rmX1_badPattern.frames ≤ rmX1_badPattern.frames ∧ rmX1_badPattern.locals ≤ rmX1_badPattern.locals := ⟨Nat.le_refl _, Nat.le_refl _⟩
  have hl : lv_has ls 2 [(0, .ref (h 0)), (1, .int a)] := hl
  refine lv_iload_n hx hb dX1_badPattern_0 rfl (lv_at hl 1 rfl) ?_
  refine lv_if_lt (tgt := 10) hx hb dX1_badPattern_1 (by decide) (fun c1 => ?_) (fun c1 => ?_)
  · refine lv_iconst (v := nI 1) hx hb dX1_badPattern_10 (by decide) ?_
    refine lv_goto (tgt := 15) hx hb dX1_badPattern_11 (by decide) ?_
    exact W.zret (v := (nI 1)) hx hb hr (by decide) (fun t ht hW => ⟨_, rfl, (by first | exact Or.inr ⟨rfl, (isP_iff a).mpr ⟨c1, le_nlt32.mp c7⟩⟩ | exact Or.inl ⟨rfl, fun z => ((isP_iff a).mp z).1 c1⟩ | exact Or.inl ⟨rfl, fun z => c7 (le_nlt32.mpr ((isP_iff a).mp z).2)⟩), ht⟩) (fun q h => by cases h) dX1_badPattern_15
  · refine lv_iload_n hx hb dX1_badPattern_4 rfl (lv_at hl 1 rfl) ?_
    refine lv_bipush (v := nI 127) hx hb dX1_badPattern_5 (by decide) ?_
    refine lv_icmp_le (tgt := 14) hx hb dX1_badPattern_7 (by decide) (fun c7 => ?_) (fun c7 => ?_)
    · refine lv_iconst (v := nI 0) hx hb dX1_badPattern_14 (by decide) ?_
      exact W.zret (v := (nI 0)) hx hb hr (by decide) (fun t ht hW => ⟨_, rfl, (by first | exact Or.inr ⟨rfl, (isP_iff a).mpr ⟨c1, le_nlt32.mp c7⟩⟩ | exact Or.inl ⟨rfl, fun z => ((isP_iff a).mp z).1 c1⟩ | exact Or.inl ⟨rfl, fun z => c7 (le_nlt32.mpr ((isP_iff a).mp z).2)⟩), ht⟩) (fun q h => by cases h) dX1_badPattern_15
    · refine lv_iconst (v := nI 1) hx hb dX1_badPattern_10 (by decide) ?_
      refine lv_goto (tgt := 15) hx hb dX1_badPattern_11 (by decide) ?_
      exact W.zret (v := (nI 1)) hx hb hr (by decide) (fun t ht hW => ⟨_, rfl, (by first | exact Or.inr ⟨rfl, (isP_iff a).mpr ⟨c1, le_nlt32.mp c7⟩⟩ | exact Or.inl ⟨rfl, fun z => ((isP_iff a).mp z).1 c1⟩ | exact Or.inl ⟨rfl, fun z => c7 (le_nlt32.mpr ((isP_iff a).mp z).2)⟩), ht⟩) (fun q h => by cases h) dX1_badPattern_15
set_option maxHeartbeats 4000000 in
set_option maxRecDepth 100000 in
/-- X1_badCycles -/
theorem metX1_badCycles (l : Launch) (D : va_G) (di : ClassId) (h : Nat → Nat) (hD : xD h) (C : Cfg) (dv : Int32) (nt : Nat) (pt cy aw va : Nat → Int32)  (a : Int32) : Met l yX1_badCycles (ws_ yX1_badCycles cX1_badCycles 2 (some .boolean)) rmX1_badCycles (GPc D (tyM di) h [.int a] (wM di h (C, dv, nt, pt, cy, aw, va))) (vp_Si (fun r => (r = nI 1 ∧ ¬ isC a) ∨ (r = nI 0 ∧ isC a))) 0 0 (fun _ => False) := by
  refine g_met (own := RX1) rfl (by decide) hD (Nat.le_of_ble_eq_true rfl) ?_
  intro p e s m args below meth c ls K hr hlk w hl
  obtain ⟨hx, hb, hml, hown, hts, hK, -⟩ := id K
  have hR : rmX1_badCycles.frames ≤ rmX1_badCycles.frames ∧ rmX1_badCycles.locals ≤ rmX1_badCycles.locals := ⟨Nat.le_refl _, Nat.le_refl _⟩
  have hl : lv_has ls 2 [(0, .ref (h 0)), (1, .int a)] := hl
  refine lv_iload_n hx hb dX1_badCycles_0 rfl (lv_at hl 1 rfl) ?_
  refine lv_iconst (v := nI 1) hx hb dX1_badCycles_1 (by decide) ?_
  refine lv_icmp_lt (tgt := 10) hx hb dX1_badCycles_2 (by decide) (fun c2 => ?_) (fun c2 => ?_)
  · refine lv_iconst (v := nI 1) hx hb dX1_badCycles_10 (by decide) ?_
    refine lv_goto (tgt := 15) hx hb dX1_badCycles_11 (by decide) ?_
    exact W.zret (v := (nI 1)) hx hb hr (by decide) (fun t ht hW => ⟨_, rfl, (by first | exact Or.inr ⟨rfl, (isC_iff a).mpr ⟨c2, le_nlt32.mp c7⟩⟩ | exact Or.inl ⟨rfl, fun z => ((isC_iff a).mp z).1 c2⟩ | exact Or.inl ⟨rfl, fun z => c7 (le_nlt32.mpr ((isC_iff a).mp z).2)⟩), ht⟩) (fun q h => by cases h) dX1_badCycles_15
  · refine lv_iload_n hx hb dX1_badCycles_5 rfl (lv_at hl 1 rfl) ?_
    refine lv_iconst (v := nI 4) hx hb dX1_badCycles_6 (by decide) ?_
    refine lv_icmp_le (tgt := 14) hx hb dX1_badCycles_7 (by decide) (fun c7 => ?_) (fun c7 => ?_)
    · refine lv_iconst (v := nI 0) hx hb dX1_badCycles_14 (by decide) ?_
      exact W.zret (v := (nI 0)) hx hb hr (by decide) (fun t ht hW => ⟨_, rfl, (by first | exact Or.inr ⟨rfl, (isC_iff a).mpr ⟨c2, le_nlt32.mp c7⟩⟩ | exact Or.inl ⟨rfl, fun z => ((isC_iff a).mp z).1 c2⟩ | exact Or.inl ⟨rfl, fun z => c7 (le_nlt32.mpr ((isC_iff a).mp z).2)⟩), ht⟩) (fun q h => by cases h) dX1_badCycles_15
    · refine lv_iconst (v := nI 1) hx hb dX1_badCycles_10 (by decide) ?_
      refine lv_goto (tgt := 15) hx hb dX1_badCycles_11 (by decide) ?_
      exact W.zret (v := (nI 1)) hx hb hr (by decide) (fun t ht hW => ⟨_, rfl, (by first | exact Or.inr ⟨rfl, (isC_iff a).mpr ⟨c2, le_nlt32.mp c7⟩⟩ | exact Or.inl ⟨rfl, fun z => ((isC_iff a).mp z).1 c2⟩ | exact Or.inl ⟨rfl, fun z => c7 (le_nlt32.mpr ((isC_iff a).mp z).2)⟩), ht⟩) (fun q h => by cases h) dX1_badCycles_15
set_option maxHeartbeats 4000000 in
set_option maxRecDepth 100000 in
/-- gateValue(g) -/
theorem metX1_gateValue (l : Launch) (D : va_G) (di : ClassId) (h : Nat → Nat) (hD : xD h) (C : Cfg) (dv : Int32) (nt : Nat) (pt cy aw va : Nat → Int32)  (g a1 a2 : Nat) (x y : Bool) (hg9 : g < 14) (e1 : cf1 C g = nI a1) (ha1 : a1 < 21) (hx1 : va a1 = nI x.toNat) (e2 : cf2 C g = nI a2) (ha2 : a2 < 21) (hy1 : va a2 = nI y.toNat) : Met l yX1_gateValue (ws_ yX1_gateValue cX1_gateValue 4 (some .int)) rmX1_gateValue (GPc D (tyM di) h [.int (nI g)] (wM di h (C, dv, nt, pt, cy, aw, va))) (vp_Si (fun r => r = nI (gateB (ckd C g) x y).toNat)) 0 0 (fun _ => False) := by
  refine g_met (own := RX1) rfl (by decide) hD (Nat.le_of_ble_eq_true rfl) ?_
  intro p e s m args below meth c ls K hr hlk w hl
  obtain ⟨hx, hb, hml, hown, hts, hK, -⟩ := id K
  have hR : rmX1_gateValue.frames ≤ rmX1_gateValue.frames ∧ rmX1_gateValue.locals ≤ rmX1_gateValue.locals := ⟨Nat.le_refl _, Nat.le_refl _⟩
  have hl : lv_has ls 4 [(0, .ref (h 0)), (1, .int (nI g))] := hl
  have hx2 : x.toNat ≤ 1 := Bool.toNat_le x
  refine lv_aload_n hx hb dX1_gateValue_0 rfl (lv_at hl 0 rfl) ?_
  refine mg_value K w dX1_gateValue_1 ?_
  refine lv_aload_n hx hb dX1_gateValue_4 rfl (lv_at hl 0 rfl) ?_
  refine mg_first K w dX1_gateValue_5 ?_
  refine lv_iload_n hx hb dX1_gateValue_8 rfl (lv_at hl 1 rfl) ?_
  refine ml_first (k := g) K w (by omega) dX1_gateValue_9 ?_
  refine n_tope (e1) ?_
  refine ml_value (k := a1) K w (by omega) dX1_gateValue_10 ?_
  refine n_tope (hx1) ?_
  refine lv_istore_n (lv' := [(2, .int (nI x.toNat)), (0, .ref (h 0)), (1, .int (nI g))]) hx hb dX1_gateValue_11 rfl hl (by decide) rfl (fun ls hl => ?_)
  refine lv_aload_n hx hb dX1_gateValue_12 rfl (lv_at hl 1 rfl) ?_
  refine mg_value K w dX1_gateValue_13 ?_
  refine lv_aload_n hx hb dX1_gateValue_16 rfl (lv_at hl 1 rfl) ?_
  refine mg_second K w dX1_gateValue_17 ?_
  refine lv_iload_n hx hb dX1_gateValue_20 rfl (lv_at hl 2 rfl) ?_
  refine ml_second (k := g) K w (by omega) dX1_gateValue_21 ?_
  refine n_tope (e2) ?_
  refine ml_value (k := a2) K w (by omega) dX1_gateValue_22 ?_
  refine n_tope (hy1) ?_
  refine lv_istore_n (lv' := [(3, .int (nI y.toNat)), (2, .int (nI x.toNat)), (0, .ref (h 0)), (1, .int (nI g))]) hx hb dX1_gateValue_23 rfl hl (by decide) rfl (fun ls hl => ?_)
  refine lv_aload_n hx hb dX1_gateValue_24 rfl (lv_at hl 2 rfl) ?_
  refine mg_kind K w dX1_gateValue_25 ?_
  refine lv_iload_n hx hb dX1_gateValue_28 rfl (lv_at hl 3 rfl) ?_
  refine ml_kind (k := g) K w (by omega) dX1_gateValue_29 ?_
  refine lv_if_ne (tgt := 37) hx hb dX1_gateValue_30 (by decide) (fun c30 => ?_) (fun c30 => ?_)
  · refine lv_aload_n hx hb dX1_gateValue_37 rfl (lv_at hl 2 rfl) ?_
    refine mg_kind K w dX1_gateValue_38 ?_
    refine lv_iload_n hx hb dX1_gateValue_41 rfl (lv_at hl 3 rfl) ?_
    refine ml_kind (k := g) K w (by omega) dX1_gateValue_42 ?_
    refine lv_iconst (v := nI 1) hx hb dX1_gateValue_43 (by decide) ?_
    refine lv_icmp_ne (tgt := 51) hx hb dX1_gateValue_44 (by decide) (fun c44 => ?_) (fun c44 => ?_)
    · refine lv_aload_n hx hb dX1_gateValue_51 rfl (lv_at hl 2 rfl) ?_
      refine mg_kind K w dX1_gateValue_52 ?_
      refine lv_iload_n hx hb dX1_gateValue_55 rfl (lv_at hl 3 rfl) ?_
      refine ml_kind (k := g) K w (by omega) dX1_gateValue_56 ?_
      refine lv_iconst (v := nI 2) hx hb dX1_gateValue_57 (by decide) ?_
      refine lv_icmp_ne (tgt := 65) hx hb dX1_gateValue_58 (by decide) (fun c58 => ?_) (fun c58 => ?_)
      · refine lv_aload_n hx hb dX1_gateValue_65 rfl (lv_at hl 2 rfl) ?_
        refine mg_kind K w dX1_gateValue_66 ?_
        refine lv_iload_n hx hb dX1_gateValue_69 rfl (lv_at hl 3 rfl) ?_
        refine ml_kind (k := g) K w (by omega) dX1_gateValue_70 ?_
        refine lv_iconst (v := nI 3) hx hb dX1_gateValue_71 (by decide) ?_
        refine lv_icmp_ne (tgt := 81) hx hb dX1_gateValue_72 (by decide) (fun c72 => ?_) (fun c72 => ?_)
        · refine lv_aload_n hx hb dX1_gateValue_81 rfl (lv_at hl 2 rfl) ?_
          refine mg_kind K w dX1_gateValue_82 ?_
          refine lv_iload_n hx hb dX1_gateValue_85 rfl (lv_at hl 3 rfl) ?_
          refine ml_kind (k := g) K w (by omega) dX1_gateValue_86 ?_
          refine lv_iconst (v := nI 4) hx hb dX1_gateValue_87 (by decide) ?_
          refine lv_icmp_ne (tgt := 97) hx hb dX1_gateValue_88 (by decide) (fun c88 => ?_) (fun c88 => ?_)
          · refine lv_iconst (v := nI 1) hx hb dX1_gateValue_97 (by decide) ?_
            refine lv_iload_n hx hb dX1_gateValue_98 rfl (lv_at hl 1 rfl) ?_
            refine n_isub hx hb dX1_gateValue_99 (by omega) ?_
            exact W.iret (v := (nI (1 - x.toNat))) hx hb hr (fun t ht hW => ⟨_, rfl, (gv_5 x y c30 c44 c58 c72 c88), ht⟩) (fun q h => by cases h) dX1_gateValue_100
          · refine lv_iconst (v := nI 1) hx hb dX1_gateValue_91 (by decide) ?_
            refine lv_iload_n hx hb dX1_gateValue_92 rfl (lv_at hl 1 rfl) ?_
            refine lv_iload_n hx hb dX1_gateValue_93 rfl (lv_at hl 0 rfl) ?_
            refine lv_ior hx hb dX1_gateValue_94 ?_
            refine lv_isub hx hb dX1_gateValue_95 ?_
            exact W.iret (v := ((nI 1) - ((nI x.toNat) ||| (nI y.toNat)))) hx hb hr (fun t ht hW => ⟨_, rfl, (gv_4 x y c30 c44 c58 c72 c88), ht⟩) (fun q h => by cases h) dX1_gateValue_96
        · refine lv_iconst (v := nI 1) hx hb dX1_gateValue_75 (by decide) ?_
          refine lv_iload_n hx hb dX1_gateValue_76 rfl (lv_at hl 1 rfl) ?_
          refine lv_iload_n hx hb dX1_gateValue_77 rfl (lv_at hl 0 rfl) ?_
          refine lv_iand hx hb dX1_gateValue_78 ?_
          refine lv_isub hx hb dX1_gateValue_79 ?_
          exact W.iret (v := ((nI 1) - ((nI x.toNat) &&& (nI y.toNat)))) hx hb hr (fun t ht hW => ⟨_, rfl, (gv_3 x y c30 c44 c58 c72), ht⟩) (fun q h => by cases h) dX1_gateValue_80
      · refine lv_iload_n hx hb dX1_gateValue_61 rfl (lv_at hl 1 rfl) ?_
        refine lv_iload_n hx hb dX1_gateValue_62 rfl (lv_at hl 0 rfl) ?_
        refine lv_ixor hx hb dX1_gateValue_63 ?_
        exact W.iret (v := ((nI x.toNat) ^^^ (nI y.toNat))) hx hb hr (fun t ht hW => ⟨_, rfl, (gv_2 x y c30 c44 c58), ht⟩) (fun q h => by cases h) dX1_gateValue_64
    · refine lv_iload_n hx hb dX1_gateValue_47 rfl (lv_at hl 1 rfl) ?_
      refine lv_iload_n hx hb dX1_gateValue_48 rfl (lv_at hl 0 rfl) ?_
      refine lv_ior hx hb dX1_gateValue_49 ?_
      exact W.iret (v := ((nI x.toNat) ||| (nI y.toNat))) hx hb hr (fun t ht hW => ⟨_, rfl, (gv_1 x y c30 c44), ht⟩) (fun q h => by cases h) dX1_gateValue_50
  · refine lv_iload_n hx hb dX1_gateValue_33 rfl (lv_at hl 1 rfl) ?_
    refine lv_iload_n hx hb dX1_gateValue_34 rfl (lv_at hl 0 rfl) ?_
    refine lv_iand hx hb dX1_gateValue_35 ?_
    exact W.iret (v := ((nI x.toNat) &&& (nI y.toNat))) hx hb hr (fun t ht hW => ⟨_, rfl, (gv_0 x y c30), ht⟩) (fun q h => by cases h) dX1_gateValue_36
end
section
/-! the model: settle, run, explains, alike -/
set_option maxRecDepth 100000
section
variable {p : Program} {l : Launch} {e : Env} {R : Room} {s : State} {m : MethodId} {args : Array Value} {below : List Frame} {meth : Method} {c : Code} {Q : State → Prop} {D : va_G} {di : ClassId} {h : Nat → Nat}
set_option maxHeartbeats 4000000 in
set_option maxRecDepth 100000 in
/-- settle: what a fault does to line n, and its value kept -/
theorem tlX1_settle (K : GC p s m args c cX1_settle 6 RX1 D (tyM di) h) {C : Cfg} {dv : Int32} {nt : Nat} {pt cy aw : Nat → Int32} {va : Nat → Int32} {f : Int32} {j xi q n : Nat} {v : Bool} {H : Heap} {locs : List Loc} {ls : Array Slot} (hC : CW C) (hj : FJ C f j) (hn : n < 7 + cg C)
    (kk : ∀ (H : Heap) (locs : List Loc) (ls : Array Slot), GW s D h (wM di h (C, dv, nt, pt, cy, aw, upd va n (nI (fo j n v).toNat))) H locs → lv_has ls 6 [(0, .ref (h 0)), (1, .int f), (2, .int (nI xi)), (3, .int (nI q)), (4, .int (nI (n + 1)))] → W p l e R s m args below meth c H locs 0 0 Q (F0 m 3 ls []))
    (w : GW s D h (wM di h (C, dv, nt, pt, cy, aw, va)) H locs) (hl : lv_has ls 6 [(0, .ref (h 0)), (1, .int f), (2, .int (nI xi)), (3, .int (nI q)), (4, .int (nI n)), (5, .int (nI v.toNat))]) : W p l e R s m args below meth c H locs 0 0 Q (F0 m 70 ls []) := by
  obtain ⟨hx, hb, hml, hown, hts, hK, hD⟩ := id K
  have hg := hC.1
  rcases hj with ⟨rfl, rfl⟩ | ⟨rfl, hj2⟩
  · refine lv_iload_n hx hb dX1_settle_70 rfl (lv_at hl 1 rfl) ?_
    refine lv_if_lt (tgt := 87) hx hb dX1_settle_71 (by decide) (fun c71 => ?_) (fun c71 => ?_)
    · refine lv_aload_n hx hb dX1_settle_87 rfl (lv_at hl 0 rfl) ?_
      refine mg_value K w dX1_settle_88 ?_
      refine lv_iload hx hb dX1_settle_91 (lv_at hl 4 rfl) ?_
      refine lv_iload hx hb dX1_settle_93 (lv_at hl 5 rfl) ?_
      refine ms_value (k := n) K w (by omega) dX1_settle_95 (fun H locs w => ?_)
      refine lv_iinc (v := (nI (n + 1))) (lv' := [(4, .int (nI (n + 1))), (0, .ref (h 0)), (1, .int (-1)), (2, .int (nI xi)), (3, .int (nI q)), (5, .int (nI v.toNat))]) hx hb dX1_settle_96 hl (k := 4) rfl (n_inc _) (by decide) rfl (fun ls hl => ?_)
      refine lv_goto (tgt := 3) hx hb dX1_settle_99 (by decide) ?_
      refine kk H locs ls ?_ (lv_sub hl [1, 2, 3, 4, 0] rfl)
      rw [fo_ne v (by omega)]
      exact w
    · exact absurd (by decide) c71
  · refine lv_iload_n hx hb dX1_settle_70 rfl (lv_at hl 1 rfl) ?_
    refine lv_if_lt (tgt := 87) hx hb dX1_settle_71 (by decide) (fun c71 => ?_) (fun c71 => ?_)
    · exact absurd c71 (nI_pos (by omega))
    · refine lv_iload_n hx hb dX1_settle_74 rfl (lv_at hl 1 rfl) ?_
      refine lv_iconst (v := nI 2) hx hb dX1_settle_75 (by decide) ?_
      refine lv_idiv hx hb dX1_settle_76 (by decide) ?_
      refine n_tope (pk_div (by omega) (by decide) (by decide)) ?_
      refine lv_iload hx hb dX1_settle_77 (lv_at hl 4 rfl) ?_
      refine n_ne (tgt := 87) hx hb dX1_settle_79 (by decide) (by omega) (by omega) (fun c79 => ?_) (fun c79 => ?_)
      · refine lv_aload_n hx hb dX1_settle_87 rfl (lv_at hl 0 rfl) ?_
        refine mg_value K w dX1_settle_88 ?_
        refine lv_iload hx hb dX1_settle_91 (lv_at hl 4 rfl) ?_
        refine lv_iload hx hb dX1_settle_93 (lv_at hl 5 rfl) ?_
        refine ms_value (k := n) K w (by omega) dX1_settle_95 (fun H locs w => ?_)
        refine lv_iinc (v := (nI (n + 1))) (lv' := [(4, .int (nI (n + 1))), (0, .ref (h 0)), (1, .int (nI j)), (2, .int (nI xi)), (3, .int (nI q)), (5, .int (nI v.toNat))]) hx hb dX1_settle_96 hl (k := 4) rfl (n_inc _) (by decide) rfl (fun ls hl => ?_)
        refine lv_goto (tgt := 3) hx hb dX1_settle_99 (by decide) ?_
        refine kk H locs ls ?_ (lv_sub hl [1, 2, 3, 4, 0] rfl)
        rw [fo_ne v (by omega)]
        exact w
      · refine lv_iload_n hx hb dX1_settle_82 rfl (lv_at hl 1 rfl) ?_
        refine lv_iconst (v := nI 2) hx hb dX1_settle_83 (by decide) ?_
        refine lv_irem hx hb dX1_settle_84 (by decide) ?_
        refine n_tope (pk_rem (by omega) (by decide) (by decide)) ?_
        refine lv_istore (lv' := [(5, .int (nI (j % 2))), (0, .ref (h 0)), (1, .int (nI j)), (2, .int (nI xi)), (3, .int (nI q)), (4, .int (nI n))]) hx hb dX1_settle_85 hl (by decide) rfl (fun ls hl => ?_)
        refine lv_aload_n hx hb dX1_settle_87 rfl (lv_at hl 1 rfl) ?_
        refine mg_value K w dX1_settle_88 ?_
        refine lv_iload hx hb dX1_settle_91 (lv_at hl 5 rfl) ?_
        refine lv_iload hx hb dX1_settle_93 (lv_at hl 0 rfl) ?_
        refine ms_value (k := n) K w (by omega) dX1_settle_95 (fun H locs w => ?_)
        refine lv_iinc (v := (nI (n + 1))) (lv' := [(4, .int (nI (n + 1))), (5, .int (nI (j % 2))), (0, .ref (h 0)), (1, .int (nI j)), (2, .int (nI xi)), (3, .int (nI q))]) hx hb dX1_settle_96 hl (k := 5) rfl (n_inc _) (by decide) rfl (fun ls hl => ?_)
        refine lv_goto (tgt := 3) hx hb dX1_settle_99 (by decide) ?_
        refine kk H locs ls ?_ (lv_sub hl [2, 3, 4, 5, 0] rfl)
        rw [fo_eq v c79]
        exact w
set_option maxHeartbeats 4000000 in
set_option maxRecDepth 100000 in
/-- settle: the lines -/
theorem lpX1_settle (K : GC p s m args c cX1_settle 6 RX1 D (tyM di) h) (hR : rmX1_settle.frames ≤ R.frames ∧ rmX1_settle.locals ≤ R.locals) {C : Cfg} {dv : Int32} {nt : Nat} {pt cy aw : Nat → Int32} {f : Int32} {j xi q : Nat} (hC : CW C) (hj : FJ C f j) (hxi : xi < 128) (hq : q < 8)
    (kk : ∀ (va : Nat → Int32) (H : Heap) (locs : List Loc) (ls : Array Slot), VI C j xi q va (7 + cg C) → GW s D h (wM di h (C, dv, nt, pt, cy, aw, va)) H locs → W p l e R s m args below meth c H locs 0 0 Q (F0 m 102 ls []))
    : ∀ (n n9 : Nat) (va : Nat → Int32) (H : Heap) (locs : List Loc) (ls : Array Slot), n9 ≤ 7 + cg C → 7 + cg C + 1 ≤ n9 + n → VI C j xi q va n9 → GW s D h (wM di h (C, dv, nt, pt, cy, aw, va)) H locs → lv_has ls 6 [(0, .ref (h 0)), (1, .int f), (2, .int (nI xi)), (3, .int (nI q)), (4, .int (nI n9))] → W p l e R s m args below meth c H locs 0 0 Q (F0 m 3 ls []) := by
  obtain ⟨hx, hb, hml, hown, hts, hK, hD⟩ := id K
  intro n
  induction n with
  | zero =>
    intro n9 va H locs ls h1 h2
    exact absurd h2 (by omega)
  | succ n ih =>
    intro n9 va H locs ls h1 h2 hV w hl
    have hg := hC.1
    refine lv_iload hx hb dX1_settle_3 (lv_at hl 4 rfl) ?_
    refine lv_aload_n hx hb dX1_settle_5 rfl (lv_at hl 0 rfl) ?_
    refine g_readi (ci := 1) (q := (RX1, TX1, 12)) (rest := [.int (nI n9)]) K w (metX1_lineCount l D di h hD C dv nt pt cy aw va) (cwX1_X1_lineCount hts ⟨Nat.le_trans (by decide) hR.1, Nat.le_trans (by decide) hR.2⟩) rfl rfl rfl hl.1 rfl (Nat.le_of_ble_eq_true rfl) dX1_settle_6 ⟨Nat.zero_le _, Nat.zero_le _⟩ (fun rl hrl => ?_)
    subst hrl
    refine n_ge (tgt := 102) hx hb dX1_settle_9 (by decide) (by omega) (by omega) (fun c9 => ?_) (fun c9 => ?_)
    · obtain rfl : n9 = 7 + cg C := by omega
      exact kk va H locs ls hV w
    · refine lv_iload hx hb dX1_settle_12 (lv_at hl 4 rfl) ?_
      refine lv_bipush (v := nI 21) hx hb dX1_settle_14 (by decide) ?_
      refine n_ge (tgt := 102) hx hb dX1_settle_16 (by decide) (by omega) (by omega) (fun c16 => ?_) (fun c16 => ?_)
      · exact absurd c16 (by omega)
      · refine lv_iconst (v := nI 0) hx hb dX1_settle_19 (by decide) ?_
        refine lv_istore (lv' := [(5, .int (nI 0)), (0, .ref (h 0)), (1, .int f), (2, .int (nI xi)), (3, .int (nI q)), (4, .int (nI n9))]) hx hb dX1_settle_20 hl (by decide) rfl (fun ls hl => ?_)
        refine lv_iload hx hb dX1_settle_22 (lv_at hl 5 rfl) ?_
        refine lv_iconst (v := nI 4) hx hb dX1_settle_24 (by decide) ?_
        refine n_ge (tgt := 39) hx hb dX1_settle_25 (by decide) (by omega) (by omega) (fun c25 => ?_) (fun c25 => ?_)
        · refine lv_iload hx hb dX1_settle_39 (lv_at hl 5 rfl) ?_
          refine lv_bipush (v := nI 7) hx hb dX1_settle_41 (by decide) ?_
          refine n_ge (tgt := 59) hx hb dX1_settle_43 (by decide) (by omega) (by omega) (fun c43 => ?_) (fun c43 => ?_)
          · refine lv_aload_n hx hb dX1_settle_59 rfl (lv_at hl 1 rfl) ?_
            refine lv_iload hx hb dX1_settle_60 (lv_at hl 5 rfl) ?_
            refine lv_bipush (v := nI 7) hx hb dX1_settle_62 (by decide) ?_
            refine n_isub hx hb dX1_settle_64 (by omega) ?_
            obtain ⟨⟨a1, ha1, e1⟩, a2, ha2, e2⟩ := hC.2.1 (n9 - 7) (by omega)
            refine g_readi (ci := 1) (q := (RX1, TX1, 12)) (rest := []) K w (metX1_gateValue l D di h hD C dv nt pt cy aw va (n9 - 7) a1 a2 _ _ (by omega) e1 (by omega) (hV a1 (by omega)) e2 (by omega) (hV a2 (by omega))) (cwX1_X1_gateValue hts ⟨Nat.le_trans (by decide) hR.1, Nat.le_trans (by decide) hR.2⟩) rfl rfl rfl hl.1 rfl (Nat.le_of_ble_eq_true rfl) dX1_settle_65 ⟨Nat.zero_le _, Nat.zero_le _⟩ (fun rg hrg => ?_)
            subst hrg
            refine lv_istore (lv' := [(5, .int (nI ((gateB (ckd C (n9 - 7)) (tbl C j (fun i => xi.testBit i) (fun i => q.testBit i) n9 a1) (tbl C j (fun i => xi.testBit i) (fun i => q.testBit i) n9 a2)).toNat))), (0, .ref (h 0)), (1, .int f), (2, .int (nI xi)), (3, .int (nI q)), (4, .int (nI n9))]) hx hb dX1_settle_68 hl (by decide) rfl (fun ls hl => ?_)
            refine tlX1_settle (v := gateB (ckd C (n9 - 7)) (tbl C j (fun i => xi.testBit i) (fun i => q.testBit i) n9 a1) (tbl C j (fun i => xi.testBit i) (fun i => q.testBit i) n9 a2)) K hC hj (by omega) (fun H locs ls w hl => ?_) w (lv_sub hl [1, 2, 3, 4, 5, 0] rfl)
            exact ih (n9 + 1) _ H locs ls (by omega) (by omega) (VI_step hV (raw_gate c43 e1 (by omega) e2 (by omega))) w hl
          · refine lv_iload_n hx hb dX1_settle_46 rfl (lv_at hl 4 rfl) ?_
            refine lv_iload hx hb dX1_settle_47 (lv_at hl 5 rfl) ?_
            refine lv_iconst (v := nI 4) hx hb dX1_settle_49 (by decide) ?_
            refine n_isub hx hb dX1_settle_50 (by omega) ?_
            refine lv_ishr hx hb dX1_settle_51 ?_
            refine lv_iconst (v := nI 1) hx hb dX1_settle_52 (by decide) ?_
            refine lv_iand hx hb dX1_settle_53 ?_
            refine n_tope (p_bit q (by omega) (n9 - 4) (by omega)) ?_
            refine lv_istore (lv' := [(5, .int (nI ((q.testBit (n9 - 4)).toNat))), (0, .ref (h 0)), (1, .int f), (2, .int (nI xi)), (3, .int (nI q)), (4, .int (nI n9))]) hx hb dX1_settle_54 hl (by decide) rfl (fun ls hl => ?_)
            refine lv_goto (tgt := 70) hx hb dX1_settle_56 (by decide) ?_
            refine tlX1_settle (v := q.testBit (n9 - 4)) K hC hj (by omega) (fun H locs ls w hl => ?_) w (lv_sub hl [1, 2, 3, 4, 5, 0] rfl)
            exact ih (n9 + 1) _ H locs ls (by omega) (by omega) (VI_step hV (raw_st (st := fun i => q.testBit i) c25 c43)) w hl
        · refine lv_iload_n hx hb dX1_settle_28 rfl (lv_at hl 3 rfl) ?_
          refine lv_iload hx hb dX1_settle_29 (lv_at hl 5 rfl) ?_
          refine lv_ishr hx hb dX1_settle_31 ?_
          refine lv_iconst (v := nI 1) hx hb dX1_settle_32 (by decide) ?_
          refine lv_iand hx hb dX1_settle_33 ?_
          refine n_tope (p_bit xi (by omega) n9 (by omega)) ?_
          refine lv_istore (lv' := [(5, .int (nI ((xi.testBit n9).toNat))), (0, .ref (h 0)), (1, .int f), (2, .int (nI xi)), (3, .int (nI q)), (4, .int (nI n9))]) hx hb dX1_settle_34 hl (by decide) rfl (fun ls hl => ?_)
          refine lv_goto (tgt := 70) hx hb dX1_settle_36 (by decide) ?_
          refine tlX1_settle (v := xi.testBit n9) K hC hj (by omega) (fun H locs ls w hl => ?_) w (lv_sub hl [1, 2, 3, 4, 5, 0] rfl)
          exact ih (n9 + 1) _ H locs ls (by omega) (by omega) (VI_step hV (raw_in c25)) w hl
set_option maxHeartbeats 4000000 in
set_option maxRecDepth 100000 in
/-- settle(f, xi, q) -/
theorem metX1_settle (l : Launch) (D : va_G) (di : ClassId) (h : Nat → Nat) (hD : xD h) (C : Cfg) (dv : Int32) (nt : Nat) (pt cy aw va : Nat → Int32) (hC : CW C) (f : Int32) (j xi q : Nat) (hj : FJ C f j) (hxi : xi < 128) (hq : q < 8) : Met l yX1_settle (ws_ yX1_settle cX1_settle 6 none) rmX1_settle (GPc D (tyM di) h [.int f, .int (nI xi), .int (nI q)] (wM di h (C, dv, nt, pt, cy, aw, va))) (GQv D h (wM di h) (fun u => ∃ va1, u = (C, dv, nt, pt, cy, aw, va1) ∧ VI C j xi q va1 (7 + cg C))) 0 0 (xB h) := by
  refine g_met (own := RX1) rfl (by decide) hD (Nat.le_of_ble_eq_true rfl) ?_
  intro p e s m args below meth c ls K hr hlk w hl
  obtain ⟨hx, hb, hml, hown, hts, hK, -⟩ := id K
  have hR : rmX1_settle.frames ≤ rmX1_settle.frames ∧ rmX1_settle.locals ≤ rmX1_settle.locals := ⟨Nat.le_refl _, Nat.le_refl _⟩
  have hl : lv_has ls 6 [(0, .ref (h 0)), (1, .int f), (2, .int (nI xi)), (3, .int (nI q))] := hl
  refine lv_iconst (v := nI 0) hx hb dX1_settle_0 (by decide) ?_
  refine lv_istore (lv' := [(4, .int (nI 0)), (0, .ref (h 0)), (1, .int f), (2, .int (nI xi)), (3, .int (nI q))]) hx hb dX1_settle_1 hl (by decide) rfl (fun ls hl => ?_)
  refine lpX1_settle K hR hC hj hxi hq (fun va1 H locs ls hV w => ?_) (7 + cg C + 1) 0 va _ _ ls (by omega) (by omega) (fun k hk => absurd hk (by omega)) w (lv_sub hl [1, 2, 3, 4, 0] rfl)
  exact W.vret hx hb hr (fun t ht hW => ⟨⟨(C, dv, nt, pt, cy, aw, va1), rfl, ⟨va1, rfl, hV⟩, (by show va_P D vwCl _ t.heap; rw [ht]; exact w.1)⟩, w.2.F ht⟩) w.2.2.2 dX1_settle_102
set_option maxHeartbeats 4000000 in
set_option maxRecDepth 100000 in
/-- run: the cycles -/
theorem lpX1_run (K : GC p s m args c cX1_run 7 RX1 D (tyM di) h) (hR : rmX1_run.frames ≤ R.frames ∧ rmX1_run.locals ≤ R.locals) {C : Cfg} {dv : Int32} {nt : Nat} {pt cy aw : Nat → Int32} {f : Int32} {j x y : Nat} (hC : CW C) (hj : FJ C f j) (hx9 : x < 128) (hy1 : 1 ≤ y) (hy2 : y ≤ 4)
    (kk : ∀ (va : Nat → Int32) (H : Heap) (locs : List Loc) (ls : Array Slot), GW s D h (wM di h (C, dv, nt, pt, cy, aw, va)) H locs → lv_has ls 7 [(5, .int (nI (ansN C j x y)))] → W p l e R s m args below meth c H locs 0 0 Q (F0 m 109 ls []))
    : ∀ (n i : Nat) (va : Nat → Int32) (q : Nat) (gt : Nat) (H : Heap) (locs : List Loc) (ls : Array Slot), i ≤ y → y + 1 ≤ i + n → RI C j x q gt i → GW s D h (wM di h (C, dv, nt, pt, cy, aw, va)) H locs → lv_has ls 7 [(0, .ref (h 0)), (1, .int f), (2, .int (nI x)), (3, .int (nI y)), (4, .int (nI q)), (5, .int (nI gt)), (6, .int (nI i))] → W p l e R s m args below meth c H locs 0 0 Q (F0 m 11 ls []) := by
  obtain ⟨hx, hb, hml, hown, hts, hK, hD⟩ := id K
  intro n
  induction n with
  | zero =>
    intro i va q gt H locs ls h1 h2
    exact absurd h2 (by omega)
  | succ n ih =>
    intro i va q gt H locs ls h1 h2 hI w hl
    have hg := hC.1
    obtain ⟨b0, hb0, eb0⟩ := hC.2.2.1 0 (by decide)
    obtain ⟨b1, hb1, eb1⟩ := hC.2.2.1 1 (by decide)
    obtain ⟨b2, hb2, eb2⟩ := hC.2.2.1 2 (by decide)
    obtain ⟨b3, hb3, eb3⟩ := hC.2.2.2 0 (by decide)
    obtain ⟨b4, hb4, eb4⟩ := hC.2.2.2 1 (by decide)
    refine lv_iload hx hb dX1_run_11 (lv_at hl 6 rfl) ?_
    refine lv_iload_n hx hb dX1_run_13 rfl (lv_at hl 3 rfl) ?_
    refine n_ge (tgt := 109) hx hb dX1_run_14 (by decide) (by omega) (by omega) (fun c14 => ?_) (fun c14 => ?_)
    · obtain rfl : i = y := by omega
      obtain rfl := hI.2.2 hy1
      exact kk va H locs ls w (lv_sub hl [5] rfl)
    · refine lv_aload_n hx hb dX1_run_17 rfl (lv_at hl 0 rfl) ?_
      refine lv_iload_n hx hb dX1_run_18 rfl (lv_at hl 1 rfl) ?_
      refine lv_iload_n hx hb dX1_run_19 rfl (lv_at hl 2 rfl) ?_
      refine lv_bipush (v := nI 15) hx hb dX1_run_20 (by decide) ?_
      refine lv_iand hx hb dX1_run_22 ?_
      refine n_tope (p_and15 x hx9) ?_
      refine lv_iload hx hb dX1_run_23 (lv_at hl 4 rfl) ?_
      refine g_callv (ci := 1) (q := (RX1, TX1, 12)) (rest := []) K w (metX1_settle l D di h hD C dv nt pt cy aw va hC f j (x % 16) q hj (by omega) hI.1) (cwX1_X1_settle hts ⟨Nat.le_trans (by decide) hR.1, Nat.le_trans (by decide) hR.2⟩) rfl rfl rfl hl.1 rfl (Nat.le_of_ble_eq_true rfl) dX1_run_25 ⟨Nat.zero_le _, Nat.zero_le _⟩ (fun u H locs hp w => ?_)
      obtain ⟨va1, rfl, hV⟩ := hp
      have hv0 : va1 b0 = nI (lnv C j x i b0).toNat := VI_ln hx9 hV hI.2.1 hb0
      have en0 : lnv C j x i b0 = lnv C j x i (cN (cfd C 0)) := by rw [eb0, cN_nI (by omega)]
      generalize lnv C j x i b0 = v0 at hv0 en0
      have hv1 : va1 b1 = nI (lnv C j x i b1).toNat := VI_ln hx9 hV hI.2.1 hb1
      have en1 : lnv C j x i b1 = lnv C j x i (cN (cfd C 1)) := by rw [eb1, cN_nI (by omega)]
      generalize lnv C j x i b1 = v1 at hv1 en1
      have hv2 : va1 b2 = nI (lnv C j x i b2).toNat := VI_ln hx9 hV hI.2.1 hb2
      have en2 : lnv C j x i b2 = lnv C j x i (cN (cfd C 2)) := by rw [eb2, cN_nI (by omega)]
      generalize lnv C j x i b2 = v2 at hv2 en2
      have hv3 : va1 b3 = nI (lnv C j x i b3).toNat := VI_ln hx9 hV hI.2.1 hb3
      have en3 : lnv C j x i b3 = lnv C j x i (cN (cop C 0)) := by rw [eb3, cN_nI (by omega)]
      generalize lnv C j x i b3 = v3 at hv3 en3
      have hv4 : va1 b4 = nI (lnv C j x i b4).toNat := VI_ln hx9 hV hI.2.1 hb4
      have en4 : lnv C j x i b4 = lnv C j x i (cN (cop C 1)) := by rw [eb4, cN_nI (by omega)]
      generalize lnv C j x i b4 = v4 at hv4 en4
      refine lv_aload_n hx hb dX1_run_28 rfl (lv_at hl 0 rfl) ?_
      refine mg_value K w dX1_run_29 ?_
      refine lv_aload_n hx hb dX1_run_32 rfl (lv_at hl 0 rfl) ?_
      refine mg_feeds K w dX1_run_33 ?_
      refine lv_iconst (v := nI 0) hx hb dX1_run_36 (by decide) ?_
      refine ml_feeds (k := 0) K w (by omega) dX1_run_37 ?_
      refine n_tope (eb0) ?_
      refine ml_value (k := b0) K w (by omega) dX1_run_38 ?_
      refine n_tope (hv0) ?_
      refine lv_iconst (v := nI 2) hx hb dX1_run_39 (by decide) ?_
      refine lv_aload_n hx hb dX1_run_40 rfl (lv_at hl 0 rfl) ?_
      refine mg_value K w dX1_run_41 ?_
      refine lv_aload_n hx hb dX1_run_44 rfl (lv_at hl 0 rfl) ?_
      refine mg_feeds K w dX1_run_45 ?_
      refine lv_iconst (v := nI 1) hx hb dX1_run_48 (by decide) ?_
      refine ml_feeds (k := 1) K w (by omega) dX1_run_49 ?_
      refine n_tope (eb1) ?_
      refine ml_value (k := b1) K w (by omega) dX1_run_50 ?_
      refine n_tope (hv1) ?_
      refine n_imul hx hb dX1_run_51 ?_
      refine n_iadd hx hb dX1_run_52 ?_
      refine lv_iconst (v := nI 4) hx hb dX1_run_53 (by decide) ?_
      refine lv_aload_n hx hb dX1_run_54 rfl (lv_at hl 0 rfl) ?_
      refine mg_value K w dX1_run_55 ?_
      refine lv_aload_n hx hb dX1_run_58 rfl (lv_at hl 0 rfl) ?_
      refine mg_feeds K w dX1_run_59 ?_
      refine lv_iconst (v := nI 2) hx hb dX1_run_62 (by decide) ?_
      refine ml_feeds (k := 2) K w (by omega) dX1_run_63 ?_
      refine n_tope (eb2) ?_
      refine ml_value (k := b2) K w (by omega) dX1_run_64 ?_
      refine n_tope (hv2) ?_
      refine n_imul hx hb dX1_run_65 ?_
      refine n_iadd hx hb dX1_run_66 ?_
      refine lv_istore (lv' := [(4, .int (nI ((v0.toNat + (2 * v1.toNat)) + (4 * v2.toNat)))), (0, .ref (h 0)), (1, .int f), (2, .int (nI x)), (3, .int (nI y)), (5, .int (nI gt)), (6, .int (nI i))]) hx hb dX1_run_67 hl (by decide) rfl (fun ls hl => ?_)
      refine lv_iload hx hb dX1_run_69 (lv_at hl 0 rfl) ?_
      refine lv_bipush (v := nI 8) hx hb dX1_run_71 (by decide) ?_
      refine lv_aload_n hx hb dX1_run_73 rfl (lv_at hl 1 rfl) ?_
      refine mg_value K w dX1_run_74 ?_
      refine lv_aload_n hx hb dX1_run_77 rfl (lv_at hl 1 rfl) ?_
      refine mg_outputs K w dX1_run_78 ?_
      refine lv_iconst (v := nI 0) hx hb dX1_run_81 (by decide) ?_
      refine ml_outputs (k := 0) K w (by omega) dX1_run_82 ?_
      refine n_tope (eb3) ?_
      refine ml_value (k := b3) K w (by omega) dX1_run_83 ?_
      refine n_tope (hv3) ?_
      refine n_imul hx hb dX1_run_84 ?_
      refine n_iadd hx hb dX1_run_85 ?_
      refine lv_bipush (v := nI 16) hx hb dX1_run_86 (by decide) ?_
      refine lv_aload_n hx hb dX1_run_88 rfl (lv_at hl 1 rfl) ?_
      refine mg_value K w dX1_run_89 ?_
      refine lv_aload_n hx hb dX1_run_92 rfl (lv_at hl 1 rfl) ?_
      refine mg_outputs K w dX1_run_93 ?_
      refine lv_iconst (v := nI 1) hx hb dX1_run_96 (by decide) ?_
      refine ml_outputs (k := 1) K w (by omega) dX1_run_97 ?_
      refine n_tope (eb4) ?_
      refine ml_value (k := b4) K w (by omega) dX1_run_98 ?_
      refine n_tope (hv4) ?_
      refine n_imul hx hb dX1_run_99 ?_
      refine n_iadd hx hb dX1_run_100 ?_
      refine lv_istore (lv' := [(5, .int (nI ((((v0.toNat + (2 * v1.toNat)) + (4 * v2.toNat)) + (8 * v3.toNat)) + (16 * v4.toNat)))), (4, .int (nI ((v0.toNat + (2 * v1.toNat)) + (4 * v2.toNat)))), (0, .ref (h 0)), (1, .int f), (2, .int (nI x)), (3, .int (nI y)), (6, .int (nI i))]) hx hb dX1_run_101 hl (by decide) rfl (fun ls hl => ?_)
      refine lv_iinc (v := (nI (i + 1))) (lv' := [(6, .int (nI (i + 1))), (5, .int (nI ((((v0.toNat + (2 * v1.toNat)) + (4 * v2.toNat)) + (8 * v3.toNat)) + (16 * v4.toNat)))), (4, .int (nI ((v0.toNat + (2 * v1.toNat)) + (4 * v2.toNat)))), (0, .ref (h 0)), (1, .int f), (2, .int (nI x)), (3, .int (nI y))]) hx hb dX1_run_103 hl (k := 6) rfl (n_inc _) (by decide) rfl (fun ls hl => ?_)
      refine lv_goto (tgt := 11) hx hb dX1_run_106 (by decide) ?_
      exact ih (i + 1) _ _ _ H locs ls (by omega) (by omega) (RI_step en0 en1 en2 en3 en4) w (lv_sub hl [3, 4, 5, 6, 2, 1, 0] rfl)
set_option maxHeartbeats 4000000 in
set_option maxRecDepth 100000 in
/-- run(f, x, y) -/
theorem metX1_run (l : Launch) (D : va_G) (di : ClassId) (h : Nat → Nat) (hD : xD h) (C : Cfg) (dv : Int32) (nt : Nat) (pt cy aw va : Nat → Int32) (hC : CW C) (f : Int32) (j x y : Nat) (hj : FJ C f j) (hx9 : x < 128) (hy1 : 1 ≤ y) (hy2 : y ≤ 4) : Met l yX1_run (ws_ yX1_run cX1_run 7 (some .int)) rmX1_run (GPc D (tyM di) h [.int f, .int (nI x), .int (nI y)] (wM di h (C, dv, nt, pt, cy, aw, va))) (GQi D h (wM di h) (fun r u => r = nI (ansN C j x y) ∧ MK C dv nt pt cy aw u)) 0 0 (xB h) := by
  refine g_met (own := RX1) rfl (by decide) hD (Nat.le_of_ble_eq_true rfl) ?_
  intro p e s m args below meth c ls K hr hlk w hl
  obtain ⟨hx, hb, hml, hown, hts, hK, -⟩ := id K
  have hR : rmX1_run.frames ≤ rmX1_run.frames ∧ rmX1_run.locals ≤ rmX1_run.locals := ⟨Nat.le_refl _, Nat.le_refl _⟩
  have hl : lv_has ls 7 [(0, .ref (h 0)), (1, .int f), (2, .int (nI x)), (3, .int (nI y))] := hl
  refine lv_iload_n hx hb dX1_run_0 rfl (lv_at hl 2 rfl) ?_
  refine lv_iconst (v := nI 4) hx hb dX1_run_1 (by decide) ?_
  refine lv_ishr hx hb dX1_run_2 ?_
  refine n_tope (p_shr4 x hx9) ?_
  refine lv_istore (lv' := [(4, .int (nI (x / 16))), (0, .ref (h 0)), (1, .int f), (2, .int (nI x)), (3, .int (nI y))]) hx hb dX1_run_3 hl (by decide) rfl (fun ls hl => ?_)
  refine lv_iconst (v := nI 0) hx hb dX1_run_5 (by decide) ?_
  refine lv_istore (lv' := [(5, .int (nI 0)), (4, .int (nI (x / 16))), (0, .ref (h 0)), (1, .int f), (2, .int (nI x)), (3, .int (nI y))]) hx hb dX1_run_6 hl (by decide) rfl (fun ls hl => ?_)
  refine lv_iconst (v := nI 0) hx hb dX1_run_8 (by decide) ?_
  refine lv_istore (lv' := [(6, .int (nI 0)), (5, .int (nI 0)), (4, .int (nI (x / 16))), (0, .ref (h 0)), (1, .int f), (2, .int (nI x)), (3, .int (nI y))]) hx hb dX1_run_9 hl (by decide) rfl (fun ls hl => ?_)
  refine lpX1_run K hR hC hj hx9 hy1 hy2 (fun va1 H locs ls w hl => ?_) (y + 1) 0 va (x / 16) 0 _ _ ls (by omega) (by omega) ⟨by omega, fun k hk => p_tb16 x hx9 k hk, fun z => absurd z (by omega)⟩ w (lv_sub hl [3, 4, 5, 6, 2, 1, 0] rfl)
  refine lv_iload hx hb dX1_run_109 (lv_at hl 0 rfl) ?_
  exact W.iret (v := (nI (ansN C j x y))) hx hb hr (fun t ht hW => ⟨⟨_, (C, dv, nt, pt, cy, aw, va1), rfl, ⟨rfl, va1, rfl⟩, (by show va_P D vwCl _ t.heap; rw [ht]; exact w.1)⟩, w.2.F ht⟩) w.2.2.2 dX1_run_111
set_option maxHeartbeats 4000000 in
set_option maxRecDepth 100000 in
/-- explains: the notes -/
theorem lpX1_explains (K : GC p s m args c cX1_explains 4 RX1 D (tyM di) h) (hR : rmX1_explains.frames ≤ R.frames ∧ rmX1_explains.locals ≤ R.locals) {C : Cfg} {dv : Int32} {nt : Nat} {pt cy aw : Nat → Int32} {f : Int32} {j : Nat} (hC : CW C) (hj : FJ C f j) (hN : nt ≤ 20 ∧ ∀ i, i < nt → isP (pt i) ∧ isC (cy i))
    (kk0 : ∀ (va : Nat → Int32) (H : Heap) (locs : List Loc) (ls : Array Slot), exB C nt pt cy aw j = false → GW s D h (wM di h (C, dv, nt, pt, cy, aw, va)) H locs → W p l e R s m args below meth c H locs 0 0 Q (F0 m 45 ls [.int (nI 0)]))
    (kk1 : ∀ (va : Nat → Int32) (H : Heap) (locs : List Loc) (ls : Array Slot), exB C nt pt cy aw j = true → GW s D h (wM di h (C, dv, nt, pt, cy, aw, va)) H locs → W p l e R s m args below meth c H locs 0 0 Q (F0 m 52 ls []))
    : ∀ (n i : Nat) (va : Nat → Int32) (H : Heap) (locs : List Loc) (ls : Array Slot), i ≤ nt → nt + 1 ≤ i + n → (∀ k, k < i → nI (ansN C j (cN (pt k)) (cN (cy k))) = aw k) → GW s D h (wM di h (C, dv, nt, pt, cy, aw, va)) H locs → lv_has ls 4 [(0, .ref (h 0)), (1, .int f), (2, .int (nI i))] → W p l e R s m args below meth c H locs 0 0 Q (F0 m 2 ls []) := by
  obtain ⟨hx, hb, hml, hown, hts, hK, hD⟩ := id K
  intro n
  induction n with
  | zero =>
    intro i va H locs ls h1 h2
    exact absurd h2 (by omega)
  | succ n ih =>
    intro i va H locs ls h1 h2 hI w hl
    have hn := hN.1
    refine lv_iload_n hx hb dX1_explains_2 rfl (lv_at hl 2 rfl) ?_
    refine lv_aload_n hx hb dX1_explains_3 rfl (lv_at hl 0 rfl) ?_
    refine mg_noted K w dX1_explains_4 ?_
    refine n_ge (tgt := 52) hx hb dX1_explains_7 (by decide) (by omega) (by omega) (fun c7 => ?_) (fun c7 => ?_)
    · obtain rfl : i = nt := by omega
      exact kk1 va H locs ls (exB_iff.mpr hI) w
    · obtain ⟨⟨x, hx9, ex⟩, y, hy1, hy2, ey⟩ := hN.2 i c7
      refine lv_iload_n hx hb dX1_explains_10 rfl (lv_at hl 2 rfl) ?_
      refine lv_bipush (v := nI 20) hx hb dX1_explains_11 (by decide) ?_
      refine n_ge (tgt := 52) hx hb dX1_explains_13 (by decide) (by omega) (by omega) (fun c13 => ?_) (fun c13 => ?_)
      · exact absurd c13 (by omega)
      · refine lv_aload_n hx hb dX1_explains_16 rfl (lv_at hl 0 rfl) ?_
        refine lv_iload_n hx hb dX1_explains_17 rfl (lv_at hl 1 rfl) ?_
        refine lv_aload_n hx hb dX1_explains_18 rfl (lv_at hl 0 rfl) ?_
        refine mg_pattern K w dX1_explains_19 ?_
        refine lv_iload_n hx hb dX1_explains_22 rfl (lv_at hl 2 rfl) ?_
        refine ml_pattern (k := i) K w (by omega) dX1_explains_23 ?_
        refine n_tope (ex) ?_
        refine lv_aload_n hx hb dX1_explains_24 rfl (lv_at hl 0 rfl) ?_
        refine mg_cycles K w dX1_explains_25 ?_
        refine lv_iload_n hx hb dX1_explains_28 rfl (lv_at hl 2 rfl) ?_
        refine ml_cycles (k := i) K w (by omega) dX1_explains_29 ?_
        refine n_tope (ey) ?_
        refine g_calli (ci := 1) (q := (RX1, TX1, 12)) (rest := []) K w (metX1_run l D di h hD C dv nt pt cy aw va hC f j x y hj hx9 hy1 hy2) (cwX1_X1_run hts ⟨Nat.le_trans (by decide) hR.1, Nat.le_trans (by decide) hR.2⟩) rfl rfl rfl hl.1 rfl (Nat.le_of_ble_eq_true rfl) dX1_explains_30 ⟨Nat.zero_le _, Nat.zero_le _⟩ (fun ri u H locs hp w => ?_)
        obtain ⟨rfl, va1, rfl⟩ := hp
        refine lv_istore_n (lv' := [(3, .int (nI (ansN C j x y))), (0, .ref (h 0)), (1, .int f), (2, .int (nI i))]) hx hb dX1_explains_33 rfl hl (by decide) rfl (fun ls hl => ?_)
        refine lv_iload_n hx hb dX1_explains_34 rfl (lv_at hl 0 rfl) ?_
        refine lv_aload_n hx hb dX1_explains_35 rfl (lv_at hl 1 rfl) ?_
        refine mg_answer K w dX1_explains_36 ?_
        refine lv_iload_n hx hb dX1_explains_39 rfl (lv_at hl 3 rfl) ?_
        refine ml_answer (k := i) K w (by omega) dX1_explains_40 ?_
        refine lv_icmp_eq (tgt := 46) hx hb dX1_explains_41 (by decide) (fun c41 => ?_) (fun c41 => ?_)
        · refine lv_iinc (v := (nI (i + 1))) (lv' := [(2, .int (nI (i + 1))), (3, .int (nI (ansN C j x y))), (0, .ref (h 0)), (1, .int f)]) hx hb dX1_explains_46 hl (k := 3) rfl (n_inc _) (by decide) rfl (fun ls hl => ?_)
          refine lv_goto (tgt := 2) hx hb dX1_explains_49 (by decide) ?_
          exact ih (i + 1) _ H locs ls (by omega) (by omega) (lt_s hI (by rw [ex, ey, cN_nI (by omega), cN_nI (by omega)]; exact c41)) w (lv_sub hl [2, 3, 0] rfl)
        · refine lv_iconst (v := nI 0) hx hb dX1_explains_44 (by decide) ?_
          exact kk0 va1 H locs ls (Bool.eq_false_iff.mpr fun z => c41 (by have z1 := exB_iff.mp z i c7; rw [ex, ey, cN_nI (by omega), cN_nI (by omega)] at z1; exact z1)) w
set_option maxHeartbeats 4000000 in
set_option maxRecDepth 100000 in
/-- explains(f) -/
theorem metX1_explains (l : Launch) (D : va_G) (di : ClassId) (h : Nat → Nat) (hD : xD h) (C : Cfg) (dv : Int32) (nt : Nat) (pt cy aw va : Nat → Int32) (hC : CW C) (hN : nt ≤ 20 ∧ ∀ i, i < nt → isP (pt i) ∧ isC (cy i)) (f : Int32) (j : Nat) (hj : FJ C f j) : Met l yX1_explains (ws_ yX1_explains cX1_explains 4 (some .boolean)) rmX1_explains (GPc D (tyM di) h [.int f] (wM di h (C, dv, nt, pt, cy, aw, va))) (GQi D h (wM di h) (fun r u => ((r = nI 1 ∧ exB C nt pt cy aw j = true) ∨ (r = nI 0 ∧ exB C nt pt cy aw j = false)) ∧ MK C dv nt pt cy aw u)) 0 0 (xB h) := by
  refine g_met (own := RX1) rfl (by decide) hD (Nat.le_of_ble_eq_true rfl) ?_
  intro p e s m args below meth c ls K hr hlk w hl
  obtain ⟨hx, hb, hml, hown, hts, hK, -⟩ := id K
  have hR : rmX1_explains.frames ≤ rmX1_explains.frames ∧ rmX1_explains.locals ≤ rmX1_explains.locals := ⟨Nat.le_refl _, Nat.le_refl _⟩
  have hl : lv_has ls 4 [(0, .ref (h 0)), (1, .int f)] := hl
  refine lv_iconst (v := nI 0) hx hb dX1_explains_0 (by decide) ?_
  refine lv_istore_n (lv' := [(2, .int (nI 0)), (0, .ref (h 0)), (1, .int f)]) hx hb dX1_explains_1 rfl hl (by decide) rfl (fun ls hl => ?_)
  refine lpX1_explains K hR hC hj hN (fun va1 H locs ls he w => ?_) (fun va1 H locs ls he w => ?_) (nt + 1) 0 va _ _ ls (by omega) (by omega) (fun k hk => absurd hk (by omega)) w (lv_sub hl [1, 2, 0] rfl)
  · exact W.zret (v := (nI 0)) hx hb hr (by decide) (fun t ht hW => ⟨⟨_, (C, dv, nt, pt, cy, aw, va1), rfl, ⟨Or.inr ⟨rfl, he⟩, va1, rfl⟩, (by show va_P D vwCl _ t.heap; rw [ht]; exact w.1)⟩, w.2.F ht⟩) w.2.2.2 dX1_explains_45
  · refine lv_iconst (v := nI 1) hx hb dX1_explains_52 (by decide) ?_
    exact W.zret (v := (nI 1)) hx hb hr (by decide) (fun t ht hW => ⟨⟨_, (C, dv, nt, pt, cy, aw, va1), rfl, ⟨Or.inl ⟨rfl, he⟩, va1, rfl⟩, (by show va_P D vwCl _ t.heap; rw [ht]; exact w.1)⟩, w.2.F ht⟩) w.2.2.2 dX1_explains_53
set_option maxHeartbeats 4000000 in
set_option maxRecDepth 100000 in
/-- alike: the patterns -/
theorem lpX1_alike (K : GC p s m args c cX1_alike 6 RX1 D (tyM di) h) (hR : rmX1_alike.frames ≤ R.frames ∧ rmX1_alike.locals ≤ R.locals) {C : Cfg} {dv : Int32} {nt : Nat} {pt cy aw : Nat → Int32} {f g : Int32} {j k : Nat} (hC : CW C) (hj : FJ C f j) (hk : FJ C g k)
    (kk0 : ∀ (va : Nat → Int32) (H : Heap) (locs : List Loc) (ls : Array Slot), alB C j k = false → GW s D h (wM di h (C, dv, nt, pt, cy, aw, va)) H locs → W p l e R s m args below meth c H locs 0 0 Q (F0 m 35 ls [.int (nI 0)]))
    (kk1 : ∀ (va : Nat → Int32) (H : Heap) (locs : List Loc) (ls : Array Slot), alB C j k = true → GW s D h (wM di h (C, dv, nt, pt, cy, aw, va)) H locs → W p l e R s m args below meth c H locs 0 0 Q (F0 m 42 ls []))
    : ∀ (n x : Nat) (va : Nat → Int32) (H : Heap) (locs : List Loc) (ls : Array Slot), x ≤ 128 → 128 + 1 ≤ x + n → (∀ i, i < x → ansN C j i 1 = ansN C k i 1) → GW s D h (wM di h (C, dv, nt, pt, cy, aw, va)) H locs → lv_has ls 6 [(0, .ref (h 0)), (1, .int f), (2, .int g), (3, .int (nI x))] → W p l e R s m args below meth c H locs 0 0 Q (F0 m 2 ls []) := by
  obtain ⟨hx, hb, hml, hown, hts, hK, hD⟩ := id K
  intro n
  induction n with
  | zero =>
    intro x va H locs ls h1 h2
    exact absurd h2 (by omega)
  | succ n ih =>
    intro x va H locs ls h1 h2 hI w hl
    refine lv_iload_n hx hb dX1_alike_2 rfl (lv_at hl 3 rfl) ?_
    refine lv_sipush (v := nI 128) hx hb dX1_alike_3 (by decide) ?_
    refine n_ge (tgt := 42) hx hb dX1_alike_6 (by decide) (by omega) (by omega) (fun c6 => ?_) (fun c6 => ?_)
    · obtain rfl : x = 128 := by omega
      exact kk1 va H locs ls (alB_iff.mpr hI) w
    · refine lv_aload_n hx hb dX1_alike_9 rfl (lv_at hl 0 rfl) ?_
      refine lv_iload_n hx hb dX1_alike_10 rfl (lv_at hl 1 rfl) ?_
      refine lv_iload_n hx hb dX1_alike_11 rfl (lv_at hl 3 rfl) ?_
      refine lv_iconst (v := nI 1) hx hb dX1_alike_12 (by decide) ?_
      refine g_calli (ci := 1) (q := (RX1, TX1, 12)) (rest := []) K w (metX1_run l D di h hD C dv nt pt cy aw va hC f j x 1 hj (by omega) (by omega) (by omega)) (cwX1_X1_run hts ⟨Nat.le_trans (by decide) hR.1, Nat.le_trans (by decide) hR.2⟩) rfl rfl rfl hl.1 rfl (Nat.le_of_ble_eq_true rfl) dX1_alike_13 ⟨Nat.zero_le _, Nat.zero_le _⟩ (fun ri u H locs hp1 w => ?_)
      obtain ⟨rfl, va1, rfl⟩ := hp1
      refine lv_istore (lv' := [(4, .int (nI (ansN C j x 1))), (0, .ref (h 0)), (1, .int f), (2, .int g), (3, .int (nI x))]) hx hb dX1_alike_16 hl (by decide) rfl (fun ls hl => ?_)
      refine lv_aload_n hx hb dX1_alike_18 rfl (lv_at hl 1 rfl) ?_
      refine lv_iload_n hx hb dX1_alike_19 rfl (lv_at hl 3 rfl) ?_
      refine lv_iload_n hx hb dX1_alike_20 rfl (lv_at hl 4 rfl) ?_
      refine lv_iconst (v := nI 1) hx hb dX1_alike_21 (by decide) ?_
      refine g_calli (ci := 1) (q := (RX1, TX1, 12)) (rest := []) K w (metX1_run l D di h hD C dv nt pt cy aw va1 hC g k x 1 hk (by omega) (by omega) (by omega)) (cwX1_X1_run hts ⟨Nat.le_trans (by decide) hR.1, Nat.le_trans (by decide) hR.2⟩) rfl rfl rfl hl.1 rfl (Nat.le_of_ble_eq_true rfl) dX1_alike_22 ⟨Nat.zero_le _, Nat.zero_le _⟩ (fun ri u H locs hp2 w => ?_)
      obtain ⟨rfl, va2, rfl⟩ := hp2
      refine lv_istore (lv' := [(5, .int (nI (ansN C k x 1))), (4, .int (nI (ansN C j x 1))), (0, .ref (h 0)), (1, .int f), (2, .int g), (3, .int (nI x))]) hx hb dX1_alike_25 hl (by decide) rfl (fun ls hl => ?_)
      have hz1 := ansN_lt C j x 1
      have hz2 := ansN_lt C k x 1
      refine lv_iload hx hb dX1_alike_27 (lv_at hl 1 rfl) ?_
      refine lv_iload hx hb dX1_alike_29 (lv_at hl 0 rfl) ?_
      refine n_eq (tgt := 36) hx hb dX1_alike_31 (by decide) (by omega) (by omega) (fun c31 => ?_) (fun c31 => ?_)
      · refine lv_iinc (v := (nI (x + 1))) (lv' := [(3, .int (nI (x + 1))), (5, .int (nI (ansN C k x 1))), (4, .int (nI (ansN C j x 1))), (0, .ref (h 0)), (1, .int f), (2, .int g)]) hx hb dX1_alike_36 hl (k := 5) rfl (n_inc _) (by decide) rfl (fun ls hl => ?_)
        refine lv_goto (tgt := 2) hx hb dX1_alike_39 (by decide) ?_
        exact ih (x + 1) _ H locs ls (by omega) (by omega) (lt_s hI c31) w (lv_sub hl [3, 4, 5, 0] rfl)
      · refine lv_iconst (v := nI 0) hx hb dX1_alike_34 (by decide) ?_
        exact kk0 va2 H locs ls (Bool.eq_false_iff.mpr fun z => c31 (alB_iff.mp z x (by omega))) w
set_option maxHeartbeats 4000000 in
set_option maxRecDepth 100000 in
/-- alike(f, g) -/
theorem metX1_alike (l : Launch) (D : va_G) (di : ClassId) (h : Nat → Nat) (hD : xD h) (C : Cfg) (dv : Int32) (nt : Nat) (pt cy aw va : Nat → Int32) (hC : CW C) (f g : Int32) (j k : Nat) (hj : FJ C f j) (hk : FJ C g k) : Met l yX1_alike (ws_ yX1_alike cX1_alike 6 (some .boolean)) rmX1_alike (GPc D (tyM di) h [.int f, .int g] (wM di h (C, dv, nt, pt, cy, aw, va))) (GQi D h (wM di h) (fun r u => ((r = nI 1 ∧ alB C j k = true) ∨ (r = nI 0 ∧ alB C j k = false)) ∧ MK C dv nt pt cy aw u)) 0 0 (xB h) := by
  refine g_met (own := RX1) rfl (by decide) hD (Nat.le_of_ble_eq_true rfl) ?_
  intro p e s m args below meth c ls K hr hlk w hl
  obtain ⟨hx, hb, hml, hown, hts, hK, -⟩ := id K
  have hR : rmX1_alike.frames ≤ rmX1_alike.frames ∧ rmX1_alike.locals ≤ rmX1_alike.locals := ⟨Nat.le_refl _, Nat.le_refl _⟩
  have hl : lv_has ls 6 [(0, .ref (h 0)), (1, .int f), (2, .int g)] := hl
  refine lv_iconst (v := nI 0) hx hb dX1_alike_0 (by decide) ?_
  refine lv_istore_n (lv' := [(3, .int (nI 0)), (0, .ref (h 0)), (1, .int f), (2, .int g)]) hx hb dX1_alike_1 rfl hl (by decide) rfl (fun ls hl => ?_)
  refine lpX1_alike K hR hC hj hk (fun va1 H locs ls he w => ?_) (fun va1 H locs ls he w => ?_) 129 0 va _ _ ls (by omega) (by omega) (fun k hk => absurd hk (by omega)) w (lv_sub hl [1, 2, 3, 0] rfl)
  · exact W.zret (v := (nI 0)) hx hb hr (by decide) (fun t ht hW => ⟨⟨_, (C, dv, nt, pt, cy, aw, va1), rfl, ⟨Or.inr ⟨rfl, he⟩, va1, rfl⟩, (by show va_P D vwCl _ t.heap; rw [ht]; exact w.1)⟩, w.2.F ht⟩) w.2.2.2 dX1_alike_35
  · refine lv_iconst (v := nI 1) hx hb dX1_alike_42 (by decide) ?_
    exact W.zret (v := (nI 1)) hx hb hr (by decide) (fun t ht hW => ⟨⟨_, (C, dv, nt, pt, cy, aw, va1), rfl, ⟨Or.inl ⟨rfl, he⟩, va1, rfl⟩, (by show va_P D vwCl _ t.heap; rw [ht]; exact w.1)⟩, w.2.F ht⟩) w.2.2.2 dX1_alike_43
end
end
section
/-! the model: what is asked of it -/
set_option maxRecDepth 100000
/-- the model's possible(f), as a word of counts -/
theorem pos_grp {C : Cfg} {p : Nat → Bool} {f : Nat} (hf : f < kf C) (he : ear C f = f) : (∃ g, f ≤ g ∧ g < kf C ∧ p g = true ∧ alB C f g = true) ↔ 0 < fb_ct (fun j => alB C f j && p j) (kf C) := by
  rw [fb_ct_pos]
  constructor
  · rintro ⟨g, -, h2, h3, h4⟩
    exact ⟨g, h2, by show (alB C f g && p g) = true; rw [h3, h4]; rfl⟩
  · rintro ⟨g, h2, h3⟩
    have h3 : (alB C f g && p g) = true := h3
    rw [Bool.and_eq_true] at h3
    refine ⟨g, ?_, h2, h3.2, h3.1⟩
    rcases Nat.lt_or_ge g f with q | q
    · have a := ear_no C (f := f) (k := g) (by omega)
      rw [al_symm, h3.1] at a
      cases a
    · exact q
theorem grp_t {C : Cfg} {p : Nat → Bool} {f : Nat} (hf : f < kf C) (he : ear C f = f) (h : ∃ g, f ≤ g ∧ g < kf C ∧ p g = true ∧ alB C f g = true) : grpB C p f = true := by
  unfold grpB
  rw [decide_eq_true he, decide_eq_true ((pos_grp hf he).mp h)]; rfl
theorem grp_f {C : Cfg} {p : Nat → Bool} {f : Nat} (hf : f < kf C) (he : ear C f = f) (h : ¬ ∃ g, f ≤ g ∧ g < kf C ∧ p g = true ∧ alB C f g = true) : grpB C p f = false := by
  unfold grpB
  rw [decide_eq_false (fun z => h ((pos_grp hf he).mpr z)), Bool.and_false]
theorem grp_n {C : Cfg} {p : Nat → Bool} {f : Nat} (he : ear C f ≠ f) : grpB C p f = false := by
  unfold grpB
  rw [decide_eq_false he]; rfl
/-- nextPattern: what 'seen' says after f faults -/
def SI (C : Cfg) (p : Nat → Bool) (q f : Nat) (sn : Int32) : Prop := (sn = -1 ∧ ∀ i, i < f → p i = false) ∨ ∃ k, k < f ∧ p k = true ∧ sn = nI (ansN C k q 1) ∧ ∀ i, i < f → p i = true → ansN C i q 1 = ansN C k q 1
theorem SI_no {C : Cfg} {p : Nat → Bool} {q f : Nat} {sn : Int32} (h : SI C p q f sn) (hp : p f = false) : SI C p q (f + 1) sn := by
  rcases h with ⟨h1, h2⟩ | ⟨k, h1, h2, h3, h4⟩
  · exact Or.inl ⟨h1, lt_s h2 hp⟩
  · exact Or.inr ⟨k, by omega, h2, h3, lt_s h4 (fun z => by rw [hp] at z; cases z)⟩
theorem SI_first {C : Cfg} {p : Nat → Bool} {q f : Nat} {sn : Int32} (h : SI C p q f sn) (hp : p f = true) (hs : sn < 0) : SI C p q (f + 1) (nI (ansN C f q 1)) := by
  rcases h with ⟨h1, h2⟩ | ⟨k, h1, h2, h3, h4⟩
  · exact Or.inr ⟨f, by omega, hp, rfl, lt_s (fun i hi z => by rw [h2 i hi] at z; cases z) (fun _ => rfl)⟩
  · have := ansN_lt C k q 1
    exact absurd hs (by rw [h3]; exact nI_pos (by omega))
theorem SI_more {C : Cfg} {p : Nat → Bool} {q f : Nat} {sn : Int32} (h : SI C p q f sn) (hp : p f = true) (hs : ¬ sn < 0) (he : nI (ansN C f q 1) = sn) : SI C p q (f + 1) (nI (ansN C f q 1)) := by
  rcases h with ⟨h1, h2⟩ | ⟨k, h1, h2, h3, h4⟩
  · rw [h1] at hs; exact absurd (by decide) hs
  · have e : ansN C f q 1 = ansN C k q 1 := (nI_small (ansN_lt _ _ _ _) (ansN_lt _ _ _ _)).mp (he.trans h3)
    exact Or.inr ⟨k, by omega, h2, by rw [e], lt_s h4 (fun _ => e)⟩
theorem SI_mix {C : Cfg} {p : Nat → Bool} {q f : Nat} {sn : Int32} (h : SI C p q f sn) (hf : f < kf C) (hp : p f = true) (hs : ¬ sn < 0) (he : ¬ nI (ansN C f q 1) = sn) : mix C p q := by
  rcases h with ⟨h1, h2⟩ | ⟨k, h1, h2, h3, h4⟩
  · rw [h1] at hs; exact absurd (by decide) hs
  · exact ⟨f, k, hf, by omega, hp, h2, fun z => he (by rw [z, h3])⟩
theorem SI_end {C : Cfg} {p : Nat → Bool} {q : Nat} {sn : Int32} (h : SI C p q (kf C) sn) : ¬ mix C p q := by
  rintro ⟨i, j, hi, hj, pi, pj, hne⟩
  rcases h with ⟨h1, h2⟩ | ⟨k, h1, h2, h3, h4⟩
  · rw [h2 i hi] at pi; cases pi
  · exact hne ((h4 i hi pi).trans (h4 j hj pj).symm)
section
variable {p : Program} {l : Launch} {e : Env} {R : Room} {s : State} {m : MethodId} {args : Array Value} {below : List Frame} {meth : Method} {c : Code} {Q : State → Prop} {D : va_G} {di : ClassId} {h : Nat → Nat}
set_option maxHeartbeats 4000000 in
set_option maxRecDepth 100000 in
/-- candidates() -/
theorem lpX1_candidates (K : GC p s m args c cX1_candidates 3 RX1 D (tyM di) h) (hR : rmX1_candidates.frames ≤ R.frames ∧ rmX1_candidates.locals ≤ R.locals) {C : Cfg} {dv : Int32} {nt : Nat} {pt cy aw : Nat → Int32} (hC : CW C) (hN : nt ≤ 20 ∧ ∀ i, i < nt → isP (pt i) ∧ isC (cy i))
    (kk : ∀ (va : Nat → Int32) (H : Heap) (locs : List Loc) (ls : Array Slot), GW s D h (wM di h (C, dv, nt, pt, cy, aw, va)) H locs → lv_has ls 3 [(1, .int (nI (fb_ct (exB C nt pt cy aw) (2 * (7 + cg C)))))] → W p l e R s m args below meth c H locs 0 0 Q (F0 m 31 ls []))
    : ∀ (n f : Nat) (va : Nat → Int32) (acc : Nat) (H : Heap) (locs : List Loc) (ls : Array Slot), f ≤ 2 * (7 + cg C) → 2 * (7 + cg C) + 1 ≤ f + n → acc = fb_ct (exB C nt pt cy aw) f → GW s D h (wM di h (C, dv, nt, pt, cy, aw, va)) H locs → lv_has ls 3 [(0, .ref (h 0)), (1, .int (nI acc)), (2, .int (nI f))] → W p l e R s m args below meth c H locs 0 0 Q (F0 m 4 ls []) := by
  obtain ⟨hx, hb, hml, hown, hts, hK, hD⟩ := id K
  intro n
  induction n with
  | zero =>
    intro f va acc H locs ls h1 h2
    exact absurd h2 (by omega)
  | succ n ih =>
    intro f va acc H locs ls h1 h2 hacc w hl
    have hg := hC.1
    refine lv_iload_n hx hb dX1_candidates_4 rfl (lv_at hl 2 rfl) ?_
    refine lv_iconst (v := nI 2) hx hb dX1_candidates_5 (by decide) ?_
    refine lv_aload_n hx hb dX1_candidates_6 rfl (lv_at hl 0 rfl) ?_
    refine g_readi (ci := 1) (q := (RX1, TX1, 12)) (rest := [.int (nI 2), .int (nI f)]) K w (metX1_lineCount l D di h hD C dv nt pt cy aw va) (cwX1_X1_lineCount hts ⟨Nat.le_trans (by decide) hR.1, Nat.le_trans (by decide) hR.2⟩) rfl rfl rfl hl.1 rfl (Nat.le_of_ble_eq_true rfl) dX1_candidates_7 ⟨Nat.zero_le _, Nat.zero_le _⟩ (fun rl hrl => ?_)
    subst hrl
    refine n_imul hx hb dX1_candidates_10 ?_
    refine n_ge (tgt := 31) hx hb dX1_candidates_11 (by decide) (by omega) (by omega) (fun c11 => ?_) (fun c11 => ?_)
    · obtain rfl : f = 2 * (7 + cg C) := by omega
      subst hacc
      exact kk va H locs ls w (lv_sub hl [1] rfl)
    · refine lv_aload_n hx hb dX1_candidates_14 rfl (lv_at hl 0 rfl) ?_
      refine lv_iload_n hx hb dX1_candidates_15 rfl (lv_at hl 2 rfl) ?_
      refine g_calli (ci := 1) (q := (RX1, TX1, 12)) (rest := []) K w (metX1_explains l D di h hD C dv nt pt cy aw va hC hN (nI f) f (Or.inr ⟨rfl, c11⟩)) (cwX1_X1_explains hts ⟨Nat.le_trans (by decide) hR.1, Nat.le_trans (by decide) hR.2⟩) rfl rfl rfl hl.1 rfl (Nat.le_of_ble_eq_true rfl) dX1_candidates_16 ⟨Nat.zero_le _, Nat.zero_le _⟩ (fun rb u H locs he w => ?_)
      obtain ⟨he, va1, rfl⟩ := he
      rcases he with ⟨rfl, he⟩ | ⟨rfl, he⟩
      · refine n_ifeq1 (tgt := 25) hx hb dX1_candidates_19 (by decide) ?_
        refine lv_iinc (v := (nI (acc + 1))) (lv' := [(1, .int (nI (acc + 1))), (0, .ref (h 0)), (2, .int (nI f))]) hx hb dX1_candidates_22 hl (k := 1) rfl (n_inc _) (by decide) rfl (fun ls hl => ?_)
        refine lv_iinc (v := (nI (f + 1))) (lv' := [(2, .int (nI (f + 1))), (1, .int (nI (acc + 1))), (0, .ref (h 0))]) hx hb dX1_candidates_25 hl (k := 2) rfl (n_inc _) (by decide) rfl (fun ls hl => ?_)
        refine lv_goto (tgt := 4) hx hb dX1_candidates_28 (by decide) ?_
        exact ih (f + 1) _ _ H locs ls (by omega) (by omega) (by rw [hacc, fb_ct_succ, he]; rfl) w (lv_sub hl [2, 1, 0] rfl)
      · refine n_ifeq0 (tgt := 25) hx hb dX1_candidates_19 (by decide) ?_
        refine lv_iinc (v := (nI (f + 1))) (lv' := [(2, .int (nI (f + 1))), (0, .ref (h 0)), (1, .int (nI acc))]) hx hb dX1_candidates_25 hl (k := 2) rfl (n_inc _) (by decide) rfl (fun ls hl => ?_)
        refine lv_goto (tgt := 4) hx hb dX1_candidates_28 (by decide) ?_
        exact ih (f + 1) _ _ H locs ls (by omega) (by omega) (by rw [hacc, fb_ct_succ, he]; rfl) w (lv_sub hl [1, 2, 0] rfl)
set_option maxHeartbeats 4000000 in
set_option maxRecDepth 100000 in
/-- candidates() -/
theorem metX1_candidates (l : Launch) (D : va_G) (di : ClassId) (h : Nat → Nat) (hD : xD h) (C : Cfg) (dv : Int32) (nt : Nat) (pt cy aw va : Nat → Int32) (hC : CW C) (hN : nt ≤ 20 ∧ ∀ i, i < nt → isP (pt i) ∧ isC (cy i))  : Met l yX1_candidates (ws_ yX1_candidates cX1_candidates 3 (some .int)) rmX1_candidates (GPc D (tyM di) h [] (wM di h (C, dv, nt, pt, cy, aw, va))) (GQi D h (wM di h) (fun r u => r = nI (fb_ct (exB C nt pt cy aw) (kf C)) ∧ MK C dv nt pt cy aw u)) 0 0 (xB h) := by
  refine g_met (own := RX1) rfl (by decide) hD (Nat.le_of_ble_eq_true rfl) ?_
  intro p e s m args below meth c ls K hr hlk w hl
  obtain ⟨hx, hb, hml, hown, hts, hK, -⟩ := id K
  have hR : rmX1_candidates.frames ≤ rmX1_candidates.frames ∧ rmX1_candidates.locals ≤ rmX1_candidates.locals := ⟨Nat.le_refl _, Nat.le_refl _⟩
  have hl : lv_has ls 3 [(0, .ref (h 0))] := hl
  refine lv_iconst (v := nI 0) hx hb dX1_candidates_0 (by decide) ?_
  refine lv_istore_n (lv' := [(1, .int (nI 0)), (0, .ref (h 0))]) hx hb dX1_candidates_1 rfl hl (by decide) rfl (fun ls hl => ?_)
  refine lv_iconst (v := nI 0) hx hb dX1_candidates_2 (by decide) ?_
  refine lv_istore_n (lv' := [(2, .int (nI 0)), (1, .int (nI 0)), (0, .ref (h 0))]) hx hb dX1_candidates_3 rfl hl (by decide) rfl (fun ls hl => ?_)
  refine lpX1_candidates K hR hC hN (fun va1 H locs ls w hl => ?_) (2 * (7 + cg C) + 1) 0 va 0 _ _ ls (by omega) (by omega) rfl w (lv_sub hl [2, 1, 0] rfl)
  refine lv_iload_n hx hb dX1_candidates_31 rfl (lv_at hl 0 rfl) ?_
  exact W.iret (v := (nI (fb_ct (exB C nt pt cy aw) (2 * (7 + cg C))))) hx hb hr (fun t ht hW => ⟨⟨_, (C, dv, nt, pt, cy, aw, va1), rfl, ⟨rfl, va1, rfl⟩, (by show va_P D vwCl _ t.heap; rw [ht]; exact w.1)⟩, w.2.F ht⟩) w.2.2.2 dX1_candidates_32
set_option maxHeartbeats 4000000 in
set_option maxRecDepth 100000 in
/-- hidden() -/
theorem lpX1_hidden (K : GC p s m args c cX1_hidden 3 RX1 D (tyM di) h) (hR : rmX1_hidden.frames ≤ R.frames ∧ rmX1_hidden.locals ≤ R.locals) {C : Cfg} {dv : Int32} {nt : Nat} {pt cy aw : Nat → Int32} (hC : CW C)
    (kk : ∀ (va : Nat → Int32) (H : Heap) (locs : List Loc) (ls : Array Slot), GW s D h (wM di h (C, dv, nt, pt, cy, aw, va)) H locs → lv_has ls 3 [(1, .int (nI (fb_ct (fun f => alB C f 63) (2 * (7 + cg C)))))] → W p l e R s m args below meth c H locs 0 0 Q (F0 m 32 ls []))
    : ∀ (n f : Nat) (va : Nat → Int32) (acc : Nat) (H : Heap) (locs : List Loc) (ls : Array Slot), f ≤ 2 * (7 + cg C) → 2 * (7 + cg C) + 1 ≤ f + n → acc = fb_ct (fun f => alB C f 63) f → GW s D h (wM di h (C, dv, nt, pt, cy, aw, va)) H locs → lv_has ls 3 [(0, .ref (h 0)), (1, .int (nI acc)), (2, .int (nI f))] → W p l e R s m args below meth c H locs 0 0 Q (F0 m 4 ls []) := by
  obtain ⟨hx, hb, hml, hown, hts, hK, hD⟩ := id K
  intro n
  induction n with
  | zero =>
    intro f va acc H locs ls h1 h2
    exact absurd h2 (by omega)
  | succ n ih =>
    intro f va acc H locs ls h1 h2 hacc w hl
    have hg := hC.1
    refine lv_iload_n hx hb dX1_hidden_4 rfl (lv_at hl 2 rfl) ?_
    refine lv_iconst (v := nI 2) hx hb dX1_hidden_5 (by decide) ?_
    refine lv_aload_n hx hb dX1_hidden_6 rfl (lv_at hl 0 rfl) ?_
    refine g_readi (ci := 1) (q := (RX1, TX1, 12)) (rest := [.int (nI 2), .int (nI f)]) K w (metX1_lineCount l D di h hD C dv nt pt cy aw va) (cwX1_X1_lineCount hts ⟨Nat.le_trans (by decide) hR.1, Nat.le_trans (by decide) hR.2⟩) rfl rfl rfl hl.1 rfl (Nat.le_of_ble_eq_true rfl) dX1_hidden_7 ⟨Nat.zero_le _, Nat.zero_le _⟩ (fun rl hrl => ?_)
    subst hrl
    refine n_imul hx hb dX1_hidden_10 ?_
    refine n_ge (tgt := 32) hx hb dX1_hidden_11 (by decide) (by omega) (by omega) (fun c11 => ?_) (fun c11 => ?_)
    · obtain rfl : f = 2 * (7 + cg C) := by omega
      subst hacc
      exact kk va H locs ls w (lv_sub hl [1] rfl)
    · refine lv_aload_n hx hb dX1_hidden_14 rfl (lv_at hl 0 rfl) ?_
      refine lv_iload_n hx hb dX1_hidden_15 rfl (lv_at hl 2 rfl) ?_
      refine lv_iconst (v := -1) hx hb dX1_hidden_16 (by decide) ?_
      refine g_calli (ci := 1) (q := (RX1, TX1, 12)) (rest := []) K w (metX1_alike l D di h hD C dv nt pt cy aw va hC (nI f) (-1) f 63 (Or.inr ⟨rfl, c11⟩) (Or.inl ⟨rfl, rfl⟩)) (cwX1_X1_alike hts ⟨Nat.le_trans (by decide) hR.1, Nat.le_trans (by decide) hR.2⟩) rfl rfl rfl hl.1 rfl (Nat.le_of_ble_eq_true rfl) dX1_hidden_17 ⟨Nat.zero_le _, Nat.zero_le _⟩ (fun rb u H locs he w => ?_)
      obtain ⟨he, va1, rfl⟩ := he
      rcases he with ⟨rfl, he⟩ | ⟨rfl, he⟩
      · refine n_ifeq1 (tgt := 26) hx hb dX1_hidden_20 (by decide) ?_
        refine lv_iinc (v := (nI (acc + 1))) (lv' := [(1, .int (nI (acc + 1))), (0, .ref (h 0)), (2, .int (nI f))]) hx hb dX1_hidden_23 hl (k := 1) rfl (n_inc _) (by decide) rfl (fun ls hl => ?_)
        refine lv_iinc (v := (nI (f + 1))) (lv' := [(2, .int (nI (f + 1))), (1, .int (nI (acc + 1))), (0, .ref (h 0))]) hx hb dX1_hidden_26 hl (k := 2) rfl (n_inc _) (by decide) rfl (fun ls hl => ?_)
        refine lv_goto (tgt := 4) hx hb dX1_hidden_29 (by decide) ?_
        exact ih (f + 1) _ _ H locs ls (by omega) (by omega) (by rw [hacc, fb_ct_succ, he]; rfl) w (lv_sub hl [2, 1, 0] rfl)
      · refine n_ifeq0 (tgt := 26) hx hb dX1_hidden_20 (by decide) ?_
        refine lv_iinc (v := (nI (f + 1))) (lv' := [(2, .int (nI (f + 1))), (0, .ref (h 0)), (1, .int (nI acc))]) hx hb dX1_hidden_26 hl (k := 2) rfl (n_inc _) (by decide) rfl (fun ls hl => ?_)
        refine lv_goto (tgt := 4) hx hb dX1_hidden_29 (by decide) ?_
        exact ih (f + 1) _ _ H locs ls (by omega) (by omega) (by rw [hacc, fb_ct_succ, he]; rfl) w (lv_sub hl [1, 2, 0] rfl)
set_option maxHeartbeats 4000000 in
set_option maxRecDepth 100000 in
/-- hidden() -/
theorem metX1_hidden (l : Launch) (D : va_G) (di : ClassId) (h : Nat → Nat) (hD : xD h) (C : Cfg) (dv : Int32) (nt : Nat) (pt cy aw va : Nat → Int32) (hC : CW C)  : Met l yX1_hidden (ws_ yX1_hidden cX1_hidden 3 (some .int)) rmX1_hidden (GPc D (tyM di) h [] (wM di h (C, dv, nt, pt, cy, aw, va))) (GQi D h (wM di h) (fun r u => r = nI (fb_ct (fun f => alB C f 63) (kf C)) ∧ MK C dv nt pt cy aw u)) 0 0 (xB h) := by
  refine g_met (own := RX1) rfl (by decide) hD (Nat.le_of_ble_eq_true rfl) ?_
  intro p e s m args below meth c ls K hr hlk w hl
  obtain ⟨hx, hb, hml, hown, hts, hK, -⟩ := id K
  have hR : rmX1_hidden.frames ≤ rmX1_hidden.frames ∧ rmX1_hidden.locals ≤ rmX1_hidden.locals := ⟨Nat.le_refl _, Nat.le_refl _⟩
  have hl : lv_has ls 3 [(0, .ref (h 0))] := hl
  refine lv_iconst (v := nI 0) hx hb dX1_hidden_0 (by decide) ?_
  refine lv_istore_n (lv' := [(1, .int (nI 0)), (0, .ref (h 0))]) hx hb dX1_hidden_1 rfl hl (by decide) rfl (fun ls hl => ?_)
  refine lv_iconst (v := nI 0) hx hb dX1_hidden_2 (by decide) ?_
  refine lv_istore_n (lv' := [(2, .int (nI 0)), (1, .int (nI 0)), (0, .ref (h 0))]) hx hb dX1_hidden_3 rfl hl (by decide) rfl (fun ls hl => ?_)
  refine lpX1_hidden K hR hC (fun va1 H locs ls w hl => ?_) (2 * (7 + cg C) + 1) 0 va 0 _ _ ls (by omega) (by omega) rfl w (lv_sub hl [2, 1, 0] rfl)
  refine lv_iload_n hx hb dX1_hidden_32 rfl (lv_at hl 0 rfl) ?_
  exact W.iret (v := (nI (fb_ct (fun f => alB C f 63) (2 * (7 + cg C))))) hx hb hr (fun t ht hW => ⟨⟨_, (C, dv, nt, pt, cy, aw, va1), rfl, ⟨rfl, va1, rfl⟩, (by show va_P D vwCl _ t.heap; rw [ht]; exact w.1)⟩, w.2.F ht⟩) w.2.2.2 dX1_hidden_33
set_option maxHeartbeats 4000000 in
set_option maxRecDepth 100000 in
/-- earliest: the faults ahead -/
theorem lpX1_earliest (K : GC p s m args c cX1_earliest 3 RX1 D (tyM di) h) (hR : rmX1_earliest.frames ≤ R.frames ∧ rmX1_earliest.locals ≤ R.locals) {C : Cfg} {dv : Int32} {nt : Nat} {pt cy aw : Nat → Int32} {f : Nat} (hC : CW C) (hf : f < 2 * (7 + cg C))
    (kk0 : ∀ (va : Nat → Int32) (H : Heap) (locs : List Loc) (ls : Array Slot), GW s D h (wM di h (C, dv, nt, pt, cy, aw, va)) H locs → W p l e R s m args below meth c H locs 0 0 Q (F0 m 17 ls [.int (nI (ear C f))]))
    (kk1 : ∀ (va : Nat → Int32) (H : Heap) (locs : List Loc) (ls : Array Slot), ear C f = f → GW s D h (wM di h (C, dv, nt, pt, cy, aw, va)) H locs → lv_has ls 3 [(1, .int (nI f))] → W p l e R s m args below meth c H locs 0 0 Q (F0 m 24 ls []))
    : ∀ (n i : Nat) (va : Nat → Int32) (H : Heap) (locs : List Loc) (ls : Array Slot), i ≤ f → f + 1 ≤ i + n → (∀ k, k < i → alB C k f = false) → GW s D h (wM di h (C, dv, nt, pt, cy, aw, va)) H locs → lv_has ls 3 [(0, .ref (h 0)), (1, .int (nI f)), (2, .int (nI i))] → W p l e R s m args below meth c H locs 0 0 Q (F0 m 2 ls []) := by
  obtain ⟨hx, hb, hml, hown, hts, hK, hD⟩ := id K
  intro n
  induction n with
  | zero =>
    intro i va H locs ls h1 h2
    exact absurd h2 (by omega)
  | succ n ih =>
    intro i va H locs ls h1 h2 hI w hl
    have hg := hC.1
    refine lv_iload_n hx hb dX1_earliest_2 rfl (lv_at hl 2 rfl) ?_
    refine lv_iload_n hx hb dX1_earliest_3 rfl (lv_at hl 1 rfl) ?_
    refine n_ge (tgt := 24) hx hb dX1_earliest_4 (by decide) (by omega) (by omega) (fun c4 => ?_) (fun c4 => ?_)
    · obtain rfl : i = f := by omega
      exact kk1 va H locs ls (ear_self hI) w (lv_sub hl [1] rfl)
    · refine lv_aload_n hx hb dX1_earliest_7 rfl (lv_at hl 0 rfl) ?_
      refine lv_iload_n hx hb dX1_earliest_8 rfl (lv_at hl 2 rfl) ?_
      refine lv_iload_n hx hb dX1_earliest_9 rfl (lv_at hl 1 rfl) ?_
      refine g_calli (ci := 1) (q := (RX1, TX1, 12)) (rest := []) K w (metX1_alike l D di h hD C dv nt pt cy aw va hC (nI i) (nI f) i f (Or.inr ⟨rfl, (by omega)⟩) (Or.inr ⟨rfl, hf⟩)) (cwX1_X1_alike hts ⟨Nat.le_trans (by decide) hR.1, Nat.le_trans (by decide) hR.2⟩) rfl rfl rfl hl.1 rfl (Nat.le_of_ble_eq_true rfl) dX1_earliest_10 ⟨Nat.zero_le _, Nat.zero_le _⟩ (fun rb u H locs he w => ?_)
      obtain ⟨he, va1, rfl⟩ := he
      rcases he with ⟨rfl, he⟩ | ⟨rfl, he⟩
      · refine n_ifeq1 (tgt := 18) hx hb dX1_earliest_13 (by decide) ?_
        refine lv_iload_n hx hb dX1_earliest_16 rfl (lv_at hl 2 rfl) ?_
        obtain rfl := ear_is c4 he hI
        exact kk0 va1 H locs ls w
      · refine n_ifeq0 (tgt := 18) hx hb dX1_earliest_13 (by decide) ?_
        refine lv_iinc (v := (nI (i + 1))) (lv' := [(2, .int (nI (i + 1))), (0, .ref (h 0)), (1, .int (nI f))]) hx hb dX1_earliest_18 hl (k := 2) rfl (n_inc _) (by decide) rfl (fun ls hl => ?_)
        refine lv_goto (tgt := 2) hx hb dX1_earliest_21 (by decide) ?_
        exact ih (i + 1) _ H locs ls (by omega) (by omega) (lt_s hI he) w (lv_sub hl [1, 2, 0] rfl)
set_option maxHeartbeats 4000000 in
set_option maxRecDepth 100000 in
/-- earliest(f) -/
theorem metX1_earliest (l : Launch) (D : va_G) (di : ClassId) (h : Nat → Nat) (hD : xD h) (C : Cfg) (dv : Int32) (nt : Nat) (pt cy aw va : Nat → Int32) (hC : CW C) (f : Nat) (hf : f < 2 * (7 + cg C)) : Met l yX1_earliest (ws_ yX1_earliest cX1_earliest 3 (some .int)) rmX1_earliest (GPc D (tyM di) h [.int (nI f)] (wM di h (C, dv, nt, pt, cy, aw, va))) (GQi D h (wM di h) (fun r u => r = nI (ear C f) ∧ MK C dv nt pt cy aw u)) 0 0 (xB h) := by
  refine g_met (own := RX1) rfl (by decide) hD (Nat.le_of_ble_eq_true rfl) ?_
  intro p e s m args below meth c ls K hr hlk w hl
  obtain ⟨hx, hb, hml, hown, hts, hK, -⟩ := id K
  have hR : rmX1_earliest.frames ≤ rmX1_earliest.frames ∧ rmX1_earliest.locals ≤ rmX1_earliest.locals := ⟨Nat.le_refl _, Nat.le_refl _⟩
  have hl : lv_has ls 3 [(0, .ref (h 0)), (1, .int (nI f))] := hl
  refine lv_iconst (v := nI 0) hx hb dX1_earliest_0 (by decide) ?_
  refine lv_istore_n (lv' := [(2, .int (nI 0)), (0, .ref (h 0)), (1, .int (nI f))]) hx hb dX1_earliest_1 rfl hl (by decide) rfl (fun ls hl => ?_)
  refine lpX1_earliest K hR hC hf (fun va1 H locs ls w => ?_) (fun va1 H locs ls he w hl => ?_) (f + 1) 0 va _ _ ls (by omega) (by omega) (fun k hk => absurd hk (by omega)) w (lv_sub hl [1, 2, 0] rfl)
  · exact W.iret (v := (nI (ear C f))) hx hb hr (fun t ht hW => ⟨⟨_, (C, dv, nt, pt, cy, aw, va1), rfl, ⟨rfl, va1, rfl⟩, (by show va_P D vwCl _ t.heap; rw [ht]; exact w.1)⟩, w.2.F ht⟩) w.2.2.2 dX1_earliest_17
  · refine lv_iload_n hx hb dX1_earliest_24 rfl (lv_at hl 0 rfl) ?_
    exact W.iret (v := (nI f)) hx hb hr (fun t ht hW => ⟨⟨_, (C, dv, nt, pt, cy, aw, va1), rfl, ⟨by rw [he], va1, rfl⟩, (by show va_P D vwCl _ t.heap; rw [ht]; exact w.1)⟩, w.2.F ht⟩) w.2.2.2 dX1_earliest_25
set_option maxHeartbeats 4000000 in
set_option maxRecDepth 100000 in
/-- groups() -/
theorem lpX1_groups (K : GC p s m args c cX1_groups 3 RX1 D (tyM di) h) (hR : rmX1_groups.frames ≤ R.frames ∧ rmX1_groups.locals ≤ R.locals) {C : Cfg} {dv : Int32} {nt : Nat} {pt cy aw : Nat → Int32} (hC : CW C)
    (kk : ∀ (va : Nat → Int32) (H : Heap) (locs : List Loc) (ls : Array Slot), GW s D h (wM di h (C, dv, nt, pt, cy, aw, va)) H locs → lv_has ls 3 [(1, .int (nI (fb_ct (fun f => decide (ear C f = f)) (2 * (7 + cg C)))))] → W p l e R s m args below meth c H locs 0 0 Q (F0 m 32 ls []))
    : ∀ (n f : Nat) (va : Nat → Int32) (acc : Nat) (H : Heap) (locs : List Loc) (ls : Array Slot), f ≤ 2 * (7 + cg C) → 2 * (7 + cg C) + 1 ≤ f + n → acc = fb_ct (fun f => decide (ear C f = f)) f → GW s D h (wM di h (C, dv, nt, pt, cy, aw, va)) H locs → lv_has ls 3 [(0, .ref (h 0)), (1, .int (nI acc)), (2, .int (nI f))] → W p l e R s m args below meth c H locs 0 0 Q (F0 m 4 ls []) := by
  obtain ⟨hx, hb, hml, hown, hts, hK, hD⟩ := id K
  intro n
  induction n with
  | zero =>
    intro f va acc H locs ls h1 h2
    exact absurd h2 (by omega)
  | succ n ih =>
    intro f va acc H locs ls h1 h2 hacc w hl
    have hg := hC.1
    refine lv_iload_n hx hb dX1_groups_4 rfl (lv_at hl 2 rfl) ?_
    refine lv_iconst (v := nI 2) hx hb dX1_groups_5 (by decide) ?_
    refine lv_aload_n hx hb dX1_groups_6 rfl (lv_at hl 0 rfl) ?_
    refine g_readi (ci := 1) (q := (RX1, TX1, 12)) (rest := [.int (nI 2), .int (nI f)]) K w (metX1_lineCount l D di h hD C dv nt pt cy aw va) (cwX1_X1_lineCount hts ⟨Nat.le_trans (by decide) hR.1, Nat.le_trans (by decide) hR.2⟩) rfl rfl rfl hl.1 rfl (Nat.le_of_ble_eq_true rfl) dX1_groups_7 ⟨Nat.zero_le _, Nat.zero_le _⟩ (fun rl hrl => ?_)
    subst hrl
    refine n_imul hx hb dX1_groups_10 ?_
    refine n_ge (tgt := 32) hx hb dX1_groups_11 (by decide) (by omega) (by omega) (fun c11 => ?_) (fun c11 => ?_)
    · obtain rfl : f = 2 * (7 + cg C) := by omega
      subst hacc
      exact kk va H locs ls w (lv_sub hl [1] rfl)
    · refine lv_aload_n hx hb dX1_groups_14 rfl (lv_at hl 0 rfl) ?_
      refine lv_iload_n hx hb dX1_groups_15 rfl (lv_at hl 2 rfl) ?_
      refine g_calli (ci := 1) (q := (RX1, TX1, 12)) (rest := []) K w (metX1_earliest l D di h hD C dv nt pt cy aw va hC f c11) (cwX1_X1_earliest hts ⟨Nat.le_trans (by decide) hR.1, Nat.le_trans (by decide) hR.2⟩) rfl rfl rfl hl.1 rfl (Nat.le_of_ble_eq_true rfl) dX1_groups_16 ⟨Nat.zero_le _, Nat.zero_le _⟩ (fun ri u H locs hp w => ?_)
      obtain ⟨rfl, va1, rfl⟩ := hp
      have hel := ear_le C f
      refine lv_iload_n hx hb dX1_groups_19 rfl (lv_at hl 2 rfl) ?_
      refine n_ne (tgt := 26) hx hb dX1_groups_20 (by decide) (by omega) (by omega) (fun c20 => ?_) (fun c20 => ?_)
      · refine lv_iinc (v := (nI (f + 1))) (lv' := [(2, .int (nI (f + 1))), (0, .ref (h 0)), (1, .int (nI acc))]) hx hb dX1_groups_26 hl (k := 2) rfl (n_inc _) (by decide) rfl (fun ls hl => ?_)
        refine lv_goto (tgt := 4) hx hb dX1_groups_29 (by decide) ?_
        exact ih (f + 1) _ _ H locs ls (by omega) (by omega) (by rw [hacc, fb_ct_succ, decide_eq_false c20]; rfl) w (lv_sub hl [1, 2, 0] rfl)
      · refine lv_iinc (v := (nI (acc + 1))) (lv' := [(1, .int (nI (acc + 1))), (0, .ref (h 0)), (2, .int (nI f))]) hx hb dX1_groups_23 hl (k := 1) rfl (n_inc _) (by decide) rfl (fun ls hl => ?_)
        refine lv_iinc (v := (nI (f + 1))) (lv' := [(2, .int (nI (f + 1))), (1, .int (nI (acc + 1))), (0, .ref (h 0))]) hx hb dX1_groups_26 hl (k := 2) rfl (n_inc _) (by decide) rfl (fun ls hl => ?_)
        refine lv_goto (tgt := 4) hx hb dX1_groups_29 (by decide) ?_
        exact ih (f + 1) _ _ H locs ls (by omega) (by omega) (by rw [hacc, fb_ct_succ, decide_eq_true c20]; rfl) w (lv_sub hl [2, 1, 0] rfl)
set_option maxHeartbeats 4000000 in
set_option maxRecDepth 100000 in
/-- groups() -/
theorem metX1_groups (l : Launch) (D : va_G) (di : ClassId) (h : Nat → Nat) (hD : xD h) (C : Cfg) (dv : Int32) (nt : Nat) (pt cy aw va : Nat → Int32) (hC : CW C)  : Met l yX1_groups (ws_ yX1_groups cX1_groups 3 (some .int)) rmX1_groups (GPc D (tyM di) h [] (wM di h (C, dv, nt, pt, cy, aw, va))) (GQi D h (wM di h) (fun r u => r = nI (fb_ct (fun f => decide (ear C f = f)) (kf C)) ∧ MK C dv nt pt cy aw u)) 0 0 (xB h) := by
  refine g_met (own := RX1) rfl (by decide) hD (Nat.le_of_ble_eq_true rfl) ?_
  intro p e s m args below meth c ls K hr hlk w hl
  obtain ⟨hx, hb, hml, hown, hts, hK, -⟩ := id K
  have hR : rmX1_groups.frames ≤ rmX1_groups.frames ∧ rmX1_groups.locals ≤ rmX1_groups.locals := ⟨Nat.le_refl _, Nat.le_refl _⟩
  have hl : lv_has ls 3 [(0, .ref (h 0))] := hl
  refine lv_iconst (v := nI 0) hx hb dX1_groups_0 (by decide) ?_
  refine lv_istore_n (lv' := [(1, .int (nI 0)), (0, .ref (h 0))]) hx hb dX1_groups_1 rfl hl (by decide) rfl (fun ls hl => ?_)
  refine lv_iconst (v := nI 0) hx hb dX1_groups_2 (by decide) ?_
  refine lv_istore_n (lv' := [(2, .int (nI 0)), (1, .int (nI 0)), (0, .ref (h 0))]) hx hb dX1_groups_3 rfl hl (by decide) rfl (fun ls hl => ?_)
  refine lpX1_groups K hR hC (fun va1 H locs ls w hl => ?_) (2 * (7 + cg C) + 1) 0 va 0 _ _ ls (by omega) (by omega) rfl w (lv_sub hl [2, 1, 0] rfl)
  refine lv_iload_n hx hb dX1_groups_32 rfl (lv_at hl 0 rfl) ?_
  exact W.iret (v := (nI (fb_ct (fun f => decide (ear C f = f)) (2 * (7 + cg C))))) hx hb hr (fun t ht hW => ⟨⟨_, (C, dv, nt, pt, cy, aw, va1), rfl, ⟨rfl, va1, rfl⟩, (by show va_P D vwCl _ t.heap; rw [ht]; exact w.1)⟩, w.2.F ht⟩) w.2.2.2 dX1_groups_33
set_option maxHeartbeats 4000000 in
set_option maxRecDepth 100000 in
/-- possible: the faults from f on -/
theorem lpX1_possible (K : GC p s m args c cX1_possible 3 RX1 D (tyM di) h) (hR : rmX1_possible.frames ≤ R.frames ∧ rmX1_possible.locals ≤ R.locals) {C : Cfg} {dv : Int32} {nt : Nat} {pt cy aw : Nat → Int32} {f : Nat} (hC : CW C) (hN : nt ≤ 20 ∧ ∀ i, i < nt → isP (pt i) ∧ isC (cy i))
    (kk1 : ∀ (va : Nat → Int32) (H : Heap) (locs : List Loc) (ls : Array Slot), (∃ g, f ≤ g ∧ g < kf C ∧ exB C nt pt cy aw g = true ∧ alB C f g = true) → GW s D h (wM di h (C, dv, nt, pt, cy, aw, va)) H locs → W p l e R s m args below meth c H locs 0 0 Q (F0 m 30 ls [.int (nI 1)]))
    (kk0 : ∀ (va : Nat → Int32) (H : Heap) (locs : List Loc) (ls : Array Slot), ¬ (∃ g, f ≤ g ∧ g < kf C ∧ exB C nt pt cy aw g = true ∧ alB C f g = true) → GW s D h (wM di h (C, dv, nt, pt, cy, aw, va)) H locs → W p l e R s m args below meth c H locs 0 0 Q (F0 m 37 ls []))
    : ∀ (n g : Nat) (va : Nat → Int32) (H : Heap) (locs : List Loc) (ls : Array Slot), g ≤ 2 * (7 + cg C) → 2 * (7 + cg C) + 1 ≤ g + n → f ≤ g → (∀ i, f ≤ i → i < g → ¬ (exB C nt pt cy aw i = true ∧ alB C f i = true)) → GW s D h (wM di h (C, dv, nt, pt, cy, aw, va)) H locs → lv_has ls 3 [(0, .ref (h 0)), (1, .int (nI f)), (2, .int (nI g))] → W p l e R s m args below meth c H locs 0 0 Q (F0 m 2 ls []) := by
  obtain ⟨hx, hb, hml, hown, hts, hK, hD⟩ := id K
  intro n
  induction n with
  | zero =>
    intro g va H locs ls h1 h2
    exact absurd h2 (by omega)
  | succ n ih =>
    intro g va H locs ls h1 h2 hfg hI w hl
    have hg := hC.1
    refine lv_iload_n hx hb dX1_possible_2 rfl (lv_at hl 2 rfl) ?_
    refine lv_iconst (v := nI 2) hx hb dX1_possible_3 (by decide) ?_
    refine lv_aload_n hx hb dX1_possible_4 rfl (lv_at hl 0 rfl) ?_
    refine g_readi (ci := 1) (q := (RX1, TX1, 12)) (rest := [.int (nI 2), .int (nI g)]) K w (metX1_lineCount l D di h hD C dv nt pt cy aw va) (cwX1_X1_lineCount hts ⟨Nat.le_trans (by decide) hR.1, Nat.le_trans (by decide) hR.2⟩) rfl rfl rfl hl.1 rfl (Nat.le_of_ble_eq_true rfl) dX1_possible_5 ⟨Nat.zero_le _, Nat.zero_le _⟩ (fun rl hrl => ?_)
    subst hrl
    refine n_imul hx hb dX1_possible_8 ?_
    refine n_ge (tgt := 37) hx hb dX1_possible_9 (by decide) (by omega) (by omega) (fun c9 => ?_) (fun c9 => ?_)
    · obtain rfl : g = 2 * (7 + cg C) := by omega
      exact kk0 va H locs ls (fun ⟨i, hi1, hi2, hi3, hi4⟩ => hI i hi1 hi2 ⟨hi3, hi4⟩) w
    · refine lv_aload_n hx hb dX1_possible_12 rfl (lv_at hl 0 rfl) ?_
      refine lv_iload_n hx hb dX1_possible_13 rfl (lv_at hl 2 rfl) ?_
      refine g_calli (ci := 1) (q := (RX1, TX1, 12)) (rest := []) K w (metX1_explains l D di h hD C dv nt pt cy aw va hC hN (nI g) g (Or.inr ⟨rfl, c9⟩)) (cwX1_X1_explains hts ⟨Nat.le_trans (by decide) hR.1, Nat.le_trans (by decide) hR.2⟩) rfl rfl rfl hl.1 rfl (Nat.le_of_ble_eq_true rfl) dX1_possible_14 ⟨Nat.zero_le _, Nat.zero_le _⟩ (fun rb u H locs he w => ?_)
      obtain ⟨he, va1, rfl⟩ := he
      rcases he with ⟨rfl, he⟩ | ⟨rfl, he⟩
      · refine n_ifeq1 (tgt := 31) hx hb dX1_possible_17 (by decide) ?_
        refine lv_aload_n hx hb dX1_possible_20 rfl (lv_at hl 0 rfl) ?_
        refine lv_iload_n hx hb dX1_possible_21 rfl (lv_at hl 1 rfl) ?_
        refine lv_iload_n hx hb dX1_possible_22 rfl (lv_at hl 2 rfl) ?_
        refine g_calli (ci := 1) (q := (RX1, TX1, 12)) (rest := []) K w (metX1_alike l D di h hD C dv nt pt cy aw va1 hC (nI f) (nI g) f g (Or.inr ⟨rfl, (by omega)⟩) (Or.inr ⟨rfl, c9⟩)) (cwX1_X1_alike hts ⟨Nat.le_trans (by decide) hR.1, Nat.le_trans (by decide) hR.2⟩) rfl rfl rfl hl.1 rfl (Nat.le_of_ble_eq_true rfl) dX1_possible_23 ⟨Nat.zero_le _, Nat.zero_le _⟩ (fun rb u H locs ha w => ?_)
        obtain ⟨ha, va2, rfl⟩ := ha
        rcases ha with ⟨rfl, ha⟩ | ⟨rfl, ha⟩
        · refine n_ifeq1 (tgt := 31) hx hb dX1_possible_26 (by decide) ?_
          refine lv_iconst (v := nI 1) hx hb dX1_possible_29 (by decide) ?_
          exact kk1 va2 H locs ls ⟨g, hfg, c9, he, ha⟩ w
        · refine n_ifeq0 (tgt := 31) hx hb dX1_possible_26 (by decide) ?_
          refine lv_iinc (v := (nI (g + 1))) (lv' := [(2, .int (nI (g + 1))), (0, .ref (h 0)), (1, .int (nI f))]) hx hb dX1_possible_31 hl (k := 2) rfl (n_inc _) (by decide) rfl (fun ls hl => ?_)
          refine lv_goto (tgt := 2) hx hb dX1_possible_34 (by decide) ?_
          exact ih (g + 1) _ H locs ls (by omega) (by omega) (by omega) (fun i hi1 hi2 => (by rcases Nat.lt_or_ge i g with q | q; (exact hI i hi1 q); (obtain rfl : i = g := (by omega); exact fun z => (by rw [ha] at z; cases z.2)))) w (lv_sub hl [1, 2, 0] rfl)
      · refine n_ifeq0 (tgt := 31) hx hb dX1_possible_17 (by decide) ?_
        refine lv_iinc (v := (nI (g + 1))) (lv' := [(2, .int (nI (g + 1))), (0, .ref (h 0)), (1, .int (nI f))]) hx hb dX1_possible_31 hl (k := 2) rfl (n_inc _) (by decide) rfl (fun ls hl => ?_)
        refine lv_goto (tgt := 2) hx hb dX1_possible_34 (by decide) ?_
        exact ih (g + 1) _ H locs ls (by omega) (by omega) (by omega) (fun i hi1 hi2 => (by rcases Nat.lt_or_ge i g with q | q; (exact hI i hi1 q); (obtain rfl : i = g := (by omega); exact fun z => (by rw [he] at z; cases z.1)))) w (lv_sub hl [1, 2, 0] rfl)
set_option maxHeartbeats 4000000 in
set_option maxRecDepth 100000 in
/-- possible(f) -/
theorem metX1_possible (l : Launch) (D : va_G) (di : ClassId) (h : Nat → Nat) (hD : xD h) (C : Cfg) (dv : Int32) (nt : Nat) (pt cy aw va : Nat → Int32) (hC : CW C) (hN : nt ≤ 20 ∧ ∀ i, i < nt → isP (pt i) ∧ isC (cy i)) (f : Nat) (hf : f < 2 * (7 + cg C)) : Met l yX1_possible (ws_ yX1_possible cX1_possible 3 (some .boolean)) rmX1_possible (GPc D (tyM di) h [.int (nI f)] (wM di h (C, dv, nt, pt, cy, aw, va))) (GQi D h (wM di h) (fun r u => ((r = nI 1 ∧ ∃ g, f ≤ g ∧ g < kf C ∧ exB C nt pt cy aw g = true ∧ alB C f g = true) ∨ (r = nI 0 ∧ ¬ (∃ g, f ≤ g ∧ g < kf C ∧ exB C nt pt cy aw g = true ∧ alB C f g = true))) ∧ MK C dv nt pt cy aw u)) 0 0 (xB h) := by
  refine g_met (own := RX1) rfl (by decide) hD (Nat.le_of_ble_eq_true rfl) ?_
  intro p e s m args below meth c ls K hr hlk w hl
  obtain ⟨hx, hb, hml, hown, hts, hK, -⟩ := id K
  have hR : rmX1_possible.frames ≤ rmX1_possible.frames ∧ rmX1_possible.locals ≤ rmX1_possible.locals := ⟨Nat.le_refl _, Nat.le_refl _⟩
  have hl : lv_has ls 3 [(0, .ref (h 0)), (1, .int (nI f))] := hl
  refine lv_iload_n hx hb dX1_possible_0 rfl (lv_at hl 1 rfl) ?_
  refine lv_istore_n (lv' := [(2, .int (nI f)), (0, .ref (h 0)), (1, .int (nI f))]) hx hb dX1_possible_1 rfl hl (by decide) rfl (fun ls hl => ?_)
  refine lpX1_possible K hR hC hN (fun va1 H locs ls he w => ?_) (fun va1 H locs ls he w => ?_) (2 * (7 + cg C) + 1) f va _ _ ls (by omega) (by omega) (Nat.le_refl f) (fun k hk1 hk2 => absurd hk2 (by omega)) w (lv_sub hl [1, 2, 0] rfl)
  · exact W.zret (v := (nI 1)) hx hb hr (by decide) (fun t ht hW => ⟨⟨_, (C, dv, nt, pt, cy, aw, va1), rfl, ⟨Or.inl ⟨rfl, he⟩, va1, rfl⟩, (by show va_P D vwCl _ t.heap; rw [ht]; exact w.1)⟩, w.2.F ht⟩) w.2.2.2 dX1_possible_30
  · refine lv_iconst (v := nI 0) hx hb dX1_possible_37 (by decide) ?_
    exact W.zret (v := (nI 0)) hx hb hr (by decide) (fun t ht hW => ⟨⟨_, (C, dv, nt, pt, cy, aw, va1), rfl, ⟨Or.inr ⟨rfl, he⟩, va1, rfl⟩, (by show va_P D vwCl _ t.heap; rw [ht]; exact w.1)⟩, w.2.F ht⟩) w.2.2.2 dX1_possible_38
set_option maxHeartbeats 4000000 in
set_option maxRecDepth 100000 in
/-- candidateGroups() -/
theorem lpX1_candidateGroups (K : GC p s m args c cX1_candidateGroups 3 RX1 D (tyM di) h) (hR : rmX1_candidateGroups.frames ≤ R.frames ∧ rmX1_candidateGroups.locals ≤ R.locals) {C : Cfg} {dv : Int32} {nt : Nat} {pt cy aw : Nat → Int32} (hC : CW C) (hN : nt ≤ 20 ∧ ∀ i, i < nt → isP (pt i) ∧ isC (cy i))
    (kk : ∀ (va : Nat → Int32) (H : Heap) (locs : List Loc) (ls : Array Slot), GW s D h (wM di h (C, dv, nt, pt, cy, aw, va)) H locs → lv_has ls 3 [(1, .int (nI (fb_ct (grpB C (exB C nt pt cy aw)) (2 * (7 + cg C)))))] → W p l e R s m args below meth c H locs 0 0 Q (F0 m 40 ls []))
    : ∀ (n f : Nat) (va : Nat → Int32) (acc : Nat) (H : Heap) (locs : List Loc) (ls : Array Slot), f ≤ 2 * (7 + cg C) → 2 * (7 + cg C) + 1 ≤ f + n → acc = fb_ct (grpB C (exB C nt pt cy aw)) f → GW s D h (wM di h (C, dv, nt, pt, cy, aw, va)) H locs → lv_has ls 3 [(0, .ref (h 0)), (1, .int (nI acc)), (2, .int (nI f))] → W p l e R s m args below meth c H locs 0 0 Q (F0 m 4 ls []) := by
  obtain ⟨hx, hb, hml, hown, hts, hK, hD⟩ := id K
  intro n
  induction n with
  | zero =>
    intro f va acc H locs ls h1 h2
    exact absurd h2 (by omega)
  | succ n ih =>
    intro f va acc H locs ls h1 h2 hacc w hl
    have hg := hC.1
    refine lv_iload_n hx hb dX1_candidateGroups_4 rfl (lv_at hl 2 rfl) ?_
    refine lv_iconst (v := nI 2) hx hb dX1_candidateGroups_5 (by decide) ?_
    refine lv_aload_n hx hb dX1_candidateGroups_6 rfl (lv_at hl 0 rfl) ?_
    refine g_readi (ci := 1) (q := (RX1, TX1, 12)) (rest := [.int (nI 2), .int (nI f)]) K w (metX1_lineCount l D di h hD C dv nt pt cy aw va) (cwX1_X1_lineCount hts ⟨Nat.le_trans (by decide) hR.1, Nat.le_trans (by decide) hR.2⟩) rfl rfl rfl hl.1 rfl (Nat.le_of_ble_eq_true rfl) dX1_candidateGroups_7 ⟨Nat.zero_le _, Nat.zero_le _⟩ (fun rl hrl => ?_)
    subst hrl
    refine n_imul hx hb dX1_candidateGroups_10 ?_
    refine n_ge (tgt := 40) hx hb dX1_candidateGroups_11 (by decide) (by omega) (by omega) (fun c11 => ?_) (fun c11 => ?_)
    · obtain rfl : f = 2 * (7 + cg C) := by omega
      subst hacc
      exact kk va H locs ls w (lv_sub hl [1] rfl)
    · refine lv_aload_n hx hb dX1_candidateGroups_14 rfl (lv_at hl 0 rfl) ?_
      refine lv_iload_n hx hb dX1_candidateGroups_15 rfl (lv_at hl 2 rfl) ?_
      refine g_calli (ci := 1) (q := (RX1, TX1, 12)) (rest := []) K w (metX1_earliest l D di h hD C dv nt pt cy aw va hC f c11) (cwX1_X1_earliest hts ⟨Nat.le_trans (by decide) hR.1, Nat.le_trans (by decide) hR.2⟩) rfl rfl rfl hl.1 rfl (Nat.le_of_ble_eq_true rfl) dX1_candidateGroups_16 ⟨Nat.zero_le _, Nat.zero_le _⟩ (fun ri u H locs hp w => ?_)
      obtain ⟨rfl, va1, rfl⟩ := hp
      have hel := ear_le C f
      refine lv_iload_n hx hb dX1_candidateGroups_19 rfl (lv_at hl 2 rfl) ?_
      refine n_ne (tgt := 34) hx hb dX1_candidateGroups_20 (by decide) (by omega) (by omega) (fun c20 => ?_) (fun c20 => ?_)
      · refine lv_iinc (v := (nI (f + 1))) (lv' := [(2, .int (nI (f + 1))), (0, .ref (h 0)), (1, .int (nI acc))]) hx hb dX1_candidateGroups_34 hl (k := 2) rfl (n_inc _) (by decide) rfl (fun ls hl => ?_)
        refine lv_goto (tgt := 4) hx hb dX1_candidateGroups_37 (by decide) ?_
        exact ih (f + 1) _ _ H locs ls (by omega) (by omega) (by rw [hacc, fb_ct_succ, grp_n c20]; rfl) w (lv_sub hl [1, 2, 0] rfl)
      · refine lv_aload_n hx hb dX1_candidateGroups_23 rfl (lv_at hl 0 rfl) ?_
        refine lv_iload_n hx hb dX1_candidateGroups_24 rfl (lv_at hl 2 rfl) ?_
        refine g_calli (ci := 1) (q := (RX1, TX1, 12)) (rest := []) K w (metX1_possible l D di h hD C dv nt pt cy aw va1 hC hN f c11) (cwX1_X1_possible hts ⟨Nat.le_trans (by decide) hR.1, Nat.le_trans (by decide) hR.2⟩) rfl rfl rfl hl.1 rfl (Nat.le_of_ble_eq_true rfl) dX1_candidateGroups_25 ⟨Nat.zero_le _, Nat.zero_le _⟩ (fun rb u H locs hq w => ?_)
        obtain ⟨hq, va2, rfl⟩ := hq
        rcases hq with ⟨rfl, hq⟩ | ⟨rfl, hq⟩
        · refine n_ifeq1 (tgt := 34) hx hb dX1_candidateGroups_28 (by decide) ?_
          refine lv_iinc (v := (nI (acc + 1))) (lv' := [(1, .int (nI (acc + 1))), (0, .ref (h 0)), (2, .int (nI f))]) hx hb dX1_candidateGroups_31 hl (k := 1) rfl (n_inc _) (by decide) rfl (fun ls hl => ?_)
          refine lv_iinc (v := (nI (f + 1))) (lv' := [(2, .int (nI (f + 1))), (1, .int (nI (acc + 1))), (0, .ref (h 0))]) hx hb dX1_candidateGroups_34 hl (k := 2) rfl (n_inc _) (by decide) rfl (fun ls hl => ?_)
          refine lv_goto (tgt := 4) hx hb dX1_candidateGroups_37 (by decide) ?_
          exact ih (f + 1) _ _ H locs ls (by omega) (by omega) (by rw [hacc, fb_ct_succ, grp_t c11 c20 hq]; rfl) w (lv_sub hl [2, 1, 0] rfl)
        · refine n_ifeq0 (tgt := 34) hx hb dX1_candidateGroups_28 (by decide) ?_
          refine lv_iinc (v := (nI (f + 1))) (lv' := [(2, .int (nI (f + 1))), (0, .ref (h 0)), (1, .int (nI acc))]) hx hb dX1_candidateGroups_34 hl (k := 2) rfl (n_inc _) (by decide) rfl (fun ls hl => ?_)
          refine lv_goto (tgt := 4) hx hb dX1_candidateGroups_37 (by decide) ?_
          exact ih (f + 1) _ _ H locs ls (by omega) (by omega) (by rw [hacc, fb_ct_succ, grp_f c11 c20 hq]; rfl) w (lv_sub hl [1, 2, 0] rfl)
set_option maxHeartbeats 4000000 in
set_option maxRecDepth 100000 in
/-- candidateGroups() -/
theorem metX1_candidateGroups (l : Launch) (D : va_G) (di : ClassId) (h : Nat → Nat) (hD : xD h) (C : Cfg) (dv : Int32) (nt : Nat) (pt cy aw va : Nat → Int32) (hC : CW C) (hN : nt ≤ 20 ∧ ∀ i, i < nt → isP (pt i) ∧ isC (cy i))  : Met l yX1_candidateGroups (ws_ yX1_candidateGroups cX1_candidateGroups 3 (some .int)) rmX1_candidateGroups (GPc D (tyM di) h [] (wM di h (C, dv, nt, pt, cy, aw, va))) (GQi D h (wM di h) (fun r u => r = nI (fb_ct (grpB C (exB C nt pt cy aw)) (kf C)) ∧ MK C dv nt pt cy aw u)) 0 0 (xB h) := by
  refine g_met (own := RX1) rfl (by decide) hD (Nat.le_of_ble_eq_true rfl) ?_
  intro p e s m args below meth c ls K hr hlk w hl
  obtain ⟨hx, hb, hml, hown, hts, hK, -⟩ := id K
  have hR : rmX1_candidateGroups.frames ≤ rmX1_candidateGroups.frames ∧ rmX1_candidateGroups.locals ≤ rmX1_candidateGroups.locals := ⟨Nat.le_refl _, Nat.le_refl _⟩
  have hl : lv_has ls 3 [(0, .ref (h 0))] := hl
  refine lv_iconst (v := nI 0) hx hb dX1_candidateGroups_0 (by decide) ?_
  refine lv_istore_n (lv' := [(1, .int (nI 0)), (0, .ref (h 0))]) hx hb dX1_candidateGroups_1 rfl hl (by decide) rfl (fun ls hl => ?_)
  refine lv_iconst (v := nI 0) hx hb dX1_candidateGroups_2 (by decide) ?_
  refine lv_istore_n (lv' := [(2, .int (nI 0)), (1, .int (nI 0)), (0, .ref (h 0))]) hx hb dX1_candidateGroups_3 rfl hl (by decide) rfl (fun ls hl => ?_)
  refine lpX1_candidateGroups K hR hC hN (fun va1 H locs ls w hl => ?_) (2 * (7 + cg C) + 1) 0 va 0 _ _ ls (by omega) (by omega) rfl w (lv_sub hl [2, 1, 0] rfl)
  refine lv_iload_n hx hb dX1_candidateGroups_40 rfl (lv_at hl 0 rfl) ?_
  exact W.iret (v := (nI (fb_ct (grpB C (exB C nt pt cy aw)) (2 * (7 + cg C))))) hx hb hr (fun t ht hW => ⟨⟨_, (C, dv, nt, pt, cy, aw, va1), rfl, ⟨rfl, va1, rfl⟩, (by show va_P D vwCl _ t.heap; rw [ht]; exact w.1)⟩, w.2.F ht⟩) w.2.2.2 dX1_candidateGroups_41
set_option maxHeartbeats 4000000 in
set_option maxRecDepth 100000 in
/-- candidate: the faults -/
theorem lpX1_candidate (K : GC p s m args c cX1_candidate 4 RX1 D (tyM di) h) (hR : rmX1_candidate.frames ≤ R.frames ∧ rmX1_candidate.locals ≤ R.locals) {C : Cfg} {dv : Int32} {nt : Nat} {pt cy aw : Nat → Int32} {a : Int32} (hC : CW C) (hN : nt ≤ 20 ∧ ∀ i, i < nt → isP (pt i) ∧ isC (cy i))
    (kk1 : ∀ (va : Nat → Int32) (f : Nat) (H : Heap) (locs : List Loc) (ls : Array Slot), f < 2 * (7 + cg C) → exB C nt pt cy aw f = true → a = nI (fb_ct (exB C nt pt cy aw) f) → GW s D h (wM di h (C, dv, nt, pt, cy, aw, va)) H locs → W p l e R s m args below meth c H locs 0 0 Q (F0 m 28 ls [.int (nI f)]))
    (kk0 : ∀ (va : Nat → Int32) (H : Heap) (locs : List Loc) (ls : Array Slot), (∀ f, f < 2 * (7 + cg C) → exB C nt pt cy aw f = true → a ≠ nI (fb_ct (exB C nt pt cy aw) f)) → GW s D h (wM di h (C, dv, nt, pt, cy, aw, va)) H locs → W p l e R s m args below meth c H locs 0 0 Q (F0 m 38 ls []))
    : ∀ (n f : Nat) (va : Nat → Int32) (acc : Nat) (H : Heap) (locs : List Loc) (ls : Array Slot), f ≤ 2 * (7 + cg C) → 2 * (7 + cg C) + 1 ≤ f + n → acc = fb_ct (exB C nt pt cy aw) f → (∀ k, k < f → exB C nt pt cy aw k = true → a ≠ nI (fb_ct (exB C nt pt cy aw) k)) → GW s D h (wM di h (C, dv, nt, pt, cy, aw, va)) H locs → lv_has ls 4 [(0, .ref (h 0)), (1, .int a), (2, .int (nI acc)), (3, .int (nI f))] → W p l e R s m args below meth c H locs 0 0 Q (F0 m 4 ls []) := by
  obtain ⟨hx, hb, hml, hown, hts, hK, hD⟩ := id K
  intro n
  induction n with
  | zero =>
    intro f va acc H locs ls h1 h2
    exact absurd h2 (by omega)
  | succ n ih =>
    intro f va acc H locs ls h1 h2 hacc hno w hl
    have hg := hC.1
    refine lv_iload_n hx hb dX1_candidate_4 rfl (lv_at hl 3 rfl) ?_
    refine lv_iconst (v := nI 2) hx hb dX1_candidate_5 (by decide) ?_
    refine lv_aload_n hx hb dX1_candidate_6 rfl (lv_at hl 0 rfl) ?_
    refine g_readi (ci := 1) (q := (RX1, TX1, 12)) (rest := [.int (nI 2), .int (nI f)]) K w (metX1_lineCount l D di h hD C dv nt pt cy aw va) (cwX1_X1_lineCount hts ⟨Nat.le_trans (by decide) hR.1, Nat.le_trans (by decide) hR.2⟩) rfl rfl rfl hl.1 rfl (Nat.le_of_ble_eq_true rfl) dX1_candidate_7 ⟨Nat.zero_le _, Nat.zero_le _⟩ (fun rl hrl => ?_)
    subst hrl
    refine n_imul hx hb dX1_candidate_10 ?_
    refine n_ge (tgt := 38) hx hb dX1_candidate_11 (by decide) (by omega) (by omega) (fun c11 => ?_) (fun c11 => ?_)
    · obtain rfl : f = 2 * (7 + cg C) := by omega
      exact kk0 va H locs ls hno w
    · refine lv_aload_n hx hb dX1_candidate_14 rfl (lv_at hl 0 rfl) ?_
      refine lv_iload_n hx hb dX1_candidate_15 rfl (lv_at hl 3 rfl) ?_
      refine g_calli (ci := 1) (q := (RX1, TX1, 12)) (rest := []) K w (metX1_explains l D di h hD C dv nt pt cy aw va hC hN (nI f) f (Or.inr ⟨rfl, c11⟩)) (cwX1_X1_explains hts ⟨Nat.le_trans (by decide) hR.1, Nat.le_trans (by decide) hR.2⟩) rfl rfl rfl hl.1 rfl (Nat.le_of_ble_eq_true rfl) dX1_candidate_16 ⟨Nat.zero_le _, Nat.zero_le _⟩ (fun rb u H locs he w => ?_)
      obtain ⟨he, va1, rfl⟩ := he
      rcases he with ⟨rfl, he⟩ | ⟨rfl, he⟩
      · refine n_ifeq1 (tgt := 32) hx hb dX1_candidate_19 (by decide) ?_
        refine lv_iload_n hx hb dX1_candidate_22 rfl (lv_at hl 2 rfl) ?_
        refine lv_iload_n hx hb dX1_candidate_23 rfl (lv_at hl 1 rfl) ?_
        refine lv_icmp_ne (tgt := 29) hx hb dX1_candidate_24 (by decide) (fun c24 => ?_) (fun c24 => ?_)
        · refine lv_iinc (v := (nI (acc + 1))) (lv' := [(2, .int (nI (acc + 1))), (0, .ref (h 0)), (1, .int a), (3, .int (nI f))]) hx hb dX1_candidate_29 hl (k := 2) rfl (n_inc _) (by decide) rfl (fun ls hl => ?_)
          refine lv_iinc (v := (nI (f + 1))) (lv' := [(3, .int (nI (f + 1))), (2, .int (nI (acc + 1))), (0, .ref (h 0)), (1, .int a)]) hx hb dX1_candidate_32 hl (k := 3) rfl (n_inc _) (by decide) rfl (fun ls hl => ?_)
          refine lv_goto (tgt := 4) hx hb dX1_candidate_35 (by decide) ?_
          exact ih (f + 1) _ _ H locs ls (by omega) (by omega) (by rw [hacc, fb_ct_succ, he]; rfl) (lt_s hno (fun _ z => c24 (by rw [hacc, z]))) w (lv_sub hl [2, 3, 1, 0] rfl)
        · refine lv_iload_n hx hb dX1_candidate_27 rfl (lv_at hl 3 rfl) ?_
          exact kk1 va1 f H locs ls c11 he (by rw [← hacc]; exact c24.symm) w
      · refine n_ifeq0 (tgt := 32) hx hb dX1_candidate_19 (by decide) ?_
        refine lv_iinc (v := (nI (f + 1))) (lv' := [(3, .int (nI (f + 1))), (0, .ref (h 0)), (1, .int a), (2, .int (nI acc))]) hx hb dX1_candidate_32 hl (k := 3) rfl (n_inc _) (by decide) rfl (fun ls hl => ?_)
        refine lv_goto (tgt := 4) hx hb dX1_candidate_35 (by decide) ?_
        exact ih (f + 1) _ _ H locs ls (by omega) (by omega) (by rw [hacc, fb_ct_succ, he]; rfl) (lt_s hno (fun z => (by rw [he] at z; cases z))) w (lv_sub hl [1, 2, 3, 0] rfl)
set_option maxHeartbeats 4000000 in
set_option maxRecDepth 100000 in
/-- candidate(a) -/
theorem metX1_candidate (l : Launch) (D : va_G) (di : ClassId) (h : Nat → Nat) (hD : xD h) (C : Cfg) (dv : Int32) (nt : Nat) (pt cy aw va : Nat → Int32) (hC : CW C) (hN : nt ≤ 20 ∧ ∀ i, i < nt → isP (pt i) ∧ isC (cy i)) (a : Int32) : Met l yX1_candidate (ws_ yX1_candidate cX1_candidate 4 (some .int)) rmX1_candidate (GPc D (tyM di) h [.int a] (wM di h (C, dv, nt, pt, cy, aw, va))) (GQi D h (wM di h) (fun r u => candR (exB C nt pt cy aw) (kf C) a r ∧ MK C dv nt pt cy aw u)) 0 0 (xB h) := by
  refine g_met (own := RX1) rfl (by decide) hD (Nat.le_of_ble_eq_true rfl) ?_
  intro p e s m args below meth c ls K hr hlk w hl
  obtain ⟨hx, hb, hml, hown, hts, hK, -⟩ := id K
  have hR : rmX1_candidate.frames ≤ rmX1_candidate.frames ∧ rmX1_candidate.locals ≤ rmX1_candidate.locals := ⟨Nat.le_refl _, Nat.le_refl _⟩
  have hl : lv_has ls 4 [(0, .ref (h 0)), (1, .int a)] := hl
  refine lv_iconst (v := nI 0) hx hb dX1_candidate_0 (by decide) ?_
  refine lv_istore_n (lv' := [(2, .int (nI 0)), (0, .ref (h 0)), (1, .int a)]) hx hb dX1_candidate_1 rfl hl (by decide) rfl (fun ls hl => ?_)
  refine lv_iconst (v := nI 0) hx hb dX1_candidate_2 (by decide) ?_
  refine lv_istore_n (lv' := [(3, .int (nI 0)), (2, .int (nI 0)), (0, .ref (h 0)), (1, .int a)]) hx hb dX1_candidate_3 rfl hl (by decide) rfl (fun ls hl => ?_)
  refine lpX1_candidate K hR hC hN (fun va1 f H locs ls hf1 hf2 hf3 w => ?_) (fun va1 H locs ls hno w => ?_) (2 * (7 + cg C) + 1) 0 va 0 _ _ ls (by omega) (by omega) rfl (fun k hk => absurd hk (by omega)) w (lv_sub hl [2, 3, 1, 0] rfl)
  · exact W.iret (v := (nI f)) hx hb hr (fun t ht hW => ⟨⟨_, (C, dv, nt, pt, cy, aw, va1), rfl, ⟨Or.inl ⟨f, hf1, hf2, hf3, rfl⟩, va1, rfl⟩, (by show va_P D vwCl _ t.heap; rw [ht]; exact w.1)⟩, w.2.F ht⟩) w.2.2.2 dX1_candidate_28
  · refine lv_iconst (v := -1) hx hb dX1_candidate_38 (by decide) ?_
    exact W.iret (v := (-1)) hx hb hr (fun t ht hW => ⟨⟨_, (C, dv, nt, pt, cy, aw, va1), rfl, ⟨Or.inr ⟨hno, rfl⟩, va1, rfl⟩, (by show va_P D vwCl _ t.heap; rw [ht]; exact w.1)⟩, w.2.F ht⟩) w.2.2.2 dX1_candidate_39
set_option maxHeartbeats 4000000 in
set_option maxRecDepth 100000 in
/-- healthy() -/
theorem metX1_healthy (l : Launch) (D : va_G) (di : ClassId) (h : Nat → Nat) (hD : xD h) (C : Cfg) (dv : Int32) (nt : Nat) (pt cy aw va : Nat → Int32) (hC : CW C) (hN : nt ≤ 20 ∧ ∀ i, i < nt → isP (pt i) ∧ isC (cy i))  : Met l yX1_healthy (ws_ yX1_healthy cX1_healthy 1 (some .int)) rmX1_healthy (GPc D (tyM di) h [] (wM di h (C, dv, nt, pt, cy, aw, va))) (GQi D h (wM di h) (fun r u => r = nI (exB C nt pt cy aw 63).toNat ∧ MK C dv nt pt cy aw u)) 0 0 (xB h) := by
  refine g_met (own := RX1) rfl (by decide) hD (Nat.le_of_ble_eq_true rfl) ?_
  intro p e s m args below meth c ls K hr hlk w hl
  obtain ⟨hx, hb, hml, hown, hts, hK, -⟩ := id K
  have hR : rmX1_healthy.frames ≤ rmX1_healthy.frames ∧ rmX1_healthy.locals ≤ rmX1_healthy.locals := ⟨Nat.le_refl _, Nat.le_refl _⟩
  have hl : lv_has ls 1 [(0, .ref (h 0))] := hl
  refine lv_aload_n hx hb dX1_healthy_0 rfl (lv_at hl 0 rfl) ?_
  refine lv_iconst (v := -1) hx hb dX1_healthy_1 (by decide) ?_
  refine g_calli (ci := 1) (q := (RX1, TX1, 12)) (rest := []) K w (metX1_explains l D di h hD C dv nt pt cy aw va hC hN (-1) 63 (Or.inl ⟨rfl, rfl⟩)) (cwX1_X1_explains hts ⟨Nat.le_trans (by decide) hR.1, Nat.le_trans (by decide) hR.2⟩) rfl rfl rfl hl.1 rfl (Nat.le_of_ble_eq_true rfl) dX1_healthy_2 ⟨Nat.zero_le _, Nat.zero_le _⟩ (fun rb u H locs he w => ?_)
  obtain ⟨he, va1, rfl⟩ := he
  rcases he with ⟨rfl, he⟩ | ⟨rfl, he⟩
  · refine n_ifeq1 (tgt := 12) hx hb dX1_healthy_5 (by decide) ?_
    refine lv_iconst (v := nI 1) hx hb dX1_healthy_8 (by decide) ?_
    refine lv_goto (tgt := 13) hx hb dX1_healthy_9 (by decide) ?_
    exact W.iret (v := (nI 1)) hx hb hr (fun t ht hW => ⟨⟨_, (C, dv, nt, pt, cy, aw, va1), rfl, ⟨by rw [he]; rfl, va1, rfl⟩, (by show va_P D vwCl _ t.heap; rw [ht]; exact w.1)⟩, w.2.F ht⟩) w.2.2.2 dX1_healthy_13
  · refine n_ifeq0 (tgt := 12) hx hb dX1_healthy_5 (by decide) ?_
    refine lv_iconst (v := nI 0) hx hb dX1_healthy_12 (by decide) ?_
    exact W.iret (v := (nI 0)) hx hb hr (fun t ht hW => ⟨⟨_, (C, dv, nt, pt, cy, aw, va1), rfl, ⟨by rw [he]; rfl, va1, rfl⟩, (by show va_P D vwCl _ t.heap; rw [ht]; exact w.1)⟩, w.2.F ht⟩) w.2.2.2 dX1_healthy_13
set_option maxHeartbeats 4000000 in
set_option maxRecDepth 100000 in
/-- nextPattern: the faults -/
theorem lpX1_nextPattern_13 (K : GC p s m args c cX1_nextPattern 5 RX1 D (tyM di) h) (hR : rmX1_nextPattern.frames ≤ R.frames ∧ rmX1_nextPattern.locals ≤ R.locals) {C : Cfg} {dv : Int32} {nt : Nat} {pt cy aw : Nat → Int32} {q : Nat} (hC : CW C) (hN : nt ≤ 20 ∧ ∀ i, i < nt → isP (pt i) ∧ isC (cy i)) (hq : q < 128)
    (kk1 : ∀ (va : Nat → Int32) (H : Heap) (locs : List Loc) (ls : Array Slot), mix C (exB C nt pt cy aw) q → GW s D h (wM di h (C, dv, nt, pt, cy, aw, va)) H locs → W p l e R s m args below meth c H locs 0 0 Q (F0 m 51 ls [.int (nI q)]))
    (kk0 : ∀ (va : Nat → Int32) (H : Heap) (locs : List Loc) (ls : Array Slot), ¬ mix C (exB C nt pt cy aw) q → GW s D h (wM di h (C, dv, nt, pt, cy, aw, va)) H locs → lv_has ls 5 [(0, .ref (h 0)), (1, .int (nI q))] → W p l e R s m args below meth c H locs 0 0 Q (F0 m 61 ls []))
    : ∀ (n f : Nat) (va : Nat → Int32) (sn : Int32) (H : Heap) (locs : List Loc) (ls : Array Slot), f ≤ 2 * (7 + cg C) → 2 * (7 + cg C) + 1 ≤ f + n → SI C (exB C nt pt cy aw) q f sn → GW s D h (wM di h (C, dv, nt, pt, cy, aw, va)) H locs → lv_has ls 5 [(0, .ref (h 0)), (1, .int (nI q)), (2, .int sn), (3, .int (nI f))] → W p l e R s m args below meth c H locs 0 0 Q (F0 m 13 ls []) := by
  obtain ⟨hx, hb, hml, hown, hts, hK, hD⟩ := id K
  intro n
  induction n with
  | zero =>
    intro f va sn H locs ls h1 h2
    exact absurd h2 (by omega)
  | succ n ih =>
    intro f va sn H locs ls h1 h2 hI w hl
    have hg := hC.1
    refine lv_iload_n hx hb dX1_nextPattern_13 rfl (lv_at hl 3 rfl) ?_
    refine lv_iconst (v := nI 2) hx hb dX1_nextPattern_14 (by decide) ?_
    refine lv_aload_n hx hb dX1_nextPattern_15 rfl (lv_at hl 0 rfl) ?_
    refine g_readi (ci := 1) (q := (RX1, TX1, 12)) (rest := [.int (nI 2), .int (nI f)]) K w (metX1_lineCount l D di h hD C dv nt pt cy aw va) (cwX1_X1_lineCount hts ⟨Nat.le_trans (by decide) hR.1, Nat.le_trans (by decide) hR.2⟩) rfl rfl rfl hl.1 rfl (Nat.le_of_ble_eq_true rfl) dX1_nextPattern_16 ⟨Nat.zero_le _, Nat.zero_le _⟩ (fun rl hrl => ?_)
    subst hrl
    refine n_imul hx hb dX1_nextPattern_19 ?_
    refine n_ge (tgt := 61) hx hb dX1_nextPattern_20 (by decide) (by omega) (by omega) (fun c20 => ?_) (fun c20 => ?_)
    · obtain rfl : f = 2 * (7 + cg C) := by omega
      exact kk0 va H locs ls (SI_end hI) w (lv_sub hl [0, 1] rfl)
    · refine lv_aload_n hx hb dX1_nextPattern_23 rfl (lv_at hl 0 rfl) ?_
      refine lv_iload_n hx hb dX1_nextPattern_24 rfl (lv_at hl 3 rfl) ?_
      refine g_calli (ci := 1) (q := (RX1, TX1, 12)) (rest := []) K w (metX1_explains l D di h hD C dv nt pt cy aw va hC hN (nI f) f (Or.inr ⟨rfl, c20⟩)) (cwX1_X1_explains hts ⟨Nat.le_trans (by decide) hR.1, Nat.le_trans (by decide) hR.2⟩) rfl rfl rfl hl.1 rfl (Nat.le_of_ble_eq_true rfl) dX1_nextPattern_25 ⟨Nat.zero_le _, Nat.zero_le _⟩ (fun rb u H locs he w => ?_)
      obtain ⟨he, va1, rfl⟩ := he
      rcases he with ⟨rfl, he⟩ | ⟨rfl, he⟩
      · refine n_ifeq1 (tgt := 55) hx hb dX1_nextPattern_28 (by decide) ?_
        refine lv_aload_n hx hb dX1_nextPattern_31 rfl (lv_at hl 0 rfl) ?_
        refine lv_iload_n hx hb dX1_nextPattern_32 rfl (lv_at hl 3 rfl) ?_
        refine lv_iload_n hx hb dX1_nextPattern_33 rfl (lv_at hl 1 rfl) ?_
        refine lv_iconst (v := nI 1) hx hb dX1_nextPattern_34 (by decide) ?_
        refine g_calli (ci := 1) (q := (RX1, TX1, 12)) (rest := []) K w (metX1_run l D di h hD C dv nt pt cy aw va1 hC (nI f) f q 1 (Or.inr ⟨rfl, c20⟩) (by omega) (by omega) (by omega)) (cwX1_X1_run hts ⟨Nat.le_trans (by decide) hR.1, Nat.le_trans (by decide) hR.2⟩) rfl rfl rfl hl.1 rfl (Nat.le_of_ble_eq_true rfl) dX1_nextPattern_35 ⟨Nat.zero_le _, Nat.zero_le _⟩ (fun ri u H locs hp2 w => ?_)
        obtain ⟨rfl, va2, rfl⟩ := hp2
        refine lv_istore (lv' := [(4, .int (nI (ansN C f q 1))), (0, .ref (h 0)), (1, .int (nI q)), (2, .int sn), (3, .int (nI f))]) hx hb dX1_nextPattern_38 hl (by decide) rfl (fun ls hl => ?_)
        refine lv_iload_n hx hb dX1_nextPattern_40 rfl (lv_at hl 3 rfl) ?_
        refine lv_if_lt (tgt := 52) hx hb dX1_nextPattern_41 (by decide) (fun c41 => ?_) (fun c41 => ?_)
        · refine lv_iload hx hb dX1_nextPattern_52 (lv_at hl 0 rfl) ?_
          refine lv_istore_n (lv' := [(2, .int (nI (ansN C f q 1))), (4, .int (nI (ansN C f q 1))), (0, .ref (h 0)), (1, .int (nI q)), (3, .int (nI f))]) hx hb dX1_nextPattern_54 rfl hl (by decide) rfl (fun ls hl => ?_)
          refine lv_iinc (v := (nI (f + 1))) (lv' := [(3, .int (nI (f + 1))), (2, .int (nI (ansN C f q 1))), (4, .int (nI (ansN C f q 1))), (0, .ref (h 0)), (1, .int (nI q))]) hx hb dX1_nextPattern_55 hl (k := 4) rfl (n_inc _) (by decide) rfl (fun ls hl => ?_)
          refine lv_goto (tgt := 13) hx hb dX1_nextPattern_58 (by decide) ?_
          exact ih (f + 1) _ _ H locs ls (by omega) (by omega) (SI_first hI he c41) w (lv_sub hl [3, 4, 1, 0] rfl)
        · refine lv_iload hx hb dX1_nextPattern_44 (lv_at hl 0 rfl) ?_
          refine lv_iload_n hx hb dX1_nextPattern_46 rfl (lv_at hl 3 rfl) ?_
          refine lv_icmp_eq (tgt := 52) hx hb dX1_nextPattern_47 (by decide) (fun c47 => ?_) (fun c47 => ?_)
          · refine lv_iload hx hb dX1_nextPattern_52 (lv_at hl 0 rfl) ?_
            refine lv_istore_n (lv' := [(2, .int (nI (ansN C f q 1))), (4, .int (nI (ansN C f q 1))), (0, .ref (h 0)), (1, .int (nI q)), (3, .int (nI f))]) hx hb dX1_nextPattern_54 rfl hl (by decide) rfl (fun ls hl => ?_)
            refine lv_iinc (v := (nI (f + 1))) (lv' := [(3, .int (nI (f + 1))), (2, .int (nI (ansN C f q 1))), (4, .int (nI (ansN C f q 1))), (0, .ref (h 0)), (1, .int (nI q))]) hx hb dX1_nextPattern_55 hl (k := 4) rfl (n_inc _) (by decide) rfl (fun ls hl => ?_)
            refine lv_goto (tgt := 13) hx hb dX1_nextPattern_58 (by decide) ?_
            exact ih (f + 1) _ _ H locs ls (by omega) (by omega) (SI_more hI he c41 c47) w (lv_sub hl [3, 4, 1, 0] rfl)
          · refine lv_iload_n hx hb dX1_nextPattern_50 rfl (lv_at hl 2 rfl) ?_
            exact kk1 va2 H locs ls (SI_mix hI c20 he c41 c47) w
      · refine n_ifeq0 (tgt := 55) hx hb dX1_nextPattern_28 (by decide) ?_
        refine lv_iinc (v := (nI (f + 1))) (lv' := [(3, .int (nI (f + 1))), (0, .ref (h 0)), (1, .int (nI q)), (2, .int sn)]) hx hb dX1_nextPattern_55 hl (k := 3) rfl (n_inc _) (by decide) rfl (fun ls hl => ?_)
        refine lv_goto (tgt := 13) hx hb dX1_nextPattern_58 (by decide) ?_
        exact ih (f + 1) _ _ H locs ls (by omega) (by omega) (SI_no hI he) w (lv_sub hl [1, 2, 3, 0] rfl)
set_option maxHeartbeats 4000000 in
set_option maxRecDepth 100000 in
/-- nextPattern: the patterns -/
theorem lpX1_nextPattern_2 (K : GC p s m args c cX1_nextPattern 5 RX1 D (tyM di) h) (hR : rmX1_nextPattern.frames ≤ R.frames ∧ rmX1_nextPattern.locals ≤ R.locals) {C : Cfg} {dv : Int32} {nt : Nat} {pt cy aw : Nat → Int32} (hC : CW C) (hN : nt ≤ 20 ∧ ∀ i, i < nt → isP (pt i) ∧ isC (cy i))
    (kk1 : ∀ (va : Nat → Int32) (q : Nat) (H : Heap) (locs : List Loc) (ls : Array Slot), q < 128 → mix C (exB C nt pt cy aw) q → (∀ i, i < q → ¬ mix C (exB C nt pt cy aw) i) → GW s D h (wM di h (C, dv, nt, pt, cy, aw, va)) H locs → W p l e R s m args below meth c H locs 0 0 Q (F0 m 51 ls [.int (nI q)]))
    (kk0 : ∀ (va : Nat → Int32) (H : Heap) (locs : List Loc) (ls : Array Slot), (∀ q, q < 128 → ¬ mix C (exB C nt pt cy aw) q) → GW s D h (wM di h (C, dv, nt, pt, cy, aw, va)) H locs → W p l e R s m args below meth c H locs 0 0 Q (F0 m 67 ls []))
    : ∀ (n q : Nat) (va : Nat → Int32) (H : Heap) (locs : List Loc) (ls : Array Slot), q ≤ 128 → 128 + 1 ≤ q + n → (∀ i, i < q → ¬ mix C (exB C nt pt cy aw) i) → GW s D h (wM di h (C, dv, nt, pt, cy, aw, va)) H locs → lv_has ls 5 [(0, .ref (h 0)), (1, .int (nI q))] → W p l e R s m args below meth c H locs 0 0 Q (F0 m 2 ls []) := by
  obtain ⟨hx, hb, hml, hown, hts, hK, hD⟩ := id K
  intro n
  induction n with
  | zero =>
    intro q va H locs ls h1 h2
    exact absurd h2 (by omega)
  | succ n ih =>
    intro q va H locs ls h1 h2 hI w hl
    refine lv_iload_n hx hb dX1_nextPattern_2 rfl (lv_at hl 1 rfl) ?_
    refine lv_sipush (v := nI 128) hx hb dX1_nextPattern_3 (by decide) ?_
    refine n_ge (tgt := 67) hx hb dX1_nextPattern_6 (by decide) (by omega) (by omega) (fun c6 => ?_) (fun c6 => ?_)
    · obtain rfl : q = 128 := by omega
      exact kk0 va H locs ls hI w
    · refine lv_iconst (v := -1) hx hb dX1_nextPattern_9 (by decide) ?_
      refine lv_istore_n (lv' := [(2, .int (-1)), (0, .ref (h 0)), (1, .int (nI q))]) hx hb dX1_nextPattern_10 rfl hl (by decide) rfl (fun ls hl => ?_)
      refine lv_iconst (v := nI 0) hx hb dX1_nextPattern_11 (by decide) ?_
      refine lv_istore_n (lv' := [(3, .int (nI 0)), (2, .int (-1)), (0, .ref (h 0)), (1, .int (nI q))]) hx hb dX1_nextPattern_12 rfl hl (by decide) rfl (fun ls hl => ?_)
      refine lpX1_nextPattern_13 K hR hC hN c6 (fun va1 H locs ls hm w => ?_) (fun va1 H locs ls hm w hl => ?_) (2 * (7 + cg C) + 1) 0 va (-1) _ _ ls (by omega) (by omega) (Or.inl ⟨rfl, fun i hi => absurd hi (by omega)⟩) w (lv_sub hl [2, 3, 1, 0] rfl)
      · exact kk1 va1 q H locs ls c6 hm hI w
      · refine lv_iinc (v := (nI (q + 1))) (lv' := [(1, .int (nI (q + 1))), (0, .ref (h 0))]) hx hb dX1_nextPattern_61 hl (k := 1) rfl (n_inc _) (by decide) rfl (fun ls hl => ?_)
        refine lv_goto (tgt := 2) hx hb dX1_nextPattern_64 (by decide) ?_
        exact ih (q + 1) _ H locs ls (by omega) (by omega) (lt_s hI hm) w (lv_sub hl [1, 0] rfl)
set_option maxHeartbeats 4000000 in
set_option maxRecDepth 100000 in
/-- nextPattern() -/
theorem metX1_nextPattern (l : Launch) (D : va_G) (di : ClassId) (h : Nat → Nat) (hD : xD h) (C : Cfg) (dv : Int32) (nt : Nat) (pt cy aw va : Nat → Int32) (hC : CW C) (hN : nt ≤ 20 ∧ ∀ i, i < nt → isP (pt i) ∧ isC (cy i))  : Met l yX1_nextPattern (ws_ yX1_nextPattern cX1_nextPattern 5 (some .int)) rmX1_nextPattern (GPc D (tyM di) h [] (wM di h (C, dv, nt, pt, cy, aw, va))) (GQi D h (wM di h) (fun r u => Rnext C (exB C nt pt cy aw) r ∧ MK C dv nt pt cy aw u)) 0 0 (xB h) := by
  refine g_met (own := RX1) rfl (by decide) hD (Nat.le_of_ble_eq_true rfl) ?_
  intro p e s m args below meth c ls K hr hlk w hl
  obtain ⟨hx, hb, hml, hown, hts, hK, -⟩ := id K
  have hR : rmX1_nextPattern.frames ≤ rmX1_nextPattern.frames ∧ rmX1_nextPattern.locals ≤ rmX1_nextPattern.locals := ⟨Nat.le_refl _, Nat.le_refl _⟩
  have hl : lv_has ls 5 [(0, .ref (h 0))] := hl
  refine lv_iconst (v := nI 0) hx hb dX1_nextPattern_0 (by decide) ?_
  refine lv_istore_n (lv' := [(1, .int (nI 0)), (0, .ref (h 0))]) hx hb dX1_nextPattern_1 rfl hl (by decide) rfl (fun ls hl => ?_)
  refine lpX1_nextPattern_2 K hR hC hN (fun va1 q H locs ls hq hm hn w => ?_) (fun va1 H locs ls hn w => ?_) 129 0 va _ _ ls (by omega) (by omega) (fun k hk => absurd hk (by omega)) w (lv_sub hl [1, 0] rfl)
  · exact W.iret (v := (nI q)) hx hb hr (fun t ht hW => ⟨⟨_, (C, dv, nt, pt, cy, aw, va1), rfl, ⟨Or.inl ⟨q, hq, hm, hn, rfl⟩, va1, rfl⟩, (by show va_P D vwCl _ t.heap; rw [ht]; exact w.1)⟩, w.2.F ht⟩) w.2.2.2 dX1_nextPattern_51
  · refine lv_iconst (v := -1) hx hb dX1_nextPattern_67 (by decide) ?_
    exact W.iret (v := (-1)) hx hb hr (fun t ht hW => ⟨⟨_, (C, dv, nt, pt, cy, aw, va1), rfl, ⟨Or.inr ⟨hn, rfl⟩, va1, rfl⟩, (by show va_P D vwCl _ t.heap; rw [ht]; exact w.1)⟩, w.2.F ht⟩) w.2.2.2 dX1_nextPattern_68
end
end
section
/-! the model: gate, feed, output, inject, observe, response, responseWith, detected, leader -/
set_option maxRecDepth 100000
section
variable {p : Program} {l : Launch} {e : Env} {R : Room} {s : State} {m : MethodId} {args : Array Value} {below : List Frame} {meth : Method} {c : Code} {Q : State → Prop} {D : va_G} {di : ClassId} {h : Nat → Nat}
set_option maxHeartbeats 4000000 in
set_option maxRecDepth 100000 in
/-- gate(k, a, b) -/
theorem metX1_gate (l : Launch) (D : va_G) (di : ClassId) (h : Nat → Nat) (hD : xD h) (C : Cfg) (dv : Int32) (nt : Nat) (pt cy aw va : Nat → Int32) (hC : CW C) (k a b : Int32) : Met l yX1_gate (ws_ yX1_gate cX1_gate 5 (some .int)) rmX1_gate (GPc D (tyM di) h [.int k, .int a, .int b] (wM di h (C, dv, nt, pt, cy, aw, va))) (GQi D h (wM di h) (fun r u => ∃ ok, Rgate C k a b r ok ∧ (ok = false → MK C dv nt pt cy aw u) ∧ (ok = true → MK (gateC C k a b) dv 0 pt cy aw u))) 0 0 (xB h) := by
  obtain ⟨g, kd, f1, f2, fd, op⟩ := C
  refine g_met (own := RX1) rfl (by decide) hD (Nat.le_of_ble_eq_true rfl) ?_
  intro p e s m args below meth c ls K hr hlk w hl
  obtain ⟨hx, hb, hml, hown, hts, hK, -⟩ := id K
  have hR : rmX1_gate.frames ≤ rmX1_gate.frames ∧ rmX1_gate.locals ≤ rmX1_gate.locals := ⟨Nat.le_refl _, Nat.le_refl _⟩
  have hl : lv_has ls 5 [(0, .ref (h 0)), (1, .int k), (2, .int a), (3, .int b)] := hl
  have hg : g ≤ 14 := hC.1
  refine lv_iload_n hx hb dX1_gate_0 rfl (lv_at hl 1 rfl) ?_
  refine lv_if_lt (tgt := 9) hx hb dX1_gate_1 (by decide) (fun c1 => ?_) (fun c1 => ?_)
  · refine lv_iconst (v := -1) hx hb dX1_gate_9 (by decide) ?_
    exact W.iret (v := (-1)) hx hb hr (fun t ht hW => ⟨⟨_, ((g, kd, f1, f2, fd, op), dv, nt, pt, cy, aw, va), rfl, ⟨false, Or.inl ⟨fun z => ((isN_iff (by decide) k).mp z).1 c1, rfl, rfl⟩, fun _ => ⟨va, rfl⟩, fun z => (by cases z)⟩, (by show va_P D vwCl _ t.heap; rw [ht]; exact w.1)⟩, w.2.F ht⟩) w.2.2.2 dX1_gate_10
  · refine lv_iload_n hx hb dX1_gate_4 rfl (lv_at hl 1 rfl) ?_
    refine lv_iconst (v := nI 5) hx hb dX1_gate_5 (by decide) ?_
    refine lv_icmp_le (tgt := 11) hx hb dX1_gate_6 (by decide) (fun c6 => ?_) (fun c6 => ?_)
    · have hk6 : isN 6 k := (isN_iff (by decide) k).mpr ⟨c1, c6⟩
      refine lv_aload_n hx hb dX1_gate_11 rfl (lv_at hl 0 rfl) ?_
      refine lv_iload_n hx hb dX1_gate_12 rfl (lv_at hl 2 rfl) ?_
      refine g_readi (ci := 1) (q := (RX1, TX1, 12)) (rest := []) K w (metX1_badLine l D di h hD (g, kd, f1, f2, fd, op) dv nt pt cy aw va hC a) (cwX1_X1_badLine hts ⟨Nat.le_trans (by decide) hR.1, Nat.le_trans (by decide) hR.2⟩) rfl rfl rfl hl.1 rfl (Nat.le_of_ble_eq_true rfl) dX1_gate_13 ⟨Nat.zero_le _, Nat.zero_le _⟩ (fun rb hL1 => ?_)
      rcases hL1 with ⟨rfl, hL1⟩ | ⟨rfl, hL1⟩
      · refine n_ifne1 (tgt := 32) hx hb dX1_gate_16 (by decide) ?_
        refine lv_bipush (v := -2) hx hb dX1_gate_32 (by decide) ?_
        exact W.iret (v := (-2)) hx hb hr (fun t ht hW => ⟨⟨_, ((g, kd, f1, f2, fd, op), dv, nt, pt, cy, aw, va), rfl, ⟨false, Or.inr (Or.inl ⟨hk6, Or.inl hL1, rfl, rfl⟩), fun _ => ⟨va, rfl⟩, fun z => (by cases z)⟩, (by show va_P D vwCl _ t.heap; rw [ht]; exact w.1)⟩, w.2.F ht⟩) w.2.2.2 dX1_gate_34
      · refine n_ifne0 (tgt := 32) hx hb dX1_gate_16 (by decide) ?_
        refine lv_iload_n hx hb dX1_gate_19 rfl (lv_at hl 1 rfl) ?_
        refine lv_iconst (v := nI 5) hx hb dX1_gate_20 (by decide) ?_
        refine lv_icmp_eq (tgt := 35) hx hb dX1_gate_21 (by decide) (fun c21 => ?_) (fun c21 => ?_)
        · have hkb : k = nI 5 ∨ isL (cg (g, kd, f1, f2, fd, op)) b := Or.inl c21
          refine lv_aload_n hx hb dX1_gate_35 rfl (lv_at hl 0 rfl) ?_
          refine mg_gates K w dX1_gate_36 ?_
          refine n_tope (show _ = nI g from rfl) ?_
          refine lv_istore (lv' := [(4, .int (nI g)), (0, .ref (h 0)), (1, .int k), (2, .int a), (3, .int b)]) hx hb dX1_gate_39 hl (by decide) rfl (fun ls hl => ?_)
          refine lv_iload hx hb dX1_gate_41 (lv_at hl 0 rfl) ?_
          refine lv_bipush (v := nI 14) hx hb dX1_gate_43 (by decide) ?_
          refine n_lt (tgt := 51) hx hb dX1_gate_45 (by decide) (by omega) (by omega) (fun c45 => ?_) (fun c45 => ?_)
          · refine lv_aload_n hx hb dX1_gate_51 rfl (lv_at hl 1 rfl) ?_
            refine mg_kind K w dX1_gate_52 ?_
            refine lv_iload hx hb dX1_gate_55 (lv_at hl 0 rfl) ?_
            refine lv_iload_n hx hb dX1_gate_57 rfl (lv_at hl 2 rfl) ?_
            refine ms_kind (k := g) K w (by omega) dX1_gate_58 (fun H locs w => ?_)
            refine lv_aload_n hx hb dX1_gate_59 rfl (lv_at hl 1 rfl) ?_
            refine mg_first K w dX1_gate_60 ?_
            refine lv_iload hx hb dX1_gate_63 (lv_at hl 0 rfl) ?_
            refine lv_iload_n hx hb dX1_gate_65 rfl (lv_at hl 3 rfl) ?_
            refine ms_first (k := g) K w (by omega) dX1_gate_66 (fun H locs w => ?_)
            refine lv_aload_n hx hb dX1_gate_67 rfl (lv_at hl 1 rfl) ?_
            refine mg_second K w dX1_gate_68 ?_
            refine lv_iload hx hb dX1_gate_71 (lv_at hl 0 rfl) ?_
            refine lv_iload_n hx hb dX1_gate_73 rfl (lv_at hl 2 rfl) ?_
            refine lv_iconst (v := nI 5) hx hb dX1_gate_74 (by decide) ?_
            refine lv_icmp_ne (tgt := 82) hx hb dX1_gate_75 (by decide) (fun c75 => ?_) (fun c75 => ?_)
            · exact absurd c21 c75
            · refine lv_iload_n hx hb dX1_gate_78 rfl (lv_at hl 3 rfl) ?_
              refine lv_goto (tgt := 83) hx hb dX1_gate_79 (by decide) ?_
              refine ms_second (k := g) K w (by omega) dX1_gate_83 (fun H locs w => ?_)
              refine lv_aload_n hx hb dX1_gate_84 rfl (lv_at hl 1 rfl) ?_
              refine lv_iload hx hb dX1_gate_85 (lv_at hl 0 rfl) ?_
              refine lv_iconst (v := nI 1) hx hb dX1_gate_87 (by decide) ?_
              refine n_iadd hx hb dX1_gate_88 ?_
              refine mp_gates K w dX1_gate_89 (fun H locs w => ?_)
              refine lv_aload_n hx hb dX1_gate_92 rfl (lv_at hl 1 rfl) ?_
              refine lv_iconst (v := nI 0) hx hb dX1_gate_93 (by decide) ?_
              refine mp_noted K w dX1_gate_94 (fun H locs w => ?_)
              refine lv_bipush (v := nI 7) hx hb dX1_gate_97 (by decide) ?_
              refine lv_iload hx hb dX1_gate_99 (lv_at hl 0 rfl) ?_
              refine n_iadd hx hb dX1_gate_101 ?_
              exact W.iret (v := (nI (7 + g))) hx hb hr (fun t ht hW => ⟨⟨_, ((g + 1, (upd kd g k), (upd f1 g a), (upd f2 g a), fd, op), dv, 0, pt, cy, aw, va), rfl, ⟨true, Or.inr (Or.inr (Or.inr ⟨hk6, hL1, hkb, (show g ≠ 14 by omega), rfl, rfl⟩)), fun z => (by cases z), fun _ => ⟨va, (by rw [gateC_5 b c21])⟩⟩, (by show va_P D vwCl _ t.heap; rw [ht]; exact w.1)⟩, w.2.F ht⟩) w.2.2.2 dX1_gate_102
          · refine lv_bipush (v := -3) hx hb dX1_gate_48 (by decide) ?_
            exact W.iret (v := (-3)) hx hb hr (fun t ht hW => ⟨⟨_, ((g, kd, f1, f2, fd, op), dv, nt, pt, cy, aw, va), rfl, ⟨false, Or.inr (Or.inr (Or.inl ⟨hk6, hL1, hkb, (show g = 14 by omega), rfl, rfl⟩)), fun _ => ⟨va, rfl⟩, fun z => (by cases z)⟩, (by show va_P D vwCl _ t.heap; rw [ht]; exact w.1)⟩, w.2.F ht⟩) w.2.2.2 dX1_gate_50
        · refine lv_aload_n hx hb dX1_gate_24 rfl (lv_at hl 0 rfl) ?_
          refine lv_iload_n hx hb dX1_gate_25 rfl (lv_at hl 3 rfl) ?_
          refine g_readi (ci := 1) (q := (RX1, TX1, 12)) (rest := []) K w (metX1_badLine l D di h hD (g, kd, f1, f2, fd, op) dv nt pt cy aw va hC b) (cwX1_X1_badLine hts ⟨Nat.le_trans (by decide) hR.1, Nat.le_trans (by decide) hR.2⟩) rfl rfl rfl hl.1 rfl (Nat.le_of_ble_eq_true rfl) dX1_gate_26 ⟨Nat.zero_le _, Nat.zero_le _⟩ (fun rb hL2 => ?_)
          rcases hL2 with ⟨rfl, hL2⟩ | ⟨rfl, hL2⟩
          · refine n_ifeq1 (tgt := 35) hx hb dX1_gate_29 (by decide) ?_
            refine lv_bipush (v := -2) hx hb dX1_gate_32 (by decide) ?_
            exact W.iret (v := (-2)) hx hb hr (fun t ht hW => ⟨⟨_, ((g, kd, f1, f2, fd, op), dv, nt, pt, cy, aw, va), rfl, ⟨false, Or.inr (Or.inl ⟨hk6, Or.inr ⟨c21, hL2⟩, rfl, rfl⟩), fun _ => ⟨va, rfl⟩, fun z => (by cases z)⟩, (by show va_P D vwCl _ t.heap; rw [ht]; exact w.1)⟩, w.2.F ht⟩) w.2.2.2 dX1_gate_34
          · refine n_ifeq0 (tgt := 35) hx hb dX1_gate_29 (by decide) ?_
            have hkb : k = nI 5 ∨ isL (cg (g, kd, f1, f2, fd, op)) b := Or.inr hL2
            refine lv_aload_n hx hb dX1_gate_35 rfl (lv_at hl 0 rfl) ?_
            refine mg_gates K w dX1_gate_36 ?_
            refine n_tope (show _ = nI g from rfl) ?_
            refine lv_istore (lv' := [(4, .int (nI g)), (0, .ref (h 0)), (1, .int k), (2, .int a), (3, .int b)]) hx hb dX1_gate_39 hl (by decide) rfl (fun ls hl => ?_)
            refine lv_iload hx hb dX1_gate_41 (lv_at hl 0 rfl) ?_
            refine lv_bipush (v := nI 14) hx hb dX1_gate_43 (by decide) ?_
            refine n_lt (tgt := 51) hx hb dX1_gate_45 (by decide) (by omega) (by omega) (fun c45 => ?_) (fun c45 => ?_)
            · refine lv_aload_n hx hb dX1_gate_51 rfl (lv_at hl 1 rfl) ?_
              refine mg_kind K w dX1_gate_52 ?_
              refine lv_iload hx hb dX1_gate_55 (lv_at hl 0 rfl) ?_
              refine lv_iload_n hx hb dX1_gate_57 rfl (lv_at hl 2 rfl) ?_
              refine ms_kind (k := g) K w (by omega) dX1_gate_58 (fun H locs w => ?_)
              refine lv_aload_n hx hb dX1_gate_59 rfl (lv_at hl 1 rfl) ?_
              refine mg_first K w dX1_gate_60 ?_
              refine lv_iload hx hb dX1_gate_63 (lv_at hl 0 rfl) ?_
              refine lv_iload_n hx hb dX1_gate_65 rfl (lv_at hl 3 rfl) ?_
              refine ms_first (k := g) K w (by omega) dX1_gate_66 (fun H locs w => ?_)
              refine lv_aload_n hx hb dX1_gate_67 rfl (lv_at hl 1 rfl) ?_
              refine mg_second K w dX1_gate_68 ?_
              refine lv_iload hx hb dX1_gate_71 (lv_at hl 0 rfl) ?_
              refine lv_iload_n hx hb dX1_gate_73 rfl (lv_at hl 2 rfl) ?_
              refine lv_iconst (v := nI 5) hx hb dX1_gate_74 (by decide) ?_
              refine lv_icmp_ne (tgt := 82) hx hb dX1_gate_75 (by decide) (fun c75 => ?_) (fun c75 => ?_)
              · refine lv_iload_n hx hb dX1_gate_82 rfl (lv_at hl 4 rfl) ?_
                refine ms_second (k := g) K w (by omega) dX1_gate_83 (fun H locs w => ?_)
                refine lv_aload_n hx hb dX1_gate_84 rfl (lv_at hl 1 rfl) ?_
                refine lv_iload hx hb dX1_gate_85 (lv_at hl 0 rfl) ?_
                refine lv_iconst (v := nI 1) hx hb dX1_gate_87 (by decide) ?_
                refine n_iadd hx hb dX1_gate_88 ?_
                refine mp_gates K w dX1_gate_89 (fun H locs w => ?_)
                refine lv_aload_n hx hb dX1_gate_92 rfl (lv_at hl 1 rfl) ?_
                refine lv_iconst (v := nI 0) hx hb dX1_gate_93 (by decide) ?_
                refine mp_noted K w dX1_gate_94 (fun H locs w => ?_)
                refine lv_bipush (v := nI 7) hx hb dX1_gate_97 (by decide) ?_
                refine lv_iload hx hb dX1_gate_99 (lv_at hl 0 rfl) ?_
                refine n_iadd hx hb dX1_gate_101 ?_
                exact W.iret (v := (nI (7 + g))) hx hb hr (fun t ht hW => ⟨⟨_, ((g + 1, (upd kd g k), (upd f1 g a), (upd f2 g b), fd, op), dv, 0, pt, cy, aw, va), rfl, ⟨true, Or.inr (Or.inr (Or.inr ⟨hk6, hL1, hkb, (show g ≠ 14 by omega), rfl, rfl⟩)), fun z => (by cases z), fun _ => ⟨va, (by rw [gateC_n a b c21])⟩⟩, (by show va_P D vwCl _ t.heap; rw [ht]; exact w.1)⟩, w.2.F ht⟩) w.2.2.2 dX1_gate_102
              · exact absurd c75 c21
            · refine lv_bipush (v := -3) hx hb dX1_gate_48 (by decide) ?_
              exact W.iret (v := (-3)) hx hb hr (fun t ht hW => ⟨⟨_, ((g, kd, f1, f2, fd, op), dv, nt, pt, cy, aw, va), rfl, ⟨false, Or.inr (Or.inr (Or.inl ⟨hk6, hL1, hkb, (show g = 14 by omega), rfl, rfl⟩)), fun _ => ⟨va, rfl⟩, fun z => (by cases z)⟩, (by show va_P D vwCl _ t.heap; rw [ht]; exact w.1)⟩, w.2.F ht⟩) w.2.2.2 dX1_gate_50
    · refine lv_iconst (v := -1) hx hb dX1_gate_9 (by decide) ?_
      exact W.iret (v := (-1)) hx hb hr (fun t ht hW => ⟨⟨_, ((g, kd, f1, f2, fd, op), dv, nt, pt, cy, aw, va), rfl, ⟨false, Or.inl ⟨fun z => c6 ((isN_iff (by decide) k).mp z).2, rfl, rfl⟩, fun _ => ⟨va, rfl⟩, fun z => (by cases z)⟩, (by show va_P D vwCl _ t.heap; rw [ht]; exact w.1)⟩, w.2.F ht⟩) w.2.2.2 dX1_gate_10
set_option maxHeartbeats 4000000 in
set_option maxRecDepth 100000 in
/-- X1_feed(k, a) -/
theorem metX1_feed (l : Launch) (D : va_G) (di : ClassId) (h : Nat → Nat) (hD : xD h) (C : Cfg) (dv : Int32) (nt : Nat) (pt cy aw va : Nat → Int32) (hC : CW C) (k a : Int32) : Met l yX1_feed (ws_ yX1_feed cX1_feed 4 (some .int)) rmX1_feed (GPc D (tyM di) h [.int k, .int a] (wM di h (C, dv, nt, pt, cy, aw, va))) (GQi D h (wM di h) (fun r u => ∃ ob, Rput C 3 (cfd C) k a r ob ∧ (ob = none → MK C dv nt pt cy aw u) ∧ ∀ j, ob = some j → MK (feedC C j a) dv 0 pt cy aw u)) 0 0 (xB h) := by
  obtain ⟨g, kd, f1, f2, fd, op⟩ := C
  refine g_met (own := RX1) rfl (by decide) hD (Nat.le_of_ble_eq_true rfl) ?_
  intro p e s m args below meth c ls K hr hlk w hl
  obtain ⟨hx, hb, hml, hown, hts, hK, -⟩ := id K
  have hR : rmX1_feed.frames ≤ rmX1_feed.frames ∧ rmX1_feed.locals ≤ rmX1_feed.locals := ⟨Nat.le_refl _, Nat.le_refl _⟩
  have hl : lv_has ls 4 [(0, .ref (h 0)), (1, .int k), (2, .int a)] := hl
  refine lv_iload_n hx hb dX1_feed_0 rfl (lv_at hl 1 rfl) ?_
  refine lv_if_lt (tgt := 9) hx hb dX1_feed_1 (by decide) (fun c1 => ?_) (fun c1 => ?_)
  · refine lv_iconst (v := -1) hx hb dX1_feed_9 (by decide) ?_
    exact W.iret (v := (-1)) hx hb hr (fun t ht hW => ⟨⟨_, ((g, kd, f1, f2, fd, op), dv, nt, pt, cy, aw, va), rfl, ⟨none, Or.inl ⟨fun z => ((isN_iff (by decide) k).mp z).1 c1, rfl, rfl⟩, fun _ => ⟨va, rfl⟩, fun _ z => (by cases z)⟩, (by show va_P D vwCl _ t.heap; rw [ht]; exact w.1)⟩, w.2.F ht⟩) w.2.2.2 dX1_feed_10
  · refine lv_iload_n hx hb dX1_feed_4 rfl (lv_at hl 1 rfl) ?_
    refine lv_iconst (v := nI 2) hx hb dX1_feed_5 (by decide) ?_
    refine lv_icmp_le (tgt := 11) hx hb dX1_feed_6 (by decide) (fun c6 => ?_) (fun c6 => ?_)
    · obtain ⟨j, hj, rfl⟩ : isN 3 k := (isN_iff (by decide) k).mpr ⟨c1, c6⟩
      refine lv_aload_n hx hb dX1_feed_11 rfl (lv_at hl 0 rfl) ?_
      refine lv_iload_n hx hb dX1_feed_12 rfl (lv_at hl 2 rfl) ?_
      refine g_readi (ci := 1) (q := (RX1, TX1, 12)) (rest := []) K w (metX1_badLine l D di h hD (g, kd, f1, f2, fd, op) dv nt pt cy aw va hC a) (cwX1_X1_badLine hts ⟨Nat.le_trans (by decide) hR.1, Nat.le_trans (by decide) hR.2⟩) rfl rfl rfl hl.1 rfl (Nat.le_of_ble_eq_true rfl) dX1_feed_13 ⟨Nat.zero_le _, Nat.zero_le _⟩ (fun rb hL1 => ?_)
      rcases hL1 with ⟨rfl, hL1⟩ | ⟨rfl, hL1⟩
      · refine n_ifeq1 (tgt := 22) hx hb dX1_feed_16 (by decide) ?_
        refine lv_bipush (v := -2) hx hb dX1_feed_19 (by decide) ?_
        exact W.iret (v := (-2)) hx hb hr (fun t ht hW => ⟨⟨_, ((g, kd, f1, f2, fd, op), dv, nt, pt, cy, aw, va), rfl, ⟨none, Or.inr (Or.inl ⟨⟨j, hj, rfl⟩, hL1, rfl, rfl⟩), fun _ => ⟨va, rfl⟩, fun _ z => (by cases z)⟩, (by show va_P D vwCl _ t.heap; rw [ht]; exact w.1)⟩, w.2.F ht⟩) w.2.2.2 dX1_feed_21
      · refine n_ifeq0 (tgt := 22) hx hb dX1_feed_16 (by decide) ?_
        refine lv_aload_n hx hb dX1_feed_22 rfl (lv_at hl 0 rfl) ?_
        refine mg_feeds K w dX1_feed_23 ?_
        refine lv_iload_n hx hb dX1_feed_26 rfl (lv_at hl 1 rfl) ?_
        refine ml_feeds (k := j) K w (by omega) dX1_feed_27 ?_
        refine lv_istore_n (lv' := [(3, .int (cfd (g, kd, f1, f2, fd, op) j)), (0, .ref (h 0)), (1, .int (nI j)), (2, .int a)]) hx hb dX1_feed_28 rfl hl (by decide) rfl (fun ls hl => ?_)
        refine lv_aload_n hx hb dX1_feed_29 rfl (lv_at hl 1 rfl) ?_
        refine mg_feeds K w dX1_feed_30 ?_
        refine lv_iload_n hx hb dX1_feed_33 rfl (lv_at hl 2 rfl) ?_
        refine lv_iload_n hx hb dX1_feed_34 rfl (lv_at hl 3 rfl) ?_
        refine ms_feeds (k := j) K w (by omega) dX1_feed_35 (fun H locs w => ?_)
        refine lv_aload_n hx hb dX1_feed_36 rfl (lv_at hl 1 rfl) ?_
        refine lv_iconst (v := nI 0) hx hb dX1_feed_37 (by decide) ?_
        refine mp_noted K w dX1_feed_38 (fun H locs w => ?_)
        refine lv_iload_n hx hb dX1_feed_41 rfl (lv_at hl 0 rfl) ?_
        exact W.iret (v := (cfd (g, kd, f1, f2, fd, op) j)) hx hb hr (fun t ht hW => ⟨⟨_, ((g, kd, f1, f2, (upd fd j a), op), dv, 0, pt, cy, aw, va), rfl, ⟨some j, Or.inr (Or.inr ⟨hL1, j, hj, rfl, rfl, rfl⟩), fun z => (by cases z), fun j2 z => (by cases z; exact ⟨va, rfl⟩)⟩, (by show va_P D vwCl _ t.heap; rw [ht]; exact w.1)⟩, w.2.F ht⟩) w.2.2.2 dX1_feed_42
    · refine lv_iconst (v := -1) hx hb dX1_feed_9 (by decide) ?_
      exact W.iret (v := (-1)) hx hb hr (fun t ht hW => ⟨⟨_, ((g, kd, f1, f2, fd, op), dv, nt, pt, cy, aw, va), rfl, ⟨none, Or.inl ⟨fun z => c6 ((isN_iff (by decide) k).mp z).2, rfl, rfl⟩, fun _ => ⟨va, rfl⟩, fun _ z => (by cases z)⟩, (by show va_P D vwCl _ t.heap; rw [ht]; exact w.1)⟩, w.2.F ht⟩) w.2.2.2 dX1_feed_10
set_option maxHeartbeats 4000000 in
set_option maxRecDepth 100000 in
/-- X1_output(k, a) -/
theorem metX1_output (l : Launch) (D : va_G) (di : ClassId) (h : Nat → Nat) (hD : xD h) (C : Cfg) (dv : Int32) (nt : Nat) (pt cy aw va : Nat → Int32) (hC : CW C) (k a : Int32) : Met l yX1_output (ws_ yX1_output cX1_output 4 (some .int)) rmX1_output (GPc D (tyM di) h [.int k, .int a] (wM di h (C, dv, nt, pt, cy, aw, va))) (GQi D h (wM di h) (fun r u => ∃ ob, Rput C 2 (cop C) k a r ob ∧ (ob = none → MK C dv nt pt cy aw u) ∧ ∀ j, ob = some j → MK (outC C j a) dv 0 pt cy aw u)) 0 0 (xB h) := by
  obtain ⟨g, kd, f1, f2, fd, op⟩ := C
  refine g_met (own := RX1) rfl (by decide) hD (Nat.le_of_ble_eq_true rfl) ?_
  intro p e s m args below meth c ls K hr hlk w hl
  obtain ⟨hx, hb, hml, hown, hts, hK, -⟩ := id K
  have hR : rmX1_output.frames ≤ rmX1_output.frames ∧ rmX1_output.locals ≤ rmX1_output.locals := ⟨Nat.le_refl _, Nat.le_refl _⟩
  have hl : lv_has ls 4 [(0, .ref (h 0)), (1, .int k), (2, .int a)] := hl
  refine lv_iload_n hx hb dX1_output_0 rfl (lv_at hl 1 rfl) ?_
  refine lv_if_lt (tgt := 9) hx hb dX1_output_1 (by decide) (fun c1 => ?_) (fun c1 => ?_)
  · refine lv_iconst (v := -1) hx hb dX1_output_9 (by decide) ?_
    exact W.iret (v := (-1)) hx hb hr (fun t ht hW => ⟨⟨_, ((g, kd, f1, f2, fd, op), dv, nt, pt, cy, aw, va), rfl, ⟨none, Or.inl ⟨fun z => ((isN_iff (by decide) k).mp z).1 c1, rfl, rfl⟩, fun _ => ⟨va, rfl⟩, fun _ z => (by cases z)⟩, (by show va_P D vwCl _ t.heap; rw [ht]; exact w.1)⟩, w.2.F ht⟩) w.2.2.2 dX1_output_10
  · refine lv_iload_n hx hb dX1_output_4 rfl (lv_at hl 1 rfl) ?_
    refine lv_iconst (v := nI 1) hx hb dX1_output_5 (by decide) ?_
    refine lv_icmp_le (tgt := 11) hx hb dX1_output_6 (by decide) (fun c6 => ?_) (fun c6 => ?_)
    · obtain ⟨j, hj, rfl⟩ : isN 2 k := (isN_iff (by decide) k).mpr ⟨c1, c6⟩
      refine lv_aload_n hx hb dX1_output_11 rfl (lv_at hl 0 rfl) ?_
      refine lv_iload_n hx hb dX1_output_12 rfl (lv_at hl 2 rfl) ?_
      refine g_readi (ci := 1) (q := (RX1, TX1, 12)) (rest := []) K w (metX1_badLine l D di h hD (g, kd, f1, f2, fd, op) dv nt pt cy aw va hC a) (cwX1_X1_badLine hts ⟨Nat.le_trans (by decide) hR.1, Nat.le_trans (by decide) hR.2⟩) rfl rfl rfl hl.1 rfl (Nat.le_of_ble_eq_true rfl) dX1_output_13 ⟨Nat.zero_le _, Nat.zero_le _⟩ (fun rb hL1 => ?_)
      rcases hL1 with ⟨rfl, hL1⟩ | ⟨rfl, hL1⟩
      · refine n_ifeq1 (tgt := 22) hx hb dX1_output_16 (by decide) ?_
        refine lv_bipush (v := -2) hx hb dX1_output_19 (by decide) ?_
        exact W.iret (v := (-2)) hx hb hr (fun t ht hW => ⟨⟨_, ((g, kd, f1, f2, fd, op), dv, nt, pt, cy, aw, va), rfl, ⟨none, Or.inr (Or.inl ⟨⟨j, hj, rfl⟩, hL1, rfl, rfl⟩), fun _ => ⟨va, rfl⟩, fun _ z => (by cases z)⟩, (by show va_P D vwCl _ t.heap; rw [ht]; exact w.1)⟩, w.2.F ht⟩) w.2.2.2 dX1_output_21
      · refine n_ifeq0 (tgt := 22) hx hb dX1_output_16 (by decide) ?_
        refine lv_aload_n hx hb dX1_output_22 rfl (lv_at hl 0 rfl) ?_
        refine mg_outputs K w dX1_output_23 ?_
        refine lv_iload_n hx hb dX1_output_26 rfl (lv_at hl 1 rfl) ?_
        refine ml_outputs (k := j) K w (by omega) dX1_output_27 ?_
        refine lv_istore_n (lv' := [(3, .int (cop (g, kd, f1, f2, fd, op) j)), (0, .ref (h 0)), (1, .int (nI j)), (2, .int a)]) hx hb dX1_output_28 rfl hl (by decide) rfl (fun ls hl => ?_)
        refine lv_aload_n hx hb dX1_output_29 rfl (lv_at hl 1 rfl) ?_
        refine mg_outputs K w dX1_output_30 ?_
        refine lv_iload_n hx hb dX1_output_33 rfl (lv_at hl 2 rfl) ?_
        refine lv_iload_n hx hb dX1_output_34 rfl (lv_at hl 3 rfl) ?_
        refine ms_outputs (k := j) K w (by omega) dX1_output_35 (fun H locs w => ?_)
        refine lv_aload_n hx hb dX1_output_36 rfl (lv_at hl 1 rfl) ?_
        refine lv_iconst (v := nI 0) hx hb dX1_output_37 (by decide) ?_
        refine mp_noted K w dX1_output_38 (fun H locs w => ?_)
        refine lv_iload_n hx hb dX1_output_41 rfl (lv_at hl 0 rfl) ?_
        exact W.iret (v := (cop (g, kd, f1, f2, fd, op) j)) hx hb hr (fun t ht hW => ⟨⟨_, ((g, kd, f1, f2, fd, (upd op j a)), dv, 0, pt, cy, aw, va), rfl, ⟨some j, Or.inr (Or.inr ⟨hL1, j, hj, rfl, rfl, rfl⟩), fun z => (by cases z), fun j2 z => (by cases z; exact ⟨va, rfl⟩)⟩, (by show va_P D vwCl _ t.heap; rw [ht]; exact w.1)⟩, w.2.F ht⟩) w.2.2.2 dX1_output_42
    · refine lv_iconst (v := -1) hx hb dX1_output_9 (by decide) ?_
      exact W.iret (v := (-1)) hx hb hr (fun t ht hW => ⟨⟨_, ((g, kd, f1, f2, fd, op), dv, nt, pt, cy, aw, va), rfl, ⟨none, Or.inl ⟨fun z => c6 ((isN_iff (by decide) k).mp z).2, rfl, rfl⟩, fun _ => ⟨va, rfl⟩, fun _ z => (by cases z)⟩, (by show va_P D vwCl _ t.heap; rw [ht]; exact w.1)⟩, w.2.F ht⟩) w.2.2.2 dX1_output_10
set_option maxHeartbeats 4000000 in
set_option maxRecDepth 100000 in
/-- inject(a) -/
theorem metX1_inject (l : Launch) (D : va_G) (di : ClassId) (h : Nat → Nat) (hD : xD h) (C : Cfg) (dv : Int32) (nt : Nat) (pt cy aw va : Nat → Int32) (hC : CW C) (a : Int32) : Met l yX1_inject (ws_ yX1_inject cX1_inject 2 (some .int)) rmX1_inject (GPc D (tyM di) h [.int a] (wM di h (C, dv, nt, pt, cy, aw, va))) (GQi D h (wM di h) (fun r u => ∃ ok, Rinj C a r ok ∧ (ok = false → MK C dv nt pt cy aw u) ∧ (ok = true → MK C a 0 pt cy aw u))) 0 0 (xB h) := by
  refine g_met (own := RX1) rfl (by decide) hD (Nat.le_of_ble_eq_true rfl) ?_
  intro p e s m args below meth c ls K hr hlk w hl
  obtain ⟨hx, hb, hml, hown, hts, hK, -⟩ := id K
  have hR : rmX1_inject.frames ≤ rmX1_inject.frames ∧ rmX1_inject.locals ≤ rmX1_inject.locals := ⟨Nat.le_refl _, Nat.le_refl _⟩
  have hl : lv_has ls 2 [(0, .ref (h 0)), (1, .int a)] := hl
  refine lv_iload_n hx hb dX1_inject_0 rfl (lv_at hl 1 rfl) ?_
  refine lv_iconst (v := -1) hx hb dX1_inject_1 (by decide) ?_
  refine lv_icmp_eq (tgt := 15) hx hb dX1_inject_2 (by decide) (fun c2 => ?_) (fun c2 => ?_)
  · refine lv_aload_n hx hb dX1_inject_15 rfl (lv_at hl 0 rfl) ?_
    refine lv_iload_n hx hb dX1_inject_16 rfl (lv_at hl 1 rfl) ?_
    refine mp_device K w dX1_inject_17 (fun H locs w => ?_)
    refine lv_aload_n hx hb dX1_inject_20 rfl (lv_at hl 0 rfl) ?_
    refine lv_iconst (v := nI 0) hx hb dX1_inject_21 (by decide) ?_
    refine mp_noted K w dX1_inject_22 (fun H locs w => ?_)
    refine lv_iconst (v := nI 0) hx hb dX1_inject_25 (by decide) ?_
    exact W.iret (v := (nI 0)) hx hb hr (fun t ht hW => ⟨⟨_, (C, a, 0, pt, cy, aw, va), rfl, ⟨true, Or.inr ⟨Or.inl c2, rfl, rfl⟩, fun z => (by cases z), fun _ => ⟨va, rfl⟩⟩, (by show va_P D vwCl _ t.heap; rw [ht]; exact w.1)⟩, w.2.F ht⟩) w.2.2.2 dX1_inject_26
  · refine lv_aload_n hx hb dX1_inject_5 rfl (lv_at hl 0 rfl) ?_
    refine lv_iload_n hx hb dX1_inject_6 rfl (lv_at hl 1 rfl) ?_
    refine g_readi (ci := 1) (q := (RX1, TX1, 12)) (rest := []) K w (metX1_badFault l D di h hD C dv nt pt cy aw va hC a) (cwX1_X1_badFault hts ⟨Nat.le_trans (by decide) hR.1, Nat.le_trans (by decide) hR.2⟩) rfl rfl rfl hl.1 rfl (Nat.le_of_ble_eq_true rfl) dX1_inject_7 ⟨Nat.zero_le _, Nat.zero_le _⟩ (fun rb hf1 => ?_)
    rcases hf1 with ⟨rfl, hf1⟩ | ⟨rfl, hf1⟩
    · refine n_ifeq1 (tgt := 15) hx hb dX1_inject_10 (by decide) ?_
      refine lv_iconst (v := -1) hx hb dX1_inject_13 (by decide) ?_
      exact W.iret (v := (-1)) hx hb hr (fun t ht hW => ⟨⟨_, (C, dv, nt, pt, cy, aw, va), rfl, ⟨false, Or.inl ⟨c2, hf1, rfl, rfl⟩, fun _ => ⟨va, rfl⟩, fun z => (by cases z)⟩, (by show va_P D vwCl _ t.heap; rw [ht]; exact w.1)⟩, w.2.F ht⟩) w.2.2.2 dX1_inject_14
    · refine n_ifeq0 (tgt := 15) hx hb dX1_inject_10 (by decide) ?_
      refine lv_aload_n hx hb dX1_inject_15 rfl (lv_at hl 0 rfl) ?_
      refine lv_iload_n hx hb dX1_inject_16 rfl (lv_at hl 1 rfl) ?_
      refine mp_device K w dX1_inject_17 (fun H locs w => ?_)
      refine lv_aload_n hx hb dX1_inject_20 rfl (lv_at hl 0 rfl) ?_
      refine lv_iconst (v := nI 0) hx hb dX1_inject_21 (by decide) ?_
      refine mp_noted K w dX1_inject_22 (fun H locs w => ?_)
      refine lv_iconst (v := nI 0) hx hb dX1_inject_25 (by decide) ?_
      exact W.iret (v := (nI 0)) hx hb hr (fun t ht hW => ⟨⟨_, (C, a, 0, pt, cy, aw, va), rfl, ⟨true, Or.inr ⟨Or.inr hf1, rfl, rfl⟩, fun z => (by cases z), fun _ => ⟨va, rfl⟩⟩, (by show va_P D vwCl _ t.heap; rw [ht]; exact w.1)⟩, w.2.F ht⟩) w.2.2.2 dX1_inject_26
set_option maxHeartbeats 4000000 in
set_option maxRecDepth 100000 in
/-- observe(a, b) -/
theorem metX1_observe (l : Launch) (D : va_G) (di : ClassId) (h : Nat → Nat) (hD : xD h) (C : Cfg) (dv : Int32) (nt : Nat) (pt cy aw va : Nat → Int32) (hC : CW C) (a b : Int32) (d : Nat) (hj : FJ C dv d) (hn : nt ≤ 20) : Met l yX1_observe (ws_ yX1_observe cX1_observe 4 (some .int)) rmX1_observe (GPc D (tyM di) h [.int a, .int b] (wM di h (C, dv, nt, pt, cy, aw, va))) (GQi D h (wM di h) (fun r u => ∃ ob, Robs C nt d a b r ob ∧ (ob = none → MK C dv nt pt cy aw u) ∧ ∀ x y, ob = some (x, y) → MK C dv (nt + 1) (upd pt nt a) (upd cy nt b) (upd aw nt r) u)) 0 0 (xB h) := by
  refine g_met (own := RX1) rfl (by decide) hD (Nat.le_of_ble_eq_true rfl) ?_
  intro p e s m args below meth c ls K hr hlk w hl
  obtain ⟨hx, hb, hml, hown, hts, hK, -⟩ := id K
  have hR : rmX1_observe.frames ≤ rmX1_observe.frames ∧ rmX1_observe.locals ≤ rmX1_observe.locals := ⟨Nat.le_refl _, Nat.le_refl _⟩
  have hl : lv_has ls 4 [(0, .ref (h 0)), (1, .int a), (2, .int b)] := hl
  refine lv_aload_n hx hb dX1_observe_0 rfl (lv_at hl 0 rfl) ?_
  refine lv_iload_n hx hb dX1_observe_1 rfl (lv_at hl 1 rfl) ?_
  refine g_readi (ci := 1) (q := (RX1, TX1, 12)) (rest := []) K w (metX1_badPattern l D di h hD C dv nt pt cy aw va a) (cwX1_X1_badPattern hts ⟨Nat.le_trans (by decide) hR.1, Nat.le_trans (by decide) hR.2⟩) rfl rfl rfl hl.1 rfl (Nat.le_of_ble_eq_true rfl) dX1_observe_2 ⟨Nat.zero_le _, Nat.zero_le _⟩ (fun rb hp1 => ?_)
  rcases hp1 with ⟨rfl, hp1⟩ | ⟨rfl, hp1⟩
  · refine n_ifeq1 (tgt := 10) hx hb dX1_observe_5 (by decide) ?_
    refine lv_iconst (v := -1) hx hb dX1_observe_8 (by decide) ?_
    exact W.iret (v := (-1)) hx hb hr (fun t ht hW => ⟨⟨_, (C, dv, nt, pt, cy, aw, va), rfl, ⟨none, Or.inl ⟨hp1, rfl, rfl⟩, fun _ => ⟨va, rfl⟩, fun _ _ z => (by cases z)⟩, (by show va_P D vwCl _ t.heap; rw [ht]; exact w.1)⟩, w.2.F ht⟩) w.2.2.2 dX1_observe_9
  · obtain ⟨x, hx9, rfl⟩ := hp1
    refine n_ifeq0 (tgt := 10) hx hb dX1_observe_5 (by decide) ?_
    refine lv_aload_n hx hb dX1_observe_10 rfl (lv_at hl 0 rfl) ?_
    refine lv_iload_n hx hb dX1_observe_11 rfl (lv_at hl 2 rfl) ?_
    refine g_readi (ci := 1) (q := (RX1, TX1, 12)) (rest := []) K w (metX1_badCycles l D di h hD C dv nt pt cy aw va b) (cwX1_X1_badCycles hts ⟨Nat.le_trans (by decide) hR.1, Nat.le_trans (by decide) hR.2⟩) rfl rfl rfl hl.1 rfl (Nat.le_of_ble_eq_true rfl) dX1_observe_12 ⟨Nat.zero_le _, Nat.zero_le _⟩ (fun rb hp2 => ?_)
    rcases hp2 with ⟨rfl, hp2⟩ | ⟨rfl, hp2⟩
    · refine n_ifeq1 (tgt := 21) hx hb dX1_observe_15 (by decide) ?_
      refine lv_bipush (v := -2) hx hb dX1_observe_18 (by decide) ?_
      exact W.iret (v := (-2)) hx hb hr (fun t ht hW => ⟨⟨_, (C, dv, nt, pt, cy, aw, va), rfl, ⟨none, Or.inr (Or.inl ⟨⟨x, hx9, rfl⟩, hp2, rfl, rfl⟩), fun _ => ⟨va, rfl⟩, fun _ _ z => (by cases z)⟩, (by show va_P D vwCl _ t.heap; rw [ht]; exact w.1)⟩, w.2.F ht⟩) w.2.2.2 dX1_observe_20
    · obtain ⟨y, hy1, hy2, rfl⟩ := hp2
      refine n_ifeq0 (tgt := 21) hx hb dX1_observe_15 (by decide) ?_
      refine lv_aload_n hx hb dX1_observe_21 rfl (lv_at hl 0 rfl) ?_
      refine mg_noted K w dX1_observe_22 ?_
      refine lv_istore_n (lv' := [(3, .int (nI nt)), (0, .ref (h 0)), (1, .int (nI x)), (2, .int (nI y))]) hx hb dX1_observe_25 rfl hl (by decide) rfl (fun ls hl => ?_)
      refine lv_iload_n hx hb dX1_observe_26 rfl (lv_at hl 0 rfl) ?_
      refine lv_bipush (v := nI 20) hx hb dX1_observe_27 (by decide) ?_
      refine n_lt (tgt := 35) hx hb dX1_observe_29 (by decide) (by omega) (by omega) (fun c29 => ?_) (fun c29 => ?_)
      · refine lv_aload_n hx hb dX1_observe_35 rfl (lv_at hl 1 rfl) ?_
        refine mg_pattern K w dX1_observe_36 ?_
        refine lv_iload_n hx hb dX1_observe_39 rfl (lv_at hl 0 rfl) ?_
        refine lv_iload_n hx hb dX1_observe_40 rfl (lv_at hl 2 rfl) ?_
        refine ms_pattern (k := nt) K w (by omega) dX1_observe_41 (fun H locs w => ?_)
        refine lv_aload_n hx hb dX1_observe_42 rfl (lv_at hl 1 rfl) ?_
        refine mg_cycles K w dX1_observe_43 ?_
        refine lv_iload_n hx hb dX1_observe_46 rfl (lv_at hl 0 rfl) ?_
        refine lv_iload_n hx hb dX1_observe_47 rfl (lv_at hl 3 rfl) ?_
        refine ms_cycles (k := nt) K w (by omega) dX1_observe_48 (fun H locs w => ?_)
        refine lv_aload_n hx hb dX1_observe_49 rfl (lv_at hl 1 rfl) ?_
        refine mg_answer K w dX1_observe_50 ?_
        refine lv_iload_n hx hb dX1_observe_53 rfl (lv_at hl 0 rfl) ?_
        refine lv_aload_n hx hb dX1_observe_54 rfl (lv_at hl 1 rfl) ?_
        refine lv_aload_n hx hb dX1_observe_55 rfl (lv_at hl 1 rfl) ?_
        refine mg_device K w dX1_observe_56 ?_
        refine lv_iload_n hx hb dX1_observe_59 rfl (lv_at hl 2 rfl) ?_
        refine lv_iload_n hx hb dX1_observe_60 rfl (lv_at hl 3 rfl) ?_
        refine g_calli (ci := 1) (q := (RX1, TX1, 12)) (rest := [.int (nI nt), .ref (h 8)]) K w (metX1_run l D di h hD C dv nt (upd pt nt (nI x)) (upd cy nt (nI y)) aw va hC dv d x y hj hx9 hy1 hy2) (cwX1_X1_run hts ⟨Nat.le_trans (by decide) hR.1, Nat.le_trans (by decide) hR.2⟩) rfl rfl rfl hl.1 rfl (Nat.le_of_ble_eq_true rfl) dX1_observe_61 ⟨Nat.zero_le _, Nat.zero_le _⟩ (fun ri u H locs hp w => ?_)
        obtain ⟨rfl, va1, rfl⟩ := hp
        refine ms_answer (k := nt) K w (by omega) dX1_observe_64 (fun H locs w => ?_)
        refine lv_aload_n hx hb dX1_observe_65 rfl (lv_at hl 1 rfl) ?_
        refine lv_iload_n hx hb dX1_observe_66 rfl (lv_at hl 0 rfl) ?_
        refine lv_iconst (v := nI 1) hx hb dX1_observe_67 (by decide) ?_
        refine n_iadd hx hb dX1_observe_68 ?_
        refine mp_noted K w dX1_observe_69 (fun H locs w => ?_)
        refine lv_aload_n hx hb dX1_observe_72 rfl (lv_at hl 1 rfl) ?_
        refine mg_answer K w dX1_observe_73 ?_
        refine lv_iload_n hx hb dX1_observe_76 rfl (lv_at hl 0 rfl) ?_
        refine ml_answer (k := nt) K w (by omega) dX1_observe_77 ?_
        refine n_tope (pk_us) ?_
        exact W.iret (v := (nI (ansN C d x y))) hx hb hr (fun t ht hW => ⟨⟨_, (C, dv, nt + 1, (upd pt nt (nI x)), (upd cy nt (nI y)), (upd aw nt (nI (ansN C d x y))), va1), rfl, ⟨some (x, y), Or.inr (Or.inr (Or.inr ⟨(by omega), x, y, hx9, hy1, hy2, rfl, rfl, rfl, rfl⟩)), fun z => (by cases z), fun x2 y2 z => (by cases z; exact ⟨va1, rfl⟩)⟩, (by show va_P D vwCl _ t.heap; rw [ht]; exact w.1)⟩, w.2.F ht⟩) w.2.2.2 dX1_observe_78
      · refine lv_bipush (v := -3) hx hb dX1_observe_32 (by decide) ?_
        exact W.iret (v := (-3)) hx hb hr (fun t ht hW => ⟨⟨_, (C, dv, nt, pt, cy, aw, va), rfl, ⟨none, Or.inr (Or.inr (Or.inl ⟨⟨x, hx9, rfl⟩, ⟨y, hy1, hy2, rfl⟩, (by omega), rfl, rfl⟩)), fun _ => ⟨va, rfl⟩, fun _ _ z => (by cases z)⟩, (by show va_P D vwCl _ t.heap; rw [ht]; exact w.1)⟩, w.2.F ht⟩) w.2.2.2 dX1_observe_34
set_option maxHeartbeats 4000000 in
set_option maxRecDepth 100000 in
/-- response(a, b) -/
theorem metX1_response (l : Launch) (D : va_G) (di : ClassId) (h : Nat → Nat) (hD : xD h) (C : Cfg) (dv : Int32) (nt : Nat) (pt cy aw va : Nat → Int32) (hC : CW C) (a b : Int32) : Met l yX1_response (ws_ yX1_response cX1_response 3 (some .int)) rmX1_response (GPc D (tyM di) h [.int a, .int b] (wM di h (C, dv, nt, pt, cy, aw, va))) (GQi D h (wM di h) (fun r u => Rask (ansN C 63) a b r ∧ MK C dv nt pt cy aw u)) 0 0 (xB h) := by
  refine g_met (own := RX1) rfl (by decide) hD (Nat.le_of_ble_eq_true rfl) ?_
  intro p e s m args below meth c ls K hr hlk w hl
  obtain ⟨hx, hb, hml, hown, hts, hK, -⟩ := id K
  have hR : rmX1_response.frames ≤ rmX1_response.frames ∧ rmX1_response.locals ≤ rmX1_response.locals := ⟨Nat.le_refl _, Nat.le_refl _⟩
  have hl : lv_has ls 3 [(0, .ref (h 0)), (1, .int a), (2, .int b)] := hl
  refine lv_aload_n hx hb dX1_response_0 rfl (lv_at hl 0 rfl) ?_
  refine lv_iload_n hx hb dX1_response_1 rfl (lv_at hl 1 rfl) ?_
  refine g_readi (ci := 1) (q := (RX1, TX1, 12)) (rest := []) K w (metX1_badPattern l D di h hD C dv nt pt cy aw va a) (cwX1_X1_badPattern hts ⟨Nat.le_trans (by decide) hR.1, Nat.le_trans (by decide) hR.2⟩) rfl rfl rfl hl.1 rfl (Nat.le_of_ble_eq_true rfl) dX1_response_2 ⟨Nat.zero_le _, Nat.zero_le _⟩ (fun rb hp1 => ?_)
  rcases hp1 with ⟨rfl, hp1⟩ | ⟨rfl, hp1⟩
  · refine n_ifeq1 (tgt := 10) hx hb dX1_response_5 (by decide) ?_
    refine lv_iconst (v := -1) hx hb dX1_response_8 (by decide) ?_
    exact W.iret (v := (-1)) hx hb hr (fun t ht hW => ⟨⟨_, (C, dv, nt, pt, cy, aw, va), rfl, ⟨Or.inl ⟨hp1, rfl⟩, ⟨va, rfl⟩⟩, (by show va_P D vwCl _ t.heap; rw [ht]; exact w.1)⟩, w.2.F ht⟩) w.2.2.2 dX1_response_9
  · obtain ⟨x, hx9, rfl⟩ := hp1
    refine n_ifeq0 (tgt := 10) hx hb dX1_response_5 (by decide) ?_
    refine lv_aload_n hx hb dX1_response_10 rfl (lv_at hl 0 rfl) ?_
    refine lv_iload_n hx hb dX1_response_11 rfl (lv_at hl 2 rfl) ?_
    refine g_readi (ci := 1) (q := (RX1, TX1, 12)) (rest := []) K w (metX1_badCycles l D di h hD C dv nt pt cy aw va b) (cwX1_X1_badCycles hts ⟨Nat.le_trans (by decide) hR.1, Nat.le_trans (by decide) hR.2⟩) rfl rfl rfl hl.1 rfl (Nat.le_of_ble_eq_true rfl) dX1_response_12 ⟨Nat.zero_le _, Nat.zero_le _⟩ (fun rb hp2 => ?_)
    rcases hp2 with ⟨rfl, hp2⟩ | ⟨rfl, hp2⟩
    · refine n_ifeq1 (tgt := 21) hx hb dX1_response_15 (by decide) ?_
      refine lv_bipush (v := -2) hx hb dX1_response_18 (by decide) ?_
      exact W.iret (v := (-2)) hx hb hr (fun t ht hW => ⟨⟨_, (C, dv, nt, pt, cy, aw, va), rfl, ⟨Or.inr (Or.inl ⟨⟨x, hx9, rfl⟩, hp2, rfl⟩), ⟨va, rfl⟩⟩, (by show va_P D vwCl _ t.heap; rw [ht]; exact w.1)⟩, w.2.F ht⟩) w.2.2.2 dX1_response_20
    · obtain ⟨y, hy1, hy2, rfl⟩ := hp2
      refine n_ifeq0 (tgt := 21) hx hb dX1_response_15 (by decide) ?_
      refine lv_aload_n hx hb dX1_response_21 rfl (lv_at hl 0 rfl) ?_
      refine lv_iconst (v := -1) hx hb dX1_response_22 (by decide) ?_
      refine lv_iload_n hx hb dX1_response_23 rfl (lv_at hl 1 rfl) ?_
      refine lv_iload_n hx hb dX1_response_24 rfl (lv_at hl 2 rfl) ?_
      refine g_calli (ci := 1) (q := (RX1, TX1, 12)) (rest := []) K w (metX1_run l D di h hD C dv nt pt cy aw va hC (-1) 63 x y (Or.inl ⟨rfl, rfl⟩) hx9 hy1 hy2) (cwX1_X1_run hts ⟨Nat.le_trans (by decide) hR.1, Nat.le_trans (by decide) hR.2⟩) rfl rfl rfl hl.1 rfl (Nat.le_of_ble_eq_true rfl) dX1_response_25 ⟨Nat.zero_le _, Nat.zero_le _⟩ (fun ri u H locs hp w => ?_)
      obtain ⟨rfl, va1, rfl⟩ := hp
      exact W.iret (v := (nI (ansN C 63 x y))) hx hb hr (fun t ht hW => ⟨⟨_, (C, dv, nt, pt, cy, aw, va1), rfl, ⟨Or.inr (Or.inr ⟨x, y, hx9, hy1, hy2, rfl, rfl, rfl⟩), ⟨va1, rfl⟩⟩, (by show va_P D vwCl _ t.heap; rw [ht]; exact w.1)⟩, w.2.F ht⟩) w.2.2.2 dX1_response_28
set_option maxHeartbeats 4000000 in
set_option maxRecDepth 100000 in
/-- responseWith(f, a, b) -/
theorem metX1_responseWith (l : Launch) (D : va_G) (di : ClassId) (h : Nat → Nat) (hD : xD h) (C : Cfg) (dv : Int32) (nt : Nat) (pt cy aw va : Nat → Int32) (hC : CW C) (f a b : Int32) : Met l yX1_responseWith (ws_ yX1_responseWith cX1_responseWith 4 (some .int)) rmX1_responseWith (GPc D (tyM di) h [.int f, .int a, .int b] (wM di h (C, dv, nt, pt, cy, aw, va))) (GQi D h (wM di h) (fun r u => RaskF C f a b r ∧ MK C dv nt pt cy aw u)) 0 0 (xB h) := by
  refine g_met (own := RX1) rfl (by decide) hD (Nat.le_of_ble_eq_true rfl) ?_
  intro p e s m args below meth c ls K hr hlk w hl
  obtain ⟨hx, hb, hml, hown, hts, hK, -⟩ := id K
  have hR : rmX1_responseWith.frames ≤ rmX1_responseWith.frames ∧ rmX1_responseWith.locals ≤ rmX1_responseWith.locals := ⟨Nat.le_refl _, Nat.le_refl _⟩
  have hl : lv_has ls 4 [(0, .ref (h 0)), (1, .int f), (2, .int a), (3, .int b)] := hl
  refine lv_aload_n hx hb dX1_responseWith_0 rfl (lv_at hl 0 rfl) ?_
  refine lv_iload_n hx hb dX1_responseWith_1 rfl (lv_at hl 1 rfl) ?_
  refine g_readi (ci := 1) (q := (RX1, TX1, 12)) (rest := []) K w (metX1_badFault l D di h hD C dv nt pt cy aw va hC f) (cwX1_X1_badFault hts ⟨Nat.le_trans (by decide) hR.1, Nat.le_trans (by decide) hR.2⟩) rfl rfl rfl hl.1 rfl (Nat.le_of_ble_eq_true rfl) dX1_responseWith_2 ⟨Nat.zero_le _, Nat.zero_le _⟩ (fun rb hf1 => ?_)
  rcases hf1 with ⟨rfl, hf1⟩ | ⟨rfl, hf1⟩
  · refine n_ifeq1 (tgt := 10) hx hb dX1_responseWith_5 (by decide) ?_
    refine lv_iconst (v := -1) hx hb dX1_responseWith_8 (by decide) ?_
    exact W.iret (v := (-1)) hx hb hr (fun t ht hW => ⟨⟨_, (C, dv, nt, pt, cy, aw, va), rfl, ⟨Or.inl ⟨hf1, rfl⟩, ⟨va, rfl⟩⟩, (by show va_P D vwCl _ t.heap; rw [ht]; exact w.1)⟩, w.2.F ht⟩) w.2.2.2 dX1_responseWith_9
  · obtain ⟨j, hj, rfl⟩ := hf1
    refine n_ifeq0 (tgt := 10) hx hb dX1_responseWith_5 (by decide) ?_
    refine lv_aload_n hx hb dX1_responseWith_10 rfl (lv_at hl 0 rfl) ?_
    refine lv_iload_n hx hb dX1_responseWith_11 rfl (lv_at hl 2 rfl) ?_
    refine g_readi (ci := 1) (q := (RX1, TX1, 12)) (rest := []) K w (metX1_badPattern l D di h hD C dv nt pt cy aw va a) (cwX1_X1_badPattern hts ⟨Nat.le_trans (by decide) hR.1, Nat.le_trans (by decide) hR.2⟩) rfl rfl rfl hl.1 rfl (Nat.le_of_ble_eq_true rfl) dX1_responseWith_12 ⟨Nat.zero_le _, Nat.zero_le _⟩ (fun rb hp1 => ?_)
    rcases hp1 with ⟨rfl, hp1⟩ | ⟨rfl, hp1⟩
    · refine n_ifeq1 (tgt := 21) hx hb dX1_responseWith_15 (by decide) ?_
      refine lv_bipush (v := -2) hx hb dX1_responseWith_18 (by decide) ?_
      exact W.iret (v := (-2)) hx hb hr (fun t ht hW => ⟨⟨_, (C, dv, nt, pt, cy, aw, va), rfl, ⟨Or.inr (Or.inl ⟨⟨j, hj, rfl⟩, hp1, rfl⟩), ⟨va, rfl⟩⟩, (by show va_P D vwCl _ t.heap; rw [ht]; exact w.1)⟩, w.2.F ht⟩) w.2.2.2 dX1_responseWith_20
    · obtain ⟨x, hx9, rfl⟩ := hp1
      refine n_ifeq0 (tgt := 21) hx hb dX1_responseWith_15 (by decide) ?_
      refine lv_aload_n hx hb dX1_responseWith_21 rfl (lv_at hl 0 rfl) ?_
      refine lv_iload_n hx hb dX1_responseWith_22 rfl (lv_at hl 3 rfl) ?_
      refine g_readi (ci := 1) (q := (RX1, TX1, 12)) (rest := []) K w (metX1_badCycles l D di h hD C dv nt pt cy aw va b) (cwX1_X1_badCycles hts ⟨Nat.le_trans (by decide) hR.1, Nat.le_trans (by decide) hR.2⟩) rfl rfl rfl hl.1 rfl (Nat.le_of_ble_eq_true rfl) dX1_responseWith_23 ⟨Nat.zero_le _, Nat.zero_le _⟩ (fun rb hp2 => ?_)
      rcases hp2 with ⟨rfl, hp2⟩ | ⟨rfl, hp2⟩
      · refine n_ifeq1 (tgt := 32) hx hb dX1_responseWith_26 (by decide) ?_
        refine lv_bipush (v := -3) hx hb dX1_responseWith_29 (by decide) ?_
        exact W.iret (v := (-3)) hx hb hr (fun t ht hW => ⟨⟨_, (C, dv, nt, pt, cy, aw, va), rfl, ⟨Or.inr (Or.inr (Or.inl ⟨⟨j, hj, rfl⟩, ⟨x, hx9, rfl⟩, hp2, rfl⟩)), ⟨va, rfl⟩⟩, (by show va_P D vwCl _ t.heap; rw [ht]; exact w.1)⟩, w.2.F ht⟩) w.2.2.2 dX1_responseWith_31
      · obtain ⟨y, hy1, hy2, rfl⟩ := hp2
        refine n_ifeq0 (tgt := 32) hx hb dX1_responseWith_26 (by decide) ?_
        refine lv_aload_n hx hb dX1_responseWith_32 rfl (lv_at hl 0 rfl) ?_
        refine lv_iload_n hx hb dX1_responseWith_33 rfl (lv_at hl 1 rfl) ?_
        refine lv_iload_n hx hb dX1_responseWith_34 rfl (lv_at hl 2 rfl) ?_
        refine lv_iload_n hx hb dX1_responseWith_35 rfl (lv_at hl 3 rfl) ?_
        refine g_calli (ci := 1) (q := (RX1, TX1, 12)) (rest := []) K w (metX1_run l D di h hD C dv nt pt cy aw va hC (nI j) j x y (Or.inr ⟨rfl, hj⟩) hx9 hy1 hy2) (cwX1_X1_run hts ⟨Nat.le_trans (by decide) hR.1, Nat.le_trans (by decide) hR.2⟩) rfl rfl rfl hl.1 rfl (Nat.le_of_ble_eq_true rfl) dX1_responseWith_36 ⟨Nat.zero_le _, Nat.zero_le _⟩ (fun ri u H locs hp w => ?_)
        obtain ⟨rfl, va1, rfl⟩ := hp
        exact W.iret (v := (nI (ansN C j x y))) hx hb hr (fun t ht hW => ⟨⟨_, (C, dv, nt, pt, cy, aw, va1), rfl, ⟨Or.inr (Or.inr (Or.inr ⟨j, x, y, hj, rfl, hx9, hy1, hy2, rfl, rfl, rfl⟩)), ⟨va1, rfl⟩⟩, (by show va_P D vwCl _ t.heap; rw [ht]; exact w.1)⟩, w.2.F ht⟩) w.2.2.2 dX1_responseWith_39
set_option maxHeartbeats 4000000 in
set_option maxRecDepth 100000 in
/-- detected: the faults -/
theorem lpX1_detected (K : GC p s m args c cX1_detected 7 RX1 D (tyM di) h) (hR : rmX1_detected.frames ≤ R.frames ∧ rmX1_detected.locals ≤ R.locals) {C : Cfg} {dv : Int32} {nt : Nat} {pt cy aw : Nat → Int32} {x y : Nat} (hC : CW C) (hx9 : x < 128) (hy1 : 1 ≤ y) (hy2 : y ≤ 4)
    (kk : ∀ (va : Nat → Int32) (H : Heap) (locs : List Loc) (ls : Array Slot), GW s D h (wM di h (C, dv, nt, pt, cy, aw, va)) H locs → lv_has ls 7 [(4, .int (nI (fb_ct (fun j => decide (ansN C j x y ≠ ansN C 63 x y)) (2 * (7 + cg C)))))] → W p l e R s m args below meth c H locs 0 0 Q (F0 m 71 ls []))
    : ∀ (n f : Nat) (va : Nat → Int32) (acc : Nat) (H : Heap) (locs : List Loc) (ls : Array Slot), f ≤ 2 * (7 + cg C) → 2 * (7 + cg C) + 1 ≤ f + n → acc = fb_ct (fun j => decide (ansN C j x y ≠ ansN C 63 x y)) f → GW s D h (wM di h (C, dv, nt, pt, cy, aw, va)) H locs → lv_has ls 7 [(0, .ref (h 0)), (1, .int (nI x)), (2, .int (nI y)), (3, .int (nI (ansN C 63 x y))), (4, .int (nI acc)), (5, .int (nI f))] → W p l e R s m args below meth c H locs 0 0 Q (F0 m 35 ls []) := by
  obtain ⟨hx, hb, hml, hown, hts, hK, hD⟩ := id K
  intro n
  induction n with
  | zero =>
    intro f va acc H locs ls h1 h2
    exact absurd h2 (by omega)
  | succ n ih =>
    intro f va acc H locs ls h1 h2 hacc w hl
    have hg := hC.1
    refine lv_iload hx hb dX1_detected_35 (lv_at hl 5 rfl) ?_
    refine lv_iconst (v := nI 2) hx hb dX1_detected_37 (by decide) ?_
    refine lv_aload_n hx hb dX1_detected_38 rfl (lv_at hl 0 rfl) ?_
    refine g_readi (ci := 1) (q := (RX1, TX1, 12)) (rest := [.int (nI 2), .int (nI f)]) K w (metX1_lineCount l D di h hD C dv nt pt cy aw va) (cwX1_X1_lineCount hts ⟨Nat.le_trans (by decide) hR.1, Nat.le_trans (by decide) hR.2⟩) rfl rfl rfl hl.1 rfl (Nat.le_of_ble_eq_true rfl) dX1_detected_39 ⟨Nat.zero_le _, Nat.zero_le _⟩ (fun rl hrl => ?_)
    subst hrl
    refine n_imul hx hb dX1_detected_42 ?_
    refine n_ge (tgt := 71) hx hb dX1_detected_43 (by decide) (by omega) (by omega) (fun c43 => ?_) (fun c43 => ?_)
    · obtain rfl : f = 2 * (7 + cg C) := by omega
      subst hacc
      exact kk va H locs ls w (lv_sub hl [4] rfl)
    · refine lv_aload_n hx hb dX1_detected_46 rfl (lv_at hl 0 rfl) ?_
      refine lv_iload hx hb dX1_detected_47 (lv_at hl 5 rfl) ?_
      refine lv_iload_n hx hb dX1_detected_49 rfl (lv_at hl 1 rfl) ?_
      refine lv_iload_n hx hb dX1_detected_50 rfl (lv_at hl 2 rfl) ?_
      refine g_calli (ci := 1) (q := (RX1, TX1, 12)) (rest := []) K w (metX1_run l D di h hD C dv nt pt cy aw va hC (nI f) f x y (Or.inr ⟨rfl, c43⟩) hx9 hy1 hy2) (cwX1_X1_run hts ⟨Nat.le_trans (by decide) hR.1, Nat.le_trans (by decide) hR.2⟩) rfl rfl rfl hl.1 rfl (Nat.le_of_ble_eq_true rfl) dX1_detected_51 ⟨Nat.zero_le _, Nat.zero_le _⟩ (fun ri u H locs hp w => ?_)
      obtain ⟨rfl, va1, rfl⟩ := hp
      have hz1 := ansN_lt C f x y
      have hz2 := ansN_lt C 63 x y
      refine lv_istore (lv' := [(6, .int (nI (ansN C f x y))), (0, .ref (h 0)), (1, .int (nI x)), (2, .int (nI y)), (3, .int (nI (ansN C 63 x y))), (4, .int (nI acc)), (5, .int (nI f))]) hx hb dX1_detected_54 hl (by decide) rfl (fun ls hl => ?_)
      refine lv_iload hx hb dX1_detected_56 (lv_at hl 0 rfl) ?_
      refine lv_iload_n hx hb dX1_detected_58 rfl (lv_at hl 4 rfl) ?_
      refine n_eq (tgt := 65) hx hb dX1_detected_59 (by decide) (by omega) (by omega) (fun c59 => ?_) (fun c59 => ?_)
      · refine lv_iinc (v := (nI (f + 1))) (lv' := [(5, .int (nI (f + 1))), (6, .int (nI (ansN C f x y))), (0, .ref (h 0)), (1, .int (nI x)), (2, .int (nI y)), (3, .int (nI (ansN C 63 x y))), (4, .int (nI acc))]) hx hb dX1_detected_65 hl (k := 6) rfl (n_inc _) (by decide) rfl (fun ls hl => ?_)
        refine lv_goto (tgt := 35) hx hb dX1_detected_68 (by decide) ?_
        exact ih (f + 1) _ _ H locs ls (by omega) (by omega) (by rw [hacc, fb_ct_succ, decide_eq_false (fun z => z c59)]; rfl) w (lv_sub hl [2, 3, 4, 5, 6, 0] rfl)
      · refine lv_iinc (v := (nI (acc + 1))) (lv' := [(4, .int (nI (acc + 1))), (6, .int (nI (ansN C f x y))), (0, .ref (h 0)), (1, .int (nI x)), (2, .int (nI y)), (3, .int (nI (ansN C 63 x y))), (5, .int (nI f))]) hx hb dX1_detected_62 hl (k := 5) rfl (n_inc _) (by decide) rfl (fun ls hl => ?_)
        refine lv_iinc (v := (nI (f + 1))) (lv' := [(5, .int (nI (f + 1))), (4, .int (nI (acc + 1))), (6, .int (nI (ansN C f x y))), (0, .ref (h 0)), (1, .int (nI x)), (2, .int (nI y)), (3, .int (nI (ansN C 63 x y)))]) hx hb dX1_detected_65 hl (k := 6) rfl (n_inc _) (by decide) rfl (fun ls hl => ?_)
        refine lv_goto (tgt := 35) hx hb dX1_detected_68 (by decide) ?_
        exact ih (f + 1) _ _ H locs ls (by omega) (by omega) (by rw [hacc, fb_ct_succ, decide_eq_true c59]; rfl) w (lv_sub hl [3, 4, 5, 6, 1, 0] rfl)
set_option maxHeartbeats 4000000 in
set_option maxRecDepth 100000 in
/-- detected(a, b) -/
theorem metX1_detected (l : Launch) (D : va_G) (di : ClassId) (h : Nat → Nat) (hD : xD h) (C : Cfg) (dv : Int32) (nt : Nat) (pt cy aw va : Nat → Int32) (hC : CW C) (a b : Int32) : Met l yX1_detected (ws_ yX1_detected cX1_detected 7 (some .int)) rmX1_detected (GPc D (tyM di) h [.int a, .int b] (wM di h (C, dv, nt, pt, cy, aw, va))) (GQi D h (wM di h) (fun r u => Rask (detN C) a b r ∧ MK C dv nt pt cy aw u)) 0 0 (xB h) := by
  refine g_met (own := RX1) rfl (by decide) hD (Nat.le_of_ble_eq_true rfl) ?_
  intro p e s m args below meth c ls K hr hlk w hl
  obtain ⟨hx, hb, hml, hown, hts, hK, -⟩ := id K
  have hR : rmX1_detected.frames ≤ rmX1_detected.frames ∧ rmX1_detected.locals ≤ rmX1_detected.locals := ⟨Nat.le_refl _, Nat.le_refl _⟩
  have hl : lv_has ls 7 [(0, .ref (h 0)), (1, .int a), (2, .int b)] := hl
  refine lv_aload_n hx hb dX1_detected_0 rfl (lv_at hl 0 rfl) ?_
  refine lv_iload_n hx hb dX1_detected_1 rfl (lv_at hl 1 rfl) ?_
  refine g_readi (ci := 1) (q := (RX1, TX1, 12)) (rest := []) K w (metX1_badPattern l D di h hD C dv nt pt cy aw va a) (cwX1_X1_badPattern hts ⟨Nat.le_trans (by decide) hR.1, Nat.le_trans (by decide) hR.2⟩) rfl rfl rfl hl.1 rfl (Nat.le_of_ble_eq_true rfl) dX1_detected_2 ⟨Nat.zero_le _, Nat.zero_le _⟩ (fun rb hp1 => ?_)
  rcases hp1 with ⟨rfl, hp1⟩ | ⟨rfl, hp1⟩
  · refine n_ifeq1 (tgt := 10) hx hb dX1_detected_5 (by decide) ?_
    refine lv_iconst (v := -1) hx hb dX1_detected_8 (by decide) ?_
    exact W.iret (v := (-1)) hx hb hr (fun t ht hW => ⟨⟨_, (C, dv, nt, pt, cy, aw, va), rfl, ⟨Or.inl ⟨hp1, rfl⟩, ⟨va, rfl⟩⟩, (by show va_P D vwCl _ t.heap; rw [ht]; exact w.1)⟩, w.2.F ht⟩) w.2.2.2 dX1_detected_9
  · obtain ⟨x, hx9, rfl⟩ := hp1
    refine n_ifeq0 (tgt := 10) hx hb dX1_detected_5 (by decide) ?_
    refine lv_aload_n hx hb dX1_detected_10 rfl (lv_at hl 0 rfl) ?_
    refine lv_iload_n hx hb dX1_detected_11 rfl (lv_at hl 2 rfl) ?_
    refine g_readi (ci := 1) (q := (RX1, TX1, 12)) (rest := []) K w (metX1_badCycles l D di h hD C dv nt pt cy aw va b) (cwX1_X1_badCycles hts ⟨Nat.le_trans (by decide) hR.1, Nat.le_trans (by decide) hR.2⟩) rfl rfl rfl hl.1 rfl (Nat.le_of_ble_eq_true rfl) dX1_detected_12 ⟨Nat.zero_le _, Nat.zero_le _⟩ (fun rb hp2 => ?_)
    rcases hp2 with ⟨rfl, hp2⟩ | ⟨rfl, hp2⟩
    · refine n_ifeq1 (tgt := 21) hx hb dX1_detected_15 (by decide) ?_
      refine lv_bipush (v := -2) hx hb dX1_detected_18 (by decide) ?_
      exact W.iret (v := (-2)) hx hb hr (fun t ht hW => ⟨⟨_, (C, dv, nt, pt, cy, aw, va), rfl, ⟨Or.inr (Or.inl ⟨⟨x, hx9, rfl⟩, hp2, rfl⟩), ⟨va, rfl⟩⟩, (by show va_P D vwCl _ t.heap; rw [ht]; exact w.1)⟩, w.2.F ht⟩) w.2.2.2 dX1_detected_20
    · obtain ⟨y, hy1, hy2, rfl⟩ := hp2
      refine n_ifeq0 (tgt := 21) hx hb dX1_detected_15 (by decide) ?_
      refine lv_aload_n hx hb dX1_detected_21 rfl (lv_at hl 0 rfl) ?_
      refine lv_iconst (v := -1) hx hb dX1_detected_22 (by decide) ?_
      refine lv_iload_n hx hb dX1_detected_23 rfl (lv_at hl 1 rfl) ?_
      refine lv_iload_n hx hb dX1_detected_24 rfl (lv_at hl 2 rfl) ?_
      refine g_calli (ci := 1) (q := (RX1, TX1, 12)) (rest := []) K w (metX1_run l D di h hD C dv nt pt cy aw va hC (-1) 63 x y (Or.inl ⟨rfl, rfl⟩) hx9 hy1 hy2) (cwX1_X1_run hts ⟨Nat.le_trans (by decide) hR.1, Nat.le_trans (by decide) hR.2⟩) rfl rfl rfl hl.1 rfl (Nat.le_of_ble_eq_true rfl) dX1_detected_25 ⟨Nat.zero_le _, Nat.zero_le _⟩ (fun ri u H locs hp w => ?_)
      obtain ⟨rfl, va1, rfl⟩ := hp
      refine lv_istore_n (lv' := [(3, .int (nI (ansN C 63 x y))), (0, .ref (h 0)), (1, .int (nI x)), (2, .int (nI y))]) hx hb dX1_detected_28 rfl hl (by decide) rfl (fun ls hl => ?_)
      refine lv_iconst (v := nI 0) hx hb dX1_detected_29 (by decide) ?_
      refine lv_istore (lv' := [(4, .int (nI 0)), (3, .int (nI (ansN C 63 x y))), (0, .ref (h 0)), (1, .int (nI x)), (2, .int (nI y))]) hx hb dX1_detected_30 hl (by decide) rfl (fun ls hl => ?_)
      refine lv_iconst (v := nI 0) hx hb dX1_detected_32 (by decide) ?_
      refine lv_istore (lv' := [(5, .int (nI 0)), (4, .int (nI 0)), (3, .int (nI (ansN C 63 x y))), (0, .ref (h 0)), (1, .int (nI x)), (2, .int (nI y))]) hx hb dX1_detected_33 hl (by decide) rfl (fun ls hl => ?_)
      refine lpX1_detected K hR hC hx9 hy1 hy2 (fun va2 H locs ls w hl => ?_) (2 * (7 + cg C) + 1) 0 va1 0 _ _ ls (by omega) (by omega) rfl w (lv_sub hl [3, 4, 5, 2, 1, 0] rfl)
      refine lv_iload hx hb dX1_detected_71 (lv_at hl 0 rfl) ?_
      exact W.iret (v := (nI (detN C x y))) hx hb hr (fun t ht hW => ⟨⟨_, (C, dv, nt, pt, cy, aw, va2), rfl, ⟨Or.inr (Or.inr ⟨x, y, hx9, hy1, hy2, rfl, rfl, rfl⟩), ⟨va2, rfl⟩⟩, (by show va_P D vwCl _ t.heap; rw [ht]; exact w.1)⟩, w.2.F ht⟩) w.2.2.2 dX1_detected_73
set_option maxHeartbeats 4000000 in
set_option maxRecDepth 100000 in
/-- leader(a) -/
theorem metX1_leader (l : Launch) (D : va_G) (di : ClassId) (h : Nat → Nat) (hD : xD h) (C : Cfg) (dv : Int32) (nt : Nat) (pt cy aw va : Nat → Int32) (hC : CW C) (a : Int32) : Met l yX1_leader (ws_ yX1_leader cX1_leader 2 (some .int)) rmX1_leader (GPc D (tyM di) h [.int a] (wM di h (C, dv, nt, pt, cy, aw, va))) (GQi D h (wM di h) (fun r u => Rlead C a r ∧ MK C dv nt pt cy aw u)) 0 0 (xB h) := by
  refine g_met (own := RX1) rfl (by decide) hD (Nat.le_of_ble_eq_true rfl) ?_
  intro p e s m args below meth c ls K hr hlk w hl
  obtain ⟨hx, hb, hml, hown, hts, hK, -⟩ := id K
  have hR : rmX1_leader.frames ≤ rmX1_leader.frames ∧ rmX1_leader.locals ≤ rmX1_leader.locals := ⟨Nat.le_refl _, Nat.le_refl _⟩
  have hl : lv_has ls 2 [(0, .ref (h 0)), (1, .int a)] := hl
  refine lv_aload_n hx hb dX1_leader_0 rfl (lv_at hl 0 rfl) ?_
  refine lv_iload_n hx hb dX1_leader_1 rfl (lv_at hl 1 rfl) ?_
  refine g_readi (ci := 1) (q := (RX1, TX1, 12)) (rest := []) K w (metX1_badFault l D di h hD C dv nt pt cy aw va hC a) (cwX1_X1_badFault hts ⟨Nat.le_trans (by decide) hR.1, Nat.le_trans (by decide) hR.2⟩) rfl rfl rfl hl.1 rfl (Nat.le_of_ble_eq_true rfl) dX1_leader_2 ⟨Nat.zero_le _, Nat.zero_le _⟩ (fun rb hf1 => ?_)
  rcases hf1 with ⟨rfl, hf1⟩ | ⟨rfl, hf1⟩
  · refine n_ifeq1 (tgt := 12) hx hb dX1_leader_5 (by decide) ?_
    refine lv_iconst (v := -1) hx hb dX1_leader_8 (by decide) ?_
    refine lv_goto (tgt := 17) hx hb dX1_leader_9 (by decide) ?_
    exact W.iret (v := (-1)) hx hb hr (fun t ht hW => ⟨⟨_, (C, dv, nt, pt, cy, aw, va), rfl, ⟨Or.inl ⟨hf1, rfl⟩, ⟨va, rfl⟩⟩, (by show va_P D vwCl _ t.heap; rw [ht]; exact w.1)⟩, w.2.F ht⟩) w.2.2.2 dX1_leader_17
  · obtain ⟨f, hf, rfl⟩ := hf1
    refine n_ifeq0 (tgt := 12) hx hb dX1_leader_5 (by decide) ?_
    refine lv_aload_n hx hb dX1_leader_12 rfl (lv_at hl 0 rfl) ?_
    refine lv_iload_n hx hb dX1_leader_13 rfl (lv_at hl 1 rfl) ?_
    refine g_calli (ci := 1) (q := (RX1, TX1, 12)) (rest := []) K w (metX1_earliest l D di h hD C dv nt pt cy aw va hC f hf) (cwX1_X1_earliest hts ⟨Nat.le_trans (by decide) hR.1, Nat.le_trans (by decide) hR.2⟩) rfl rfl rfl hl.1 rfl (Nat.le_of_ble_eq_true rfl) dX1_leader_14 ⟨Nat.zero_le _, Nat.zero_le _⟩ (fun ri u H locs hp w => ?_)
    obtain ⟨rfl, va1, rfl⟩ := hp
    exact W.iret (v := (nI (ear C f))) hx hb hr (fun t ht hW => ⟨⟨_, (C, dv, nt, pt, cy, aw, va1), rfl, ⟨Or.inr ⟨f, hf, rfl, rfl⟩, ⟨va1, rfl⟩⟩, (by show va_P D vwCl _ t.heap; rw [ht]; exact w.1)⟩, w.2.F ht⟩) w.2.2.2 dX1_leader_17
end
end
section
/-! the plain law: what the two sides answer is the same, and their states stay tied -/
set_option maxRecDepth 100000
/-- circuit, device and notes are such as the calls leave them; what is left are the faults that explain the notes -/
def RF (C : Cfg) (dv : Int32) (nt : Nat) (lf : Int64) (pt cy aw : Nat → Int32) : Prop := CW C ∧ (∃ d, FJ C dv d) ∧ nt ≤ 20 ∧ (∀ i, i < nt → isP (pt i) ∧ isC (cy i)) ∧ ∀ j, j < 64 → lb lf j = exB C nt pt cy aw j
/-- the component's state and the model's, tied -/
def REL (u : XS) (v : MS) : Prop := ∃ (C : Cfg) (dv : Int32) (nt : Nat) (lf : Int64) (pt cy aw : Nat → Int32), XK C dv nt lf u ∧ MK C dv nt pt cy aw v ∧ RF C dv nt lf pt cy aw
theorem RF_0 {C : Cfg} {dv : Int32} {pt cy aw : Nat → Int32} (hC : CW C) (hd : ∃ d, FJ C dv d) : RF C dv 0 (-1) pt cy aw :=
  ⟨hC, hd, by omega, fun i hi => absurd hi (by omega), fun j hj => by rw [lb_m1 j hj]; exact (exB_iff.mpr (fun i hi => absurd hi (by omega))).symm⟩
theorem gate_CW {C : Cfg} {k a b : Int32} (hC : CW C) (ha : isL (cg C) a) (hb : k = nI 5 ∨ isL (cg C) b) (hg : cg C ≠ 14) : CW (gateC C k a b) := by
  have h14 := hC.1
  refine ⟨show cg C + 1 ≤ 14 by omega, fun i hi => ?_, fun j hj => ?_, fun j hj => ?_⟩
  · have hi : i < cg C + 1 := hi
    show (∃ z, z < 7 + i ∧ upd (cf1 C) (cg C) a i = nI z) ∧ ∃ z, z < 7 + i ∧ upd (cf2 C) (cg C) (if k = nI 5 then a else b) i = nI z
    by_cases e : i = cg C
    · subst e
      rw [pk_us, pk_us]
      refine ⟨ha, ?_⟩
      by_cases h5 : k = nI 5
      · rw [if_pos h5]; exact ha
      · rw [if_neg h5]; exact hb.resolve_left h5
    · rw [pk_un e, pk_un e]
      exact hC.2.1 i (by omega)
  · obtain ⟨z, hz, e⟩ := hC.2.2.1 j hj
    exact ⟨z, show z < 7 + (cg C + 1) by omega, e⟩
  · obtain ⟨z, hz, e⟩ := hC.2.2.2 j hj
    exact ⟨z, show z < 7 + (cg C + 1) by omega, e⟩
theorem feed_CW {C : Cfg} {k : Nat} {a : Int32} (hC : CW C) (ha : isL (cg C) a) : CW (feedC C k a) := by
  refine ⟨hC.1, hC.2.1, fun j hj => ?_, hC.2.2.2⟩
  show ∃ z, z < 7 + cg C ∧ upd (cfd C) k a j = nI z
  by_cases e : j = k
  · subst e
    rw [pk_us]
    exact ha
  · rw [pk_un e]
    exact hC.2.2.1 j hj
theorem out_CW {C : Cfg} {k : Nat} {a : Int32} (hC : CW C) (ha : isL (cg C) a) : CW (outC C k a) := by
  refine ⟨hC.1, hC.2.1, hC.2.2.1, fun j hj => ?_⟩
  show ∃ z, z < 7 + cg C ∧ upd (cop C) k a j = nI z
  by_cases e : j = k
  · subst e
    rw [pk_us]
    exact ha
  · rw [pk_un e]
    exact hC.2.2.2 j hj
theorem gate_FJ {C : Cfg} {dv k a b : Int32} (h : ∃ d, FJ C dv d) : ∃ d, FJ (gateC C k a b) dv d := by
  obtain ⟨d, h⟩ := h
  refine ⟨d, ?_⟩
  rcases h with h | ⟨h1, h2⟩
  · exact Or.inl h
  · exact Or.inr ⟨h1, show d < 2 * (7 + (cg C + 1)) by omega⟩
theorem Rgate_det {C : Cfg} {k a b r r' : Int32} {o o' : Bool} (h : Rgate C k a b r o) (h' : Rgate C k a b r' o') : r = r' ∧ o = o' := by
  unfold Rgate at h h'
  rcases h with ⟨p1, rfl, rfl⟩ | ⟨p1, p2, rfl, rfl⟩ | ⟨p1, p2, p3, p4, rfl, rfl⟩ | ⟨p1, p2, p3, p4, rfl, rfl⟩ <;>
  rcases h' with ⟨s1, rfl, rfl⟩ | ⟨s1, s2, rfl, rfl⟩ | ⟨s1, s2, s3, s4, rfl, rfl⟩ | ⟨s1, s2, s3, s4, rfl, rfl⟩ <;>
  first
  | exact ⟨rfl, rfl⟩
  | exact absurd p1 s1
  | exact absurd s1 p1
  | exact absurd p4 s4
  | exact absurd s4 p4
  | (exfalso
     rcases p2 with z | ⟨z1, z2⟩
     · exact z s2
     · rcases s3 with y | y
       · exact z1 y
       · exact z2 y)
  | (exfalso
     rcases s2 with z | ⟨z1, z2⟩
     · exact z p2
     · rcases p3 with y | y
       · exact z1 y
       · exact z2 y)
theorem Rgate_ok {C : Cfg} {k a b r : Int32} (h : Rgate C k a b r true) : isL (cg C) a ∧ (k = nI 5 ∨ isL (cg C) b) ∧ cg C ≠ 14 := by
  unfold Rgate at h
  rcases h with ⟨-, -, z⟩ | ⟨-, -, -, z⟩ | ⟨-, -, -, -, -, z⟩ | ⟨-, h2, h3, h4, -, -⟩
  · cases z
  · cases z
  · cases z
  · exact ⟨h2, h3, h4⟩
theorem Rput_det {C : Cfg} {n : Nat} {v : Nat → Int32} {k a r r' : Int32} {o o' : Option Nat} (hn : n < 1000) (h : Rput C n v k a r o) (h' : Rput C n v k a r' o') : r = r' ∧ o = o' := by
  unfold Rput at h h'
  rcases h with ⟨p1, rfl, rfl⟩ | ⟨p1, p2, rfl, rfl⟩ | ⟨p1, j, hj, ej, rfl, rfl⟩ <;>
  rcases h' with ⟨s1, rfl, rfl⟩ | ⟨s1, s2, rfl, rfl⟩ | ⟨s1, i, hi, ei, rfl, rfl⟩
  · exact ⟨rfl, rfl⟩
  · exact absurd s1 p1
  · exact absurd ⟨i, hi, ei⟩ p1
  · exact absurd p1 s1
  · exact ⟨rfl, rfl⟩
  · exact absurd s1 p2
  · exact absurd ⟨j, hj, ej⟩ s1
  · exact absurd p1 s2
  · have e : j = i := (nI_eq (by omega) (by omega)).mp (ej.symm.trans ei)
    subst e
    exact ⟨rfl, rfl⟩
theorem Rput_ok {C : Cfg} {n j : Nat} {v : Nat → Int32} {k a r : Int32} (h : Rput C n v k a r (some j)) : isL (cg C) a := by
  unfold Rput at h
  rcases h with ⟨-, -, z⟩ | ⟨-, -, -, z⟩ | ⟨h, -⟩
  · cases z
  · cases z
  · exact h
theorem Rinj_det {C : Cfg} {a r r' : Int32} {o o' : Bool} (h : Rinj C a r o) (h' : Rinj C a r' o') : r = r' ∧ o = o' := by
  unfold Rinj at h h'
  rcases h with ⟨p1, p2, rfl, rfl⟩ | ⟨p1, rfl, rfl⟩ <;> rcases h' with ⟨s1, s2, rfl, rfl⟩ | ⟨s1, rfl, rfl⟩
  · exact ⟨rfl, rfl⟩
  · exfalso
    rcases s1 with z | z
    · exact p1 z
    · exact p2 z
  · exfalso
    rcases p1 with z | z
    · exact s1 z
    · exact s2 z
  · exact ⟨rfl, rfl⟩
theorem Rinj_ok {C : Cfg} {a r : Int32} (h : Rinj C a r true) : ∃ d, FJ C a d := by
  unfold Rinj at h
  rcases h with ⟨-, -, -, z⟩ | ⟨h | ⟨j, hj, e⟩, -, -⟩
  · cases z
  · exact ⟨63, Or.inl ⟨h, rfl⟩⟩
  · exact ⟨j, Or.inr ⟨e, hj⟩⟩
theorem p_det {a : Int32} {x y : Nat} (hx : x < 1000) (hy : y < 1000) (e1 : a = nI x) (e2 : a = nI y) : x = y := (nI_eq (by omega) (by omega)).mp (e1.symm.trans e2)
theorem Robs_det {C : Cfg} {nt d : Nat} {a b r r' : Int32} {o o' : Option (Nat × Nat)} (h : Robs C nt d a b r o) (h' : Robs C nt d a b r' o') : r = r' ∧ o = o' := by
  unfold Robs at h h'
  rcases h with ⟨p1, rfl, rfl⟩ | ⟨p1, p2, rfl, rfl⟩ | ⟨p1, p2, p3, rfl, rfl⟩ | ⟨p0, x, y, hx, hy1, hy2, ex, ey, rfl, rfl⟩ <;>
  rcases h' with ⟨s1, rfl, rfl⟩ | ⟨s1, s2, rfl, rfl⟩ | ⟨s1, s2, s3, rfl, rfl⟩ | ⟨s0, x', y', hx', hy1', hy2', ex', ey', rfl, rfl⟩ <;>
  first
  | exact ⟨rfl, rfl⟩
  | exact absurd p1 s1
  | exact absurd s1 p1
  | exact absurd s2 p2
  | exact absurd p2 s2
  | exact absurd p3 s0
  | exact absurd s3 p0
  | exact absurd ⟨x', hx', ex'⟩ p1
  | exact absurd ⟨y', hy1', hy2', ey'⟩ p2
  | exact absurd ⟨x, hx, ex⟩ s1
  | exact absurd ⟨y, hy1, hy2, ey⟩ s2
  | (obtain rfl : x = x' := p_det (by omega) (by omega) ex ex'
     obtain rfl : y = y' := p_det (by omega) (by omega) ey ey'
     exact ⟨rfl, rfl⟩)
theorem Robs_ok {C : Cfg} {nt d x y : Nat} {a b r : Int32} (h : Robs C nt d a b r (some (x, y))) : nt ≠ 20 ∧ x < 128 ∧ 1 ≤ y ∧ y ≤ 4 ∧ a = nI x ∧ b = nI y ∧ r = nI (ansN C d x y) := by
  unfold Robs at h
  rcases h with ⟨-, -, z⟩ | ⟨-, -, -, z⟩ | ⟨-, -, -, -, z⟩ | ⟨h0, x', y', h1, h2, h3, h4, h5, h6, z⟩
  · cases z
  · cases z
  · cases z
  · cases z
    exact ⟨h0, h1, h2, h3, h4, h5, h6⟩
theorem Rask_det {v : Nat → Nat → Nat} {a b r r' : Int32} (h : Rask v a b r) (h' : Rask v a b r') : r = r' := by
  unfold Rask at h h'
  rcases h with ⟨p1, rfl⟩ | ⟨p1, p2, rfl⟩ | ⟨x, y, hx, hy1, hy2, ex, ey, rfl⟩ <;>
  rcases h' with ⟨s1, rfl⟩ | ⟨s1, s2, rfl⟩ | ⟨x', y', hx', hy1', hy2', ex', ey', rfl⟩ <;>
  first
  | rfl
  | exact absurd p1 s1
  | exact absurd s1 p1
  | exact absurd ⟨x', hx', ex'⟩ p1
  | exact absurd ⟨y', hy1', hy2', ey'⟩ p2
  | exact absurd ⟨x, hx, ex⟩ s1
  | exact absurd ⟨y, hy1, hy2, ey⟩ s2
  | (obtain rfl : x = x' := p_det (by omega) (by omega) ex ex'
     obtain rfl : y = y' := p_det (by omega) (by omega) ey ey'
     rfl)
theorem RaskF_det {C : Cfg} {f a b r r' : Int32} (hC : CW C) (h : RaskF C f a b r) (h' : RaskF C f a b r') : r = r' := by
  have hk := kf_le hC
  unfold RaskF at h h'
  rcases h with ⟨p0, rfl⟩ | ⟨p0, p1, rfl⟩ | ⟨p0, p1, p2, rfl⟩ | ⟨j, x, y, hj, ej, hx, hy1, hy2, ex, ey, rfl⟩ <;>
  rcases h' with ⟨s0, rfl⟩ | ⟨s0, s1, rfl⟩ | ⟨s0, s1, s2, rfl⟩ | ⟨j', x', y', hj', ej', hx', hy1', hy2', ex', ey', rfl⟩ <;>
  first
  | rfl
  | exact absurd p0 s0
  | exact absurd s0 p0
  | exact absurd p1 s1
  | exact absurd s1 p1
  | exact absurd ⟨j', hj', ej'⟩ p0
  | exact absurd ⟨x', hx', ex'⟩ p1
  | exact absurd ⟨y', hy1', hy2', ey'⟩ p2
  | exact absurd ⟨j, hj, ej⟩ s0
  | exact absurd ⟨x, hx, ex⟩ s1
  | exact absurd ⟨y, hy1, hy2, ey⟩ s2
  | (obtain rfl : j = j' := p_det (by omega) (by omega) ej ej'
     obtain rfl : x = x' := p_det (by omega) (by omega) ex ex'
     obtain rfl : y = y' := p_det (by omega) (by omega) ey ey'
     rfl)
theorem Rlead_det {C : Cfg} {a r r' : Int32} (hC : CW C) (h : Rlead C a r) (h' : Rlead C a r') : r = r' := by
  have hk := kf_le hC
  unfold Rlead at h h'
  rcases h with ⟨p0, rfl⟩ | ⟨f, hf, ef, rfl⟩ <;> rcases h' with ⟨s0, rfl⟩ | ⟨f', hf', ef', rfl⟩
  · rfl
  · exact absurd ⟨f', hf', ef'⟩ p0
  · exact absurd ⟨f, hf, ef⟩ s0
  · obtain rfl : f = f' := p_det (by omega) (by omega) ef ef'
    rfl
theorem mix_cong {C : Cfg} {p q : Nat → Bool} (h : ∀ j, j < kf C → p j = q j) {x : Nat} (hm : mix C p x) : mix C q x := by
  obtain ⟨i, j, hi, hj, pi, pj, hne⟩ := hm
  exact ⟨i, j, hi, hj, by rw [← h i hi]; exact pi, by rw [← h j hj]; exact pj, hne⟩
theorem Rnext_det {C : Cfg} {p q : Nat → Bool} {r r' : Int32} (h : ∀ j, j < kf C → p j = q j) (h1 : Rnext C p r) (h2 : Rnext C q r') : r = r' := by
  have h9 : ∀ j, j < kf C → q j = p j := fun j hj => (h j hj).symm
  unfold Rnext at h1 h2
  rcases h1 with ⟨x, hx, m1, n1, rfl⟩ | ⟨n1, rfl⟩ <;> rcases h2 with ⟨y, hy, m2, n2, rfl⟩ | ⟨n2, rfl⟩
  · rcases Nat.lt_trichotomy x y with z | z | z
    · exact absurd (mix_cong h m1) (n2 x z)
    · rw [z]
    · exact absurd (mix_cong h9 m2) (n1 y z)
  · exact absurd (mix_cong h m1) (n2 x hx)
  · exact absurd (mix_cong h9 m2) (n1 y hy)
  · rfl
theorem candR_det {p q : Nat → Bool} {K : Nat} {a r r' : Int32} (hK : K ≤ 42) (h : ∀ j, j < K → p j = q j) (h1 : candR p K a r) (h2 : candR q K a r') : r = r' := by
  have hc : ∀ f, f < K → fb_ct p f = fb_ct q f := fun f hf => fb_ct_cong fun k hk => h k (by omega)
  unfold candR at h1 h2
  rcases h1 with ⟨f, hf, pf, ef, rfl⟩ | ⟨n1, rfl⟩ <;> rcases h2 with ⟨g, hg, pg, eg, rfl⟩ | ⟨n2, rfl⟩
  · have b1 := fb_ct_le p f
    have b2 := fb_ct_le q g
    have e : fb_ct p f = fb_ct q g := p_det (by omega) (by omega) ef eg
    rw [hc f hf] at e
    have e2 : f = g := fb_ct_kth_one (p := q) (by rw [← h f hf]; exact pf) pg e
    rw [e2]
  · exact absurd (by rw [ef, hc f hf]) (n2 f hf (by rw [← h f hf]; exact pf))
  · exact absurd (by rw [eg, hc g hg]) (n1 g hg (by rw [h g hg]; exact pg))
  · rfl
theorem grp_cong {C : Cfg} {p q : Nat → Bool} (h : ∀ j, j < kf C → p j = q j) (f : Nat) : grpB C p f = grpB C q f := by
  unfold grpB
  rw [fb_ct_cong (q := fun j => alB C f j && q j) (fun k hk => by show (alB C f k && p k) = (alB C f k && q k); rw [h k hk])]
theorem grp_all {C : Cfg} {f : Nat} (hC : CW C) (hf : f < kf C) : grpB C (lb (-1)) f = decide (ear C f = f) := by
  have hk := kf_le hC
  unfold grpB
  rw [decide_eq_true (fb_ct_pos.mpr ⟨f, hf, by show (alB C f f && lb (-1) f) = true; rw [al_refl, lb_m1 f (by omega)]; rfl⟩), Bool.and_true]
section TIE
variable {C : Cfg} {dv : Int32} {nt : Nat} {lf : Int64} {pt cy aw : Nat → Int32} {u : XS} {v : MS} {k a b r r' : Int32}
theorem RF.left (hF : RF C dv nt lf pt cy aw) : ∀ j, j < kf C → lb lf j = exB C nt pt cy aw j := fun j hj => hF.2.2.2.2 j (by have := kf_le hF.1; omega)
theorem tie_keep (hF : RF C dv nt lf pt cy aw) (h1 : XK C dv nt lf u) (h2 : MK C dv nt pt cy aw v) : REL u v := ⟨C, dv, nt, lf, pt, cy, aw, h1, h2, hF⟩
theorem tie_gate (hF : RF C dv nt lf pt cy aw) (h1 : ∃ ok, Rgate C k a b r ok ∧ (ok = false → XK C dv nt lf u) ∧ (ok = true → XK (gateC C k a b) dv 0 (-1) u)) (h2 : ∃ ok, Rgate C k a b r' ok ∧ (ok = false → MK C dv nt pt cy aw v) ∧ (ok = true → MK (gateC C k a b) dv 0 pt cy aw v)) : r = r' ∧ REL u v := by
  obtain ⟨o1, a1, x0, x1⟩ := h1
  obtain ⟨o2, a2, y0, y1⟩ := h2
  obtain ⟨e1, e2⟩ := Rgate_det a1 a2
  subst e1 e2
  refine ⟨rfl, ?_⟩
  cases o1 with
  | false => exact tie_keep hF (x0 rfl) (y0 rfl)
  | true =>
    obtain ⟨g1, g2, g3⟩ := Rgate_ok a1
    exact tie_keep (RF_0 (gate_CW hF.1 g1 g2 g3) (gate_FJ hF.2.1)) (x1 rfl) (y1 rfl)
theorem tie_feed (hF : RF C dv nt lf pt cy aw) (h1 : ∃ ob, Rput C 3 (cfd C) k a r ob ∧ (ob = none → XK C dv nt lf u) ∧ ∀ j, ob = some j → XK (feedC C j a) dv 0 (-1) u) (h2 : ∃ ob, Rput C 3 (cfd C) k a r' ob ∧ (ob = none → MK C dv nt pt cy aw v) ∧ ∀ j, ob = some j → MK (feedC C j a) dv 0 pt cy aw v) : r = r' ∧ REL u v := by
  obtain ⟨o1, a1, x0, x1⟩ := h1
  obtain ⟨o2, a2, y0, y1⟩ := h2
  obtain ⟨e1, e2⟩ := Rput_det (by decide) a1 a2
  subst e1 e2
  refine ⟨rfl, ?_⟩
  cases o1 with
  | none => exact tie_keep hF (x0 rfl) (y0 rfl)
  | some j => exact tie_keep (RF_0 (feed_CW hF.1 (Rput_ok a1)) hF.2.1) (x1 j rfl) (y1 j rfl)
theorem tie_output (hF : RF C dv nt lf pt cy aw) (h1 : ∃ ob, Rput C 2 (cop C) k a r ob ∧ (ob = none → XK C dv nt lf u) ∧ ∀ j, ob = some j → XK (outC C j a) dv 0 (-1) u) (h2 : ∃ ob, Rput C 2 (cop C) k a r' ob ∧ (ob = none → MK C dv nt pt cy aw v) ∧ ∀ j, ob = some j → MK (outC C j a) dv 0 pt cy aw v) : r = r' ∧ REL u v := by
  obtain ⟨o1, a1, x0, x1⟩ := h1
  obtain ⟨o2, a2, y0, y1⟩ := h2
  obtain ⟨e1, e2⟩ := Rput_det (by decide) a1 a2
  subst e1 e2
  refine ⟨rfl, ?_⟩
  cases o1 with
  | none => exact tie_keep hF (x0 rfl) (y0 rfl)
  | some j => exact tie_keep (RF_0 (out_CW hF.1 (Rput_ok a1)) hF.2.1) (x1 j rfl) (y1 j rfl)
theorem tie_inject (hF : RF C dv nt lf pt cy aw) (h1 : ∃ ok, Rinj C a r ok ∧ (ok = false → XK C dv nt lf u) ∧ (ok = true → XK C a 0 (-1) u)) (h2 : ∃ ok, Rinj C a r' ok ∧ (ok = false → MK C dv nt pt cy aw v) ∧ (ok = true → MK C a 0 pt cy aw v)) : r = r' ∧ REL u v := by
  obtain ⟨o1, a1, x0, x1⟩ := h1
  obtain ⟨o2, a2, y0, y1⟩ := h2
  obtain ⟨e1, e2⟩ := Rinj_det a1 a2
  subst e1 e2
  refine ⟨rfl, ?_⟩
  cases o1 with
  | false => exact tie_keep hF (x0 rfl) (y0 rfl)
  | true => exact tie_keep (RF_0 hF.1 (Rinj_ok a1)) (x1 rfl) (y1 rfl)
theorem tie_observe {d : Nat} (hF : RF C dv nt lf pt cy aw) (h1 : ∃ ob, Robs C nt d a b r ob ∧ (ob = none → XK C dv nt lf u) ∧ ∀ x y, ob = some (x, y) → ∃ lf1, (∀ j, j < 64 → lb lf1 j = (lb lf j && decide (ansN C j x y = ansN C d x y))) ∧ XK C dv (nt + 1) lf1 u)
    (h2 : ∃ ob, Robs C nt d a b r' ob ∧ (ob = none → MK C dv nt pt cy aw v) ∧ ∀ x y, ob = some (x, y) → MK C dv (nt + 1) (upd pt nt a) (upd cy nt b) (upd aw nt r') v) : r = r' ∧ REL u v := by
  obtain ⟨o1, a1, x0, x1⟩ := h1
  obtain ⟨o2, a2, y0, y1⟩ := h2
  obtain ⟨e1, e2⟩ := Robs_det a1 a2
  subst e1 e2
  refine ⟨rfl, ?_⟩
  match o1, a1, x0, x1, y0, y1 with
  | none, _, x0, _, y0, _ => exact tie_keep hF (x0 rfl) (y0 rfl)
  | some (x, y), a1, _, x1, _, y1 =>
    obtain ⟨lf1, hl, hX⟩ := x1 x y rfl
    obtain ⟨g0, g1, g2, g3, ea, eb, er⟩ := Robs_ok a1
    obtain ⟨hC, hd, hn, hN, hE⟩ := hF
    refine tie_keep ⟨hC, hd, by omega, fun i hi => ?_, fun j hj => ?_⟩ hX (y1 x y rfl)
    · by_cases e : i = nt
      · subst e
        rw [pk_us, pk_us]
        exact ⟨⟨x, g1, ea⟩, ⟨y, g2, g3, eb⟩⟩
      · rw [pk_un e, pk_un e]
        exact hN i (by omega)
    · rw [hl j hj, hE j hj, Bool.eq_iff_iff, Bool.and_eq_true, exB_iff, exB_iff, decide_eq_true_iff]
      have hnew : nI (ansN C j (cN (upd pt nt a nt)) (cN (upd cy nt b nt))) = upd aw nt r nt ↔ ansN C j x y = ansN C d x y := by
        rw [pk_us, pk_us, pk_us, ea, eb, er, cN_nI (by omega), cN_nI (by omega)]
        exact nI_small (ansN_lt C j x y) (ansN_lt C d x y)
      constructor
      · rintro ⟨z1, z2⟩ i hi
        by_cases e : i = nt
        · subst e
          exact hnew.mpr z2
        · rw [pk_un e, pk_un e, pk_un e]
          exact z1 i (by omega)
      · intro z
        refine ⟨fun i hi => ?_, hnew.mp (z nt (by omega))⟩
        have z1 := z i (by omega)
        have e : i ≠ nt := by omega
        rw [pk_un e, pk_un e, pk_un e] at z1
        exact z1
theorem eq_candidates (hF : RF C dv nt lf pt cy aw) (h1 : r = nI (fb_ct (lb lf) (2 * (7 + cg C)))) (h2 : r' = nI (fb_ct (exB C nt pt cy aw) (kf C))) : r = r' := by
  rw [h1, h2, fb_ct_cong hF.left]
theorem eq_candidate (hF : RF C dv nt lf pt cy aw) (h1 : candR (lb lf) (2 * (7 + cg C)) a r) (h2 : candR (exB C nt pt cy aw) (kf C) a r') : r = r' := candR_det (kf_le hF.1) hF.left h1 h2
theorem eq_healthy (hF : RF C dv nt lf pt cy aw) (h1 : r = nI (lb lf 63).toNat) (h2 : r' = nI (exB C nt pt cy aw 63).toNat) : r = r' := by
  rw [h1, h2, hF.2.2.2.2 63 (by decide)]
theorem eq_next (hF : RF C dv nt lf pt cy aw) (h1 : Rnext C (lb lf) r) (h2 : Rnext C (exB C nt pt cy aw) r') : r = r' := Rnext_det hF.left h1 h2
theorem eq_hidden (h1 : r = nI (fb_ct (fun j => alB C 63 j) (kf C))) (h2 : r' = nI (fb_ct (fun f => alB C f 63) (kf C))) : r = r' := by
  rw [h1, h2]
  congr 1
  exact fb_ct_cong fun k hk => al_symm C 63 k
theorem eq_groups (hF : RF C dv nt lf pt cy aw) (h1 : r = nI (fb_ct (grpB C (lb (-1))) (kf C))) (h2 : r' = nI (fb_ct (fun f => decide (ear C f = f)) (kf C))) : r = r' := by
  rw [h1, h2]
  congr 1
  exact fb_ct_cong fun f hf => grp_all hF.1 hf
theorem eq_cgroups (hF : RF C dv nt lf pt cy aw) (h1 : r = nI (fb_ct (grpB C (lb lf)) (kf C))) (h2 : r' = nI (fb_ct (grpB C (exB C nt pt cy aw)) (kf C))) : r = r' := by
  rw [h1, h2]
  congr 1
  exact fb_ct_cong fun f _ => grp_cong hF.left f
end TIE
/-- both sides as their constructors leave them -/
def fd0 : Nat → Int32 := upd (upd (upd (fun _ => 0) 0 (nI 4)) 1 (nI 5)) 2 (nI 6)
def C0 : Cfg := (0, fun _ => 0, fun _ => 0, fun _ => 0, fd0, fun _ => 0)
theorem C0_CW : CW C0 := by
  refine ⟨by decide, fun i hi => absurd hi (show ¬ i < 0 by omega), fun k hk => ?_, fun k hk => ⟨0, by decide, rfl⟩⟩
  rcases (show k = 0 ∨ k = 1 ∨ k = 2 by omega) with rfl | rfl | rfl
  · exact ⟨4, by decide, rfl⟩
  · exact ⟨5, by decide, rfl⟩
  · exact ⟨6, by decide, rfl⟩
theorem REL_0 : REL (C0, -1, 0, -1, 0, 0, fun _ => 0, fun _ => 0, fun _ => 0, fun _ => 0) (C0, -1, 0, fun _ => 0, fun _ => 0, fun _ => 0, fun _ => 0) :=
  ⟨C0, -1, 0, -1, fun _ => 0, fun _ => 0, fun _ => 0, ⟨0, 0, fun _ => 0, fun _ => 0, fun _ => 0, fun _ => 0, rfl, Or.inl rfl⟩, ⟨fun _ => 0, rfl⟩, RF_0 C0_CW ⟨63, Or.inl ⟨rfl, rfl⟩⟩⟩
end
section
/-! the constructors -/
set_option maxRecDepth 100000
theorem ra_i {U : State} {c1 c2 : ClassId} (h1 : va_RA U c1 .int) (h2 : va_RA U c2 .int) : c1 = c2 := by
  have e1 : U.vm.findClass ("[" ++ (FieldType.int).toString) = some c1 := h1
  have e2 : U.vm.findClass ("[" ++ (FieldType.int).toString) = some c2 := h2
  exact Option.some.inj (e1.symm.trans e2)
theorem ra_l {U : State} {c1 c2 : ClassId} (h1 : va_RA U c1 .long) (h2 : va_RA U c2 .long) : c1 = c2 := by
  have e1 : U.vm.findClass ("[" ++ (FieldType.long).toString) = some c1 := h1
  have e2 : U.vm.findClass ("[" ++ (FieldType.long).toString) = some c2 := h2
  exact Option.some.inj (e1.symm.trans e2)
/-- ten addresses -/
def hv (a0 a1 a2 a3 a4 a5 a6 a7 a8 a9 : Nat) : Nat → Nat := fun k => match k with
  | 0 => a0
  | 1 => a1
  | 2 => a2
  | 3 => a3
  | 4 => a4
  | 5 => a5
  | 6 => a6
  | 7 => a7
  | 8 => a8
  | _ => a9
theorem x_of {A : Nat → Prop} {h : Nat → Nat} {w : va_W} (hw : w.map Prod.fst = (List.range 10).map h) (hD : va_D A w) : xD h ∧ ∀ q, xB h q → A q := by
  have key : ∀ k, k < 10 → ∃ e : va_E, w[k]? = some (h k, e) := by
    intro k hk
    have h1 : (w.map Prod.fst)[k]? = some (h k) := by rw [hw, List.getElem?_map, List.getElem?_range hk]; rfl
    rw [List.getElem?_map] at h1
    cases hq : w[k]? with
    | none => rw [hq] at h1; cases h1
    | some q =>
      rw [hq] at h1
      obtain ⟨a, e⟩ := q
      have h2 : a = h k := Option.some.inj h1
      exact ⟨e, by rw [h2]⟩
  refine ⟨fun i j hi hj e => ?_, fun q hq => ?_⟩
  · obtain ⟨e1, h1⟩ := key i hi
    obtain ⟨e2, h2⟩ := key j hj
    exact hD.1 i j _ _ h1 h2 e
  · obtain ⟨k, hk, rfl⟩ := hq
    obtain ⟨e1, h1⟩ := key k hk
    exact hD.2 k _ h1
abbrev rmX0_init : Room := { frames := 1, cells := 9, slots := 118, locals := 20 }
abbrev cellX0_init (h0 : Nat) : va_W := [(h0, .inr (0, [.null, .null, .null, .null, .null, .null, .null, .null, .null, .int 0, .int 0, .int 0, .long 0, .long 0, .int 0]))]
def BX0_init (D : va_G) (h0 : Nat) (A : Nat → Prop) (_ : Unit) (t : State) : Prop := ∃ (di dj : ClassId) (h : Nat → Nat), h 0 = h0 ∧ xD h ∧ (∀ q, xB h q → A q) ∧ va_P D vwCl (wX di dj h (C0, -1, 0, -1, 0, 0, fun _ => 0, fun _ => 0, fun _ => 0, fun _ => 0)) t.heap ∧ va_K D vwCl (tyX di dj) t
set_option maxHeartbeats 4000000 in
set_option maxRecDepth 100000 in
/-- ScanDiagnose() -/
theorem metX0_init (l : Launch) (D : va_G) (h0 sz : Nat) : Met l yX0_init (ws_ yX0_init cX0_init 2 none) rmX0_init (va_Pc [.ref h0] (fun U => U.heap.size = sz ∧ va_P D vwCl (cellX0_init h0) U.heap ∧ va_K D vwCl [] U ∧ va_D (fun _ => True) (cellX0_init h0))) (va_Qv (fun _ : Unit => True) (BX0_init D h0 (va_A (cellX0_init h0) sz)) (va_A (cellX0_init h0) sz)) 9 118 (va_A (cellX0_init h0) sz) := by
  refine Met.ofW (cc := cX0_init) (maxL := 2) (ret := none) (by decide) rfl ?_
  intro p e s m args below meth c s₁ B hml hv9
  obtain ⟨rfl, hsz, hP, hK, hD0⟩ := hv9
  have hx := B.exec
  have hb := B.bytes
  have hr := B.returns
  have hts := atoms_spec (ws := ws_ yX0_init cX0_init 2 none) B.pre
  have hts : ∀ w ∈ lw_all, w.before _ s = true := fun w h => hts w (List.mem_cons_of_mem _ h)
  have hown : s.vm.findClass RX0 = some m.cls := findClass_of_methodNamed B.named
  have hlocks := B.notSynchronized
  have hin : meth.name = "<init>" := (name_of_methodNamed B.named B.method).1
  subst hsz
  have hD := hD0.self (sz := s.heap.size)
  generalize hAe : va_A (cellX0_init h0) s.heap.size = A at hD ⊢
  have hA : ∀ q : Nat, s.heap.size ≤ q → A q := fun q h => by rw [← hAe]; exact Or.inr h
  have hS : va_S A s.heap s.heap [] := va_S.rf
  have hl := lv_entry ([.ref h0]) (n := 2) (Nat.le_of_ble_eq_true rfl)
  rw [lg_entry_eq]
  generalize (lg_sl ([.ref h0]) ++ List.replicate (2 - (lg_sl ([.ref h0])).length) Slot.unset).toArray = ls at hl ⊢
  have hl : lv_has ls 2 [(0, .ref h0)] := hl
  refine lv_aload_n hx hb dX0_init_0 rfl (lv_at hl 0 rfl) ?_
  refine W.objInit hx hb hown (hts _ q30) (hts _ q31) (hts _ q32) rfl (by rw [hml]; exact hl.1) rfl dX0_init_1 (Nat.le_of_ble_eq_true rfl) (Nat.le_of_ble_eq_true rfl) ?_
  refine W.eq (g2 := F0 m 4 ls []) rfl ?_
  refine lv_aload_n hx hb dX0_init_4 rfl (lv_at hl 0 rfl) ?_
  refine lv_bipush (v := nI 14) hx hb dX0_init_5 (by decide) ?_
  refine va_newa (atype := .int) (N' := 14) (a0 := (14, .inl (fun _ => 0))) (ty := .int) hx hb (hts _ q84) rfl hK hP hD hS hA (fun _ => rfl) (by decide) (nI_clamp (by decide)) (by decide) (Nat.le_of_ble_eq_true rfl) (Nat.le_of_ble_eq_true rfl) dX0_init_7 (fun a1 c1 H hK hP hD hS => ?_)
  have hP : va_P D vwCl [(h0, .inr (0, [.null, .null, .null, .null, .null, .null, .null, .null, .null, .int 0, .int 0, .int 0, .long 0, .long 0, .int 0])), (a1, .inl (c1, 14, .inl (fun _ => 0)))] H := hP
  have hD : va_D A [(h0, .inr (0, [.null, .null, .null, .null, .null, .null, .null, .null, .null, .int 0, .int 0, .int 0, .long 0, .long 0, .int 0])), (a1, .inl (c1, 14, .inl (fun _ => 0)))] := hD
  refine W.widen (k := 1) (n := 14) (Nat.le_of_ble_eq_true rfl) (Nat.le_of_ble_eq_true rfl) ?_
  refine va_putF (D := D) (ci := 0) (v := .ref a1) (ty := .array .int) (C := RX0) (T := TX0) (N := 15) hx hb hts in_X0 tyX0 tyX0_ok nmX0 hown hK hP hD hS 0 rfl rfl 0 (by decide) (hts _ q38) (fun _ h9 => h9) rfl hin rfl (by decide +kernel) rfl rfl (Nat.le_of_ble_eq_true rfl) dX0_init_9 (fun H locs hP hD hS => ?_)
  have hP : va_P D vwCl [(h0, .inr (0, [.ref a1, .null, .null, .null, .null, .null, .null, .null, .null, .int 0, .int 0, .int 0, .long 0, .long 0, .int 0])), (a1, .inl (c1, 14, .inl (fun _ => 0)))] H := hP
  have hD : va_D A [(h0, .inr (0, [.ref a1, .null, .null, .null, .null, .null, .null, .null, .null, .int 0, .int 0, .int 0, .long 0, .long 0, .int 0])), (a1, .inl (c1, 14, .inl (fun _ => 0)))] := hD
  refine lv_aload_n hx hb dX0_init_12 rfl (lv_at hl 0 rfl) ?_
  refine lv_bipush (v := nI 14) hx hb dX0_init_13 (by decide) ?_
  refine va_newa (atype := .int) (N' := 14) (a0 := (14, .inl (fun _ => 0))) (ty := .int) hx hb (hts _ q84) rfl hK hP hD hS hA (fun _ => rfl) (by decide) (nI_clamp (by decide)) (by decide) (Nat.le_of_ble_eq_true rfl) (Nat.le_of_ble_eq_true rfl) dX0_init_15 (fun a2 c2 H hK hP hD hS => ?_)
  have hP : va_P D vwCl [(h0, .inr (0, [.ref a1, .null, .null, .null, .null, .null, .null, .null, .null, .int 0, .int 0, .int 0, .long 0, .long 0, .int 0])), (a1, .inl (c1, 14, .inl (fun _ => 0))), (a2, .inl (c2, 14, .inl (fun _ => 0)))] H := hP
  have hD : va_D A [(h0, .inr (0, [.ref a1, .null, .null, .null, .null, .null, .null, .null, .null, .int 0, .int 0, .int 0, .long 0, .long 0, .int 0])), (a1, .inl (c1, 14, .inl (fun _ => 0))), (a2, .inl (c2, 14, .inl (fun _ => 0)))] := hD
  refine W.widen (k := 2) (n := 28) (Nat.le_of_ble_eq_true rfl) (Nat.le_of_ble_eq_true rfl) ?_
  refine va_putF (D := D) (ci := 0) (v := .ref a2) (ty := .array .int) (C := RX0) (T := TX0) (N := 15) hx hb hts in_X0 tyX0 tyX0_ok nmX0 hown hK hP hD hS 0 rfl rfl 1 (by decide) (hts _ q39) (fun _ h9 => h9) rfl hin rfl (by decide +kernel) rfl rfl (Nat.le_of_ble_eq_true rfl) dX0_init_17 (fun H locs hP hD hS => ?_)
  have hP : va_P D vwCl [(h0, .inr (0, [.ref a1, .ref a2, .null, .null, .null, .null, .null, .null, .null, .int 0, .int 0, .int 0, .long 0, .long 0, .int 0])), (a1, .inl (c1, 14, .inl (fun _ => 0))), (a2, .inl (c2, 14, .inl (fun _ => 0)))] H := hP
  have hD : va_D A [(h0, .inr (0, [.ref a1, .ref a2, .null, .null, .null, .null, .null, .null, .null, .int 0, .int 0, .int 0, .long 0, .long 0, .int 0])), (a1, .inl (c1, 14, .inl (fun _ => 0))), (a2, .inl (c2, 14, .inl (fun _ => 0)))] := hD
  refine lv_aload_n hx hb dX0_init_20 rfl (lv_at hl 0 rfl) ?_
  refine lv_bipush (v := nI 14) hx hb dX0_init_21 (by decide) ?_
  refine va_newa (atype := .int) (N' := 14) (a0 := (14, .inl (fun _ => 0))) (ty := .int) hx hb (hts _ q84) rfl hK hP hD hS hA (fun _ => rfl) (by decide) (nI_clamp (by decide)) (by decide) (Nat.le_of_ble_eq_true rfl) (Nat.le_of_ble_eq_true rfl) dX0_init_23 (fun a3 c3 H hK hP hD hS => ?_)
  have hP : va_P D vwCl [(h0, .inr (0, [.ref a1, .ref a2, .null, .null, .null, .null, .null, .null, .null, .int 0, .int 0, .int 0, .long 0, .long 0, .int 0])), (a1, .inl (c1, 14, .inl (fun _ => 0))), (a2, .inl (c2, 14, .inl (fun _ => 0))), (a3, .inl (c3, 14, .inl (fun _ => 0)))] H := hP
  have hD : va_D A [(h0, .inr (0, [.ref a1, .ref a2, .null, .null, .null, .null, .null, .null, .null, .int 0, .int 0, .int 0, .long 0, .long 0, .int 0])), (a1, .inl (c1, 14, .inl (fun _ => 0))), (a2, .inl (c2, 14, .inl (fun _ => 0))), (a3, .inl (c3, 14, .inl (fun _ => 0)))] := hD
  refine W.widen (k := 3) (n := 42) (Nat.le_of_ble_eq_true rfl) (Nat.le_of_ble_eq_true rfl) ?_
  refine va_putF (D := D) (ci := 0) (v := .ref a3) (ty := .array .int) (C := RX0) (T := TX0) (N := 15) hx hb hts in_X0 tyX0 tyX0_ok nmX0 hown hK hP hD hS 0 rfl rfl 2 (by decide) (hts _ q40) (fun _ h9 => h9) rfl hin rfl (by decide +kernel) rfl rfl (Nat.le_of_ble_eq_true rfl) dX0_init_25 (fun H locs hP hD hS => ?_)
  have hP : va_P D vwCl [(h0, .inr (0, [.ref a1, .ref a2, .ref a3, .null, .null, .null, .null, .null, .null, .int 0, .int 0, .int 0, .long 0, .long 0, .int 0])), (a1, .inl (c1, 14, .inl (fun _ => 0))), (a2, .inl (c2, 14, .inl (fun _ => 0))), (a3, .inl (c3, 14, .inl (fun _ => 0)))] H := hP
  have hD : va_D A [(h0, .inr (0, [.ref a1, .ref a2, .ref a3, .null, .null, .null, .null, .null, .null, .int 0, .int 0, .int 0, .long 0, .long 0, .int 0])), (a1, .inl (c1, 14, .inl (fun _ => 0))), (a2, .inl (c2, 14, .inl (fun _ => 0))), (a3, .inl (c3, 14, .inl (fun _ => 0)))] := hD
  refine lv_aload_n hx hb dX0_init_28 rfl (lv_at hl 0 rfl) ?_
  refine lv_iconst (v := nI 3) hx hb dX0_init_29 (by decide) ?_
  refine va_newa (atype := .int) (N' := 3) (a0 := (3, .inl (fun _ => 0))) (ty := .int) hx hb (hts _ q84) rfl hK hP hD hS hA (fun _ => rfl) (by decide) (nI_clamp (by decide)) (by decide) (Nat.le_of_ble_eq_true rfl) (Nat.le_of_ble_eq_true rfl) dX0_init_30 (fun a4 c4 H hK hP hD hS => ?_)
  have hP : va_P D vwCl [(h0, .inr (0, [.ref a1, .ref a2, .ref a3, .null, .null, .null, .null, .null, .null, .int 0, .int 0, .int 0, .long 0, .long 0, .int 0])), (a1, .inl (c1, 14, .inl (fun _ => 0))), (a2, .inl (c2, 14, .inl (fun _ => 0))), (a3, .inl (c3, 14, .inl (fun _ => 0))), (a4, .inl (c4, 3, .inl (fun _ => 0)))] H := hP
  have hD : va_D A [(h0, .inr (0, [.ref a1, .ref a2, .ref a3, .null, .null, .null, .null, .null, .null, .int 0, .int 0, .int 0, .long 0, .long 0, .int 0])), (a1, .inl (c1, 14, .inl (fun _ => 0))), (a2, .inl (c2, 14, .inl (fun _ => 0))), (a3, .inl (c3, 14, .inl (fun _ => 0))), (a4, .inl (c4, 3, .inl (fun _ => 0)))] := hD
  refine W.widen (k := 4) (n := 45) (Nat.le_of_ble_eq_true rfl) (Nat.le_of_ble_eq_true rfl) ?_
  refine va_putF (D := D) (ci := 0) (v := .ref a4) (ty := .array .int) (C := RX0) (T := TX0) (N := 15) hx hb hts in_X0 tyX0 tyX0_ok nmX0 hown hK hP hD hS 0 rfl rfl 3 (by decide) (hts _ q41) (fun _ h9 => h9) rfl hin rfl (by decide +kernel) rfl rfl (Nat.le_of_ble_eq_true rfl) dX0_init_32 (fun H locs hP hD hS => ?_)
  have hP : va_P D vwCl [(h0, .inr (0, [.ref a1, .ref a2, .ref a3, .ref a4, .null, .null, .null, .null, .null, .int 0, .int 0, .int 0, .long 0, .long 0, .int 0])), (a1, .inl (c1, 14, .inl (fun _ => 0))), (a2, .inl (c2, 14, .inl (fun _ => 0))), (a3, .inl (c3, 14, .inl (fun _ => 0))), (a4, .inl (c4, 3, .inl (fun _ => 0)))] H := hP
  have hD : va_D A [(h0, .inr (0, [.ref a1, .ref a2, .ref a3, .ref a4, .null, .null, .null, .null, .null, .int 0, .int 0, .int 0, .long 0, .long 0, .int 0])), (a1, .inl (c1, 14, .inl (fun _ => 0))), (a2, .inl (c2, 14, .inl (fun _ => 0))), (a3, .inl (c3, 14, .inl (fun _ => 0))), (a4, .inl (c4, 3, .inl (fun _ => 0)))] := hD
  refine lv_aload_n hx hb dX0_init_35 rfl (lv_at hl 0 rfl) ?_
  refine lv_iconst (v := nI 2) hx hb dX0_init_36 (by decide) ?_
  refine va_newa (atype := .int) (N' := 2) (a0 := (2, .inl (fun _ => 0))) (ty := .int) hx hb (hts _ q84) rfl hK hP hD hS hA (fun _ => rfl) (by decide) (nI_clamp (by decide)) (by decide) (Nat.le_of_ble_eq_true rfl) (Nat.le_of_ble_eq_true rfl) dX0_init_37 (fun a5 c5 H hK hP hD hS => ?_)
  have hP : va_P D vwCl [(h0, .inr (0, [.ref a1, .ref a2, .ref a3, .ref a4, .null, .null, .null, .null, .null, .int 0, .int 0, .int 0, .long 0, .long 0, .int 0])), (a1, .inl (c1, 14, .inl (fun _ => 0))), (a2, .inl (c2, 14, .inl (fun _ => 0))), (a3, .inl (c3, 14, .inl (fun _ => 0))), (a4, .inl (c4, 3, .inl (fun _ => 0))), (a5, .inl (c5, 2, .inl (fun _ => 0)))] H := hP
  have hD : va_D A [(h0, .inr (0, [.ref a1, .ref a2, .ref a3, .ref a4, .null, .null, .null, .null, .null, .int 0, .int 0, .int 0, .long 0, .long 0, .int 0])), (a1, .inl (c1, 14, .inl (fun _ => 0))), (a2, .inl (c2, 14, .inl (fun _ => 0))), (a3, .inl (c3, 14, .inl (fun _ => 0))), (a4, .inl (c4, 3, .inl (fun _ => 0))), (a5, .inl (c5, 2, .inl (fun _ => 0)))] := hD
  refine W.widen (k := 5) (n := 47) (Nat.le_of_ble_eq_true rfl) (Nat.le_of_ble_eq_true rfl) ?_
  refine va_putF (D := D) (ci := 0) (v := .ref a5) (ty := .array .int) (C := RX0) (T := TX0) (N := 15) hx hb hts in_X0 tyX0 tyX0_ok nmX0 hown hK hP hD hS 0 rfl rfl 4 (by decide) (hts _ q42) (fun _ h9 => h9) rfl hin rfl (by decide +kernel) rfl rfl (Nat.le_of_ble_eq_true rfl) dX0_init_39 (fun H locs hP hD hS => ?_)
  have hP : va_P D vwCl [(h0, .inr (0, [.ref a1, .ref a2, .ref a3, .ref a4, .ref a5, .null, .null, .null, .null, .int 0, .int 0, .int 0, .long 0, .long 0, .int 0])), (a1, .inl (c1, 14, .inl (fun _ => 0))), (a2, .inl (c2, 14, .inl (fun _ => 0))), (a3, .inl (c3, 14, .inl (fun _ => 0))), (a4, .inl (c4, 3, .inl (fun _ => 0))), (a5, .inl (c5, 2, .inl (fun _ => 0)))] H := hP
  have hD : va_D A [(h0, .inr (0, [.ref a1, .ref a2, .ref a3, .ref a4, .ref a5, .null, .null, .null, .null, .int 0, .int 0, .int 0, .long 0, .long 0, .int 0])), (a1, .inl (c1, 14, .inl (fun _ => 0))), (a2, .inl (c2, 14, .inl (fun _ => 0))), (a3, .inl (c3, 14, .inl (fun _ => 0))), (a4, .inl (c4, 3, .inl (fun _ => 0))), (a5, .inl (c5, 2, .inl (fun _ => 0)))] := hD
  refine lv_aload_n hx hb dX0_init_42 rfl (lv_at hl 0 rfl) ?_
  refine lv_bipush (v := nI 21) hx hb dX0_init_43 (by decide) ?_
  refine va_newa (atype := .long) (N' := 21) (a0 := (21, .inr (.inl (fun _ => 0)))) (ty := .long) hx hb (hts _ q85) rfl hK hP hD hS hA (fun _ => rfl) (by decide) (nI_clamp (by decide)) (by decide) (Nat.le_of_ble_eq_true rfl) (Nat.le_of_ble_eq_true rfl) dX0_init_45 (fun a6 c6 H hK hP hD hS => ?_)
  have hP : va_P D vwCl [(h0, .inr (0, [.ref a1, .ref a2, .ref a3, .ref a4, .ref a5, .null, .null, .null, .null, .int 0, .int 0, .int 0, .long 0, .long 0, .int 0])), (a1, .inl (c1, 14, .inl (fun _ => 0))), (a2, .inl (c2, 14, .inl (fun _ => 0))), (a3, .inl (c3, 14, .inl (fun _ => 0))), (a4, .inl (c4, 3, .inl (fun _ => 0))), (a5, .inl (c5, 2, .inl (fun _ => 0))), (a6, .inl (c6, 21, .inr (.inl (fun _ => 0))))] H := hP
  have hD : va_D A [(h0, .inr (0, [.ref a1, .ref a2, .ref a3, .ref a4, .ref a5, .null, .null, .null, .null, .int 0, .int 0, .int 0, .long 0, .long 0, .int 0])), (a1, .inl (c1, 14, .inl (fun _ => 0))), (a2, .inl (c2, 14, .inl (fun _ => 0))), (a3, .inl (c3, 14, .inl (fun _ => 0))), (a4, .inl (c4, 3, .inl (fun _ => 0))), (a5, .inl (c5, 2, .inl (fun _ => 0))), (a6, .inl (c6, 21, .inr (.inl (fun _ => 0))))] := hD
  refine W.widen (k := 6) (n := 68) (Nat.le_of_ble_eq_true rfl) (Nat.le_of_ble_eq_true rfl) ?_
  refine va_putF (D := D) (ci := 0) (v := .ref a6) (ty := .array .long) (C := RX0) (T := TX0) (N := 15) hx hb hts in_X0 tyX0 tyX0_ok nmX0 hown hK hP hD hS 0 rfl rfl 5 (by decide) (hts _ q43) (fun _ h9 => h9) rfl hin rfl (by decide +kernel) rfl rfl (Nat.le_of_ble_eq_true rfl) dX0_init_47 (fun H locs hP hD hS => ?_)
  have hP : va_P D vwCl [(h0, .inr (0, [.ref a1, .ref a2, .ref a3, .ref a4, .ref a5, .ref a6, .null, .null, .null, .int 0, .int 0, .int 0, .long 0, .long 0, .int 0])), (a1, .inl (c1, 14, .inl (fun _ => 0))), (a2, .inl (c2, 14, .inl (fun _ => 0))), (a3, .inl (c3, 14, .inl (fun _ => 0))), (a4, .inl (c4, 3, .inl (fun _ => 0))), (a5, .inl (c5, 2, .inl (fun _ => 0))), (a6, .inl (c6, 21, .inr (.inl (fun _ => 0))))] H := hP
  have hD : va_D A [(h0, .inr (0, [.ref a1, .ref a2, .ref a3, .ref a4, .ref a5, .ref a6, .null, .null, .null, .int 0, .int 0, .int 0, .long 0, .long 0, .int 0])), (a1, .inl (c1, 14, .inl (fun _ => 0))), (a2, .inl (c2, 14, .inl (fun _ => 0))), (a3, .inl (c3, 14, .inl (fun _ => 0))), (a4, .inl (c4, 3, .inl (fun _ => 0))), (a5, .inl (c5, 2, .inl (fun _ => 0))), (a6, .inl (c6, 21, .inr (.inl (fun _ => 0))))] := hD
  refine lv_aload_n hx hb dX0_init_50 rfl (lv_at hl 0 rfl) ?_
  refine lv_iconst (v := nI 3) hx hb dX0_init_51 (by decide) ?_
  refine va_newa (atype := .long) (N' := 3) (a0 := (3, .inr (.inl (fun _ => 0)))) (ty := .long) hx hb (hts _ q85) rfl hK hP hD hS hA (fun _ => rfl) (by decide) (nI_clamp (by decide)) (by decide) (Nat.le_of_ble_eq_true rfl) (Nat.le_of_ble_eq_true rfl) dX0_init_52 (fun a7 c7 H hK hP hD hS => ?_)
  have hP : va_P D vwCl [(h0, .inr (0, [.ref a1, .ref a2, .ref a3, .ref a4, .ref a5, .ref a6, .null, .null, .null, .int 0, .int 0, .int 0, .long 0, .long 0, .int 0])), (a1, .inl (c1, 14, .inl (fun _ => 0))), (a2, .inl (c2, 14, .inl (fun _ => 0))), (a3, .inl (c3, 14, .inl (fun _ => 0))), (a4, .inl (c4, 3, .inl (fun _ => 0))), (a5, .inl (c5, 2, .inl (fun _ => 0))), (a6, .inl (c6, 21, .inr (.inl (fun _ => 0)))), (a7, .inl (c7, 3, .inr (.inl (fun _ => 0))))] H := hP
  have hD : va_D A [(h0, .inr (0, [.ref a1, .ref a2, .ref a3, .ref a4, .ref a5, .ref a6, .null, .null, .null, .int 0, .int 0, .int 0, .long 0, .long 0, .int 0])), (a1, .inl (c1, 14, .inl (fun _ => 0))), (a2, .inl (c2, 14, .inl (fun _ => 0))), (a3, .inl (c3, 14, .inl (fun _ => 0))), (a4, .inl (c4, 3, .inl (fun _ => 0))), (a5, .inl (c5, 2, .inl (fun _ => 0))), (a6, .inl (c6, 21, .inr (.inl (fun _ => 0)))), (a7, .inl (c7, 3, .inr (.inl (fun _ => 0))))] := hD
  refine W.widen (k := 7) (n := 71) (Nat.le_of_ble_eq_true rfl) (Nat.le_of_ble_eq_true rfl) ?_
  refine va_putF (D := D) (ci := 0) (v := .ref a7) (ty := .array .long) (C := RX0) (T := TX0) (N := 15) hx hb hts in_X0 tyX0 tyX0_ok nmX0 hown hK hP hD hS 0 rfl rfl 6 (by decide) (hts _ q44) (fun _ h9 => h9) rfl hin rfl (by decide +kernel) rfl rfl (Nat.le_of_ble_eq_true rfl) dX0_init_54 (fun H locs hP hD hS => ?_)
  have hP : va_P D vwCl [(h0, .inr (0, [.ref a1, .ref a2, .ref a3, .ref a4, .ref a5, .ref a6, .ref a7, .null, .null, .int 0, .int 0, .int 0, .long 0, .long 0, .int 0])), (a1, .inl (c1, 14, .inl (fun _ => 0))), (a2, .inl (c2, 14, .inl (fun _ => 0))), (a3, .inl (c3, 14, .inl (fun _ => 0))), (a4, .inl (c4, 3, .inl (fun _ => 0))), (a5, .inl (c5, 2, .inl (fun _ => 0))), (a6, .inl (c6, 21, .inr (.inl (fun _ => 0)))), (a7, .inl (c7, 3, .inr (.inl (fun _ => 0))))] H := hP
  have hD : va_D A [(h0, .inr (0, [.ref a1, .ref a2, .ref a3, .ref a4, .ref a5, .ref a6, .ref a7, .null, .null, .int 0, .int 0, .int 0, .long 0, .long 0, .int 0])), (a1, .inl (c1, 14, .inl (fun _ => 0))), (a2, .inl (c2, 14, .inl (fun _ => 0))), (a3, .inl (c3, 14, .inl (fun _ => 0))), (a4, .inl (c4, 3, .inl (fun _ => 0))), (a5, .inl (c5, 2, .inl (fun _ => 0))), (a6, .inl (c6, 21, .inr (.inl (fun _ => 0)))), (a7, .inl (c7, 3, .inr (.inl (fun _ => 0))))] := hD
  refine lv_aload_n hx hb dX0_init_57 rfl (lv_at hl 0 rfl) ?_
  refine lv_iconst (v := nI 5) hx hb dX0_init_58 (by decide) ?_
  refine va_newa (atype := .long) (N' := 5) (a0 := (5, .inr (.inl (fun _ => 0)))) (ty := .long) hx hb (hts _ q85) rfl hK hP hD hS hA (fun _ => rfl) (by decide) (nI_clamp (by decide)) (by decide) (Nat.le_of_ble_eq_true rfl) (Nat.le_of_ble_eq_true rfl) dX0_init_59 (fun a8 c8 H hK hP hD hS => ?_)
  have hP : va_P D vwCl [(h0, .inr (0, [.ref a1, .ref a2, .ref a3, .ref a4, .ref a5, .ref a6, .ref a7, .null, .null, .int 0, .int 0, .int 0, .long 0, .long 0, .int 0])), (a1, .inl (c1, 14, .inl (fun _ => 0))), (a2, .inl (c2, 14, .inl (fun _ => 0))), (a3, .inl (c3, 14, .inl (fun _ => 0))), (a4, .inl (c4, 3, .inl (fun _ => 0))), (a5, .inl (c5, 2, .inl (fun _ => 0))), (a6, .inl (c6, 21, .inr (.inl (fun _ => 0)))), (a7, .inl (c7, 3, .inr (.inl (fun _ => 0)))), (a8, .inl (c8, 5, .inr (.inl (fun _ => 0))))] H := hP
  have hD : va_D A [(h0, .inr (0, [.ref a1, .ref a2, .ref a3, .ref a4, .ref a5, .ref a6, .ref a7, .null, .null, .int 0, .int 0, .int 0, .long 0, .long 0, .int 0])), (a1, .inl (c1, 14, .inl (fun _ => 0))), (a2, .inl (c2, 14, .inl (fun _ => 0))), (a3, .inl (c3, 14, .inl (fun _ => 0))), (a4, .inl (c4, 3, .inl (fun _ => 0))), (a5, .inl (c5, 2, .inl (fun _ => 0))), (a6, .inl (c6, 21, .inr (.inl (fun _ => 0)))), (a7, .inl (c7, 3, .inr (.inl (fun _ => 0)))), (a8, .inl (c8, 5, .inr (.inl (fun _ => 0))))] := hD
  refine W.widen (k := 8) (n := 76) (Nat.le_of_ble_eq_true rfl) (Nat.le_of_ble_eq_true rfl) ?_
  refine va_putF (D := D) (ci := 0) (v := .ref a8) (ty := .array .long) (C := RX0) (T := TX0) (N := 15) hx hb hts in_X0 tyX0 tyX0_ok nmX0 hown hK hP hD hS 0 rfl rfl 7 (by decide) (hts _ q45) (fun _ h9 => h9) rfl hin rfl (by decide +kernel) rfl rfl (Nat.le_of_ble_eq_true rfl) dX0_init_61 (fun H locs hP hD hS => ?_)
  have hP : va_P D vwCl [(h0, .inr (0, [.ref a1, .ref a2, .ref a3, .ref a4, .ref a5, .ref a6, .ref a7, .ref a8, .null, .int 0, .int 0, .int 0, .long 0, .long 0, .int 0])), (a1, .inl (c1, 14, .inl (fun _ => 0))), (a2, .inl (c2, 14, .inl (fun _ => 0))), (a3, .inl (c3, 14, .inl (fun _ => 0))), (a4, .inl (c4, 3, .inl (fun _ => 0))), (a5, .inl (c5, 2, .inl (fun _ => 0))), (a6, .inl (c6, 21, .inr (.inl (fun _ => 0)))), (a7, .inl (c7, 3, .inr (.inl (fun _ => 0)))), (a8, .inl (c8, 5, .inr (.inl (fun _ => 0))))] H := hP
  have hD : va_D A [(h0, .inr (0, [.ref a1, .ref a2, .ref a3, .ref a4, .ref a5, .ref a6, .ref a7, .ref a8, .null, .int 0, .int 0, .int 0, .long 0, .long 0, .int 0])), (a1, .inl (c1, 14, .inl (fun _ => 0))), (a2, .inl (c2, 14, .inl (fun _ => 0))), (a3, .inl (c3, 14, .inl (fun _ => 0))), (a4, .inl (c4, 3, .inl (fun _ => 0))), (a5, .inl (c5, 2, .inl (fun _ => 0))), (a6, .inl (c6, 21, .inr (.inl (fun _ => 0)))), (a7, .inl (c7, 3, .inr (.inl (fun _ => 0)))), (a8, .inl (c8, 5, .inr (.inl (fun _ => 0))))] := hD
  refine lv_aload_n hx hb dX0_init_64 rfl (lv_at hl 0 rfl) ?_
  refine lv_bipush (v := nI 42) hx hb dX0_init_65 (by decide) ?_
  refine va_newa (atype := .long) (N' := 42) (a0 := (42, .inr (.inl (fun _ => 0)))) (ty := .long) hx hb (hts _ q85) rfl hK hP hD hS hA (fun _ => rfl) (by decide) (nI_clamp (by decide)) (by decide) (Nat.le_of_ble_eq_true rfl) (Nat.le_of_ble_eq_true rfl) dX0_init_67 (fun a9 c9 H hK hP hD hS => ?_)
  have hP : va_P D vwCl [(h0, .inr (0, [.ref a1, .ref a2, .ref a3, .ref a4, .ref a5, .ref a6, .ref a7, .ref a8, .null, .int 0, .int 0, .int 0, .long 0, .long 0, .int 0])), (a1, .inl (c1, 14, .inl (fun _ => 0))), (a2, .inl (c2, 14, .inl (fun _ => 0))), (a3, .inl (c3, 14, .inl (fun _ => 0))), (a4, .inl (c4, 3, .inl (fun _ => 0))), (a5, .inl (c5, 2, .inl (fun _ => 0))), (a6, .inl (c6, 21, .inr (.inl (fun _ => 0)))), (a7, .inl (c7, 3, .inr (.inl (fun _ => 0)))), (a8, .inl (c8, 5, .inr (.inl (fun _ => 0)))), (a9, .inl (c9, 42, .inr (.inl (fun _ => 0))))] H := hP
  have hD : va_D A [(h0, .inr (0, [.ref a1, .ref a2, .ref a3, .ref a4, .ref a5, .ref a6, .ref a7, .ref a8, .null, .int 0, .int 0, .int 0, .long 0, .long 0, .int 0])), (a1, .inl (c1, 14, .inl (fun _ => 0))), (a2, .inl (c2, 14, .inl (fun _ => 0))), (a3, .inl (c3, 14, .inl (fun _ => 0))), (a4, .inl (c4, 3, .inl (fun _ => 0))), (a5, .inl (c5, 2, .inl (fun _ => 0))), (a6, .inl (c6, 21, .inr (.inl (fun _ => 0)))), (a7, .inl (c7, 3, .inr (.inl (fun _ => 0)))), (a8, .inl (c8, 5, .inr (.inl (fun _ => 0)))), (a9, .inl (c9, 42, .inr (.inl (fun _ => 0))))] := hD
  refine W.widen (k := 9) (n := 118) (Nat.le_of_ble_eq_true rfl) (Nat.le_of_ble_eq_true rfl) ?_
  refine va_putF (D := D) (ci := 0) (v := .ref a9) (ty := .array .long) (C := RX0) (T := TX0) (N := 15) hx hb hts in_X0 tyX0 tyX0_ok nmX0 hown hK hP hD hS 0 rfl rfl 8 (by decide) (hts _ q46) (fun _ h9 => h9) rfl hin rfl (by decide +kernel) rfl rfl (Nat.le_of_ble_eq_true rfl) dX0_init_69 (fun H locs hP hD hS => ?_)
  have hP : va_P D vwCl [(h0, .inr (0, [.ref a1, .ref a2, .ref a3, .ref a4, .ref a5, .ref a6, .ref a7, .ref a8, .ref a9, .int 0, .int 0, .int 0, .long 0, .long 0, .int 0])), (a1, .inl (c1, 14, .inl (fun _ => 0))), (a2, .inl (c2, 14, .inl (fun _ => 0))), (a3, .inl (c3, 14, .inl (fun _ => 0))), (a4, .inl (c4, 3, .inl (fun _ => 0))), (a5, .inl (c5, 2, .inl (fun _ => 0))), (a6, .inl (c6, 21, .inr (.inl (fun _ => 0)))), (a7, .inl (c7, 3, .inr (.inl (fun _ => 0)))), (a8, .inl (c8, 5, .inr (.inl (fun _ => 0)))), (a9, .inl (c9, 42, .inr (.inl (fun _ => 0))))] H := hP
  have hD : va_D A [(h0, .inr (0, [.ref a1, .ref a2, .ref a3, .ref a4, .ref a5, .ref a6, .ref a7, .ref a8, .ref a9, .int 0, .int 0, .int 0, .long 0, .long 0, .int 0])), (a1, .inl (c1, 14, .inl (fun _ => 0))), (a2, .inl (c2, 14, .inl (fun _ => 0))), (a3, .inl (c3, 14, .inl (fun _ => 0))), (a4, .inl (c4, 3, .inl (fun _ => 0))), (a5, .inl (c5, 2, .inl (fun _ => 0))), (a6, .inl (c6, 21, .inr (.inl (fun _ => 0)))), (a7, .inl (c7, 3, .inr (.inl (fun _ => 0)))), (a8, .inl (c8, 5, .inr (.inl (fun _ => 0)))), (a9, .inl (c9, 42, .inr (.inl (fun _ => 0))))] := hD
  have hK : va_K D vwCl [(c1, .int), (c2, .int), (c3, .int), (c4, .int), (c5, .int), (c6, .long), (c7, .long), (c8, .long), (c9, .long)] s := hK
  refine lv_iconst (v := nI 0) hx hb dX0_init_72 (by decide) ?_
  refine lv_istore_n (lv' := [(1, .int (nI 0)), (0, .ref h0)]) hx hb dX0_init_73 rfl hl (by decide) rfl (fun ls hl => ?_)
  refine lv_iload_n hx hb dX0_init_74 rfl (lv_at hl 0 rfl) ?_
  refine lv_iconst (v := nI 3) hx hb dX0_init_75 (by decide) ?_
  refine n_ge (tgt := 94) hx hb dX0_init_76 (by decide) (by decide) (by decide) (fun c9 => absurd c9 (by decide)) (fun _ => ?_)
  refine lv_aload_n hx hb dX0_init_79 rfl (lv_at hl 1 rfl) ?_
  refine va_get (D := D) (ci := 0) (v := .ref a4) (C := RX0) (T := TX0) (N := 15) hx hb hts in_X0 hown hK hP 0 rfl rfl 3 (by decide) (hts _ q41) (fun _ h9 => h9) rfl dX0_init_80 ?_
  refine lv_iload_n hx hb dX0_init_83 rfl (lv_at hl 0 rfl) ?_
  refine lv_iconst (v := nI 4) hx hb dX0_init_84 (by decide) ?_
  refine lv_iload_n hx hb dX0_init_85 rfl (lv_at hl 0 rfl) ?_
  refine n_iadd hx hb dX0_init_86 ?_
  refine va_iast hx hb hK hP hD hS 4 3 rfl rfl (vp_in_nI (show 0 < 3 by decide) (by decide)) dX0_init_87 (fun H locs hP hD hS => ?_)
  rw [show (nI 0).toNatClampNeg = 0 from nI_clamp (by decide)] at hP hD
  have hP : va_P D vwCl [(h0, .inr (0, [.ref a1, .ref a2, .ref a3, .ref a4, .ref a5, .ref a6, .ref a7, .ref a8, .ref a9, .int 0, .int 0, .int 0, .long 0, .long 0, .int 0])), (a1, .inl (c1, 14, .inl (fun _ => 0))), (a2, .inl (c2, 14, .inl (fun _ => 0))), (a3, .inl (c3, 14, .inl (fun _ => 0))), (a4, .inl (c4, 3, .inl (upd (fun _ => 0) 0 (nI 4)))), (a5, .inl (c5, 2, .inl (fun _ => 0))), (a6, .inl (c6, 21, .inr (.inl (fun _ => 0)))), (a7, .inl (c7, 3, .inr (.inl (fun _ => 0)))), (a8, .inl (c8, 5, .inr (.inl (fun _ => 0)))), (a9, .inl (c9, 42, .inr (.inl (fun _ => 0))))] H := hP
  have hD : va_D A [(h0, .inr (0, [.ref a1, .ref a2, .ref a3, .ref a4, .ref a5, .ref a6, .ref a7, .ref a8, .ref a9, .int 0, .int 0, .int 0, .long 0, .long 0, .int 0])), (a1, .inl (c1, 14, .inl (fun _ => 0))), (a2, .inl (c2, 14, .inl (fun _ => 0))), (a3, .inl (c3, 14, .inl (fun _ => 0))), (a4, .inl (c4, 3, .inl (upd (fun _ => 0) 0 (nI 4)))), (a5, .inl (c5, 2, .inl (fun _ => 0))), (a6, .inl (c6, 21, .inr (.inl (fun _ => 0)))), (a7, .inl (c7, 3, .inr (.inl (fun _ => 0)))), (a8, .inl (c8, 5, .inr (.inl (fun _ => 0)))), (a9, .inl (c9, 42, .inr (.inl (fun _ => 0))))] := hD
  refine lv_iinc (v := nI 1) (lv' := [(1, .int (nI 1)), (0, .ref h0)]) hx hb dX0_init_88 hl (k := 0) rfl (n_inc _) (by decide) rfl (fun ls hl => ?_)
  refine lv_goto (tgt := 74) hx hb dX0_init_91 (by decide) ?_
  refine lv_iload_n hx hb dX0_init_74 rfl (lv_at hl 0 rfl) ?_
  refine lv_iconst (v := nI 3) hx hb dX0_init_75 (by decide) ?_
  refine n_ge (tgt := 94) hx hb dX0_init_76 (by decide) (by decide) (by decide) (fun c9 => absurd c9 (by decide)) (fun _ => ?_)
  refine lv_aload_n hx hb dX0_init_79 rfl (lv_at hl 1 rfl) ?_
  refine va_get (D := D) (ci := 0) (v := .ref a4) (C := RX0) (T := TX0) (N := 15) hx hb hts in_X0 hown hK hP 0 rfl rfl 3 (by decide) (hts _ q41) (fun _ h9 => h9) rfl dX0_init_80 ?_
  refine lv_iload_n hx hb dX0_init_83 rfl (lv_at hl 0 rfl) ?_
  refine lv_iconst (v := nI 4) hx hb dX0_init_84 (by decide) ?_
  refine lv_iload_n hx hb dX0_init_85 rfl (lv_at hl 0 rfl) ?_
  refine n_iadd hx hb dX0_init_86 ?_
  refine va_iast hx hb hK hP hD hS 4 3 rfl rfl (vp_in_nI (show 1 < 3 by decide) (by decide)) dX0_init_87 (fun H locs hP hD hS => ?_)
  rw [show (nI 1).toNatClampNeg = 1 from nI_clamp (by decide)] at hP hD
  have hP : va_P D vwCl [(h0, .inr (0, [.ref a1, .ref a2, .ref a3, .ref a4, .ref a5, .ref a6, .ref a7, .ref a8, .ref a9, .int 0, .int 0, .int 0, .long 0, .long 0, .int 0])), (a1, .inl (c1, 14, .inl (fun _ => 0))), (a2, .inl (c2, 14, .inl (fun _ => 0))), (a3, .inl (c3, 14, .inl (fun _ => 0))), (a4, .inl (c4, 3, .inl (upd (upd (fun _ => 0) 0 (nI 4)) 1 (nI 5)))), (a5, .inl (c5, 2, .inl (fun _ => 0))), (a6, .inl (c6, 21, .inr (.inl (fun _ => 0)))), (a7, .inl (c7, 3, .inr (.inl (fun _ => 0)))), (a8, .inl (c8, 5, .inr (.inl (fun _ => 0)))), (a9, .inl (c9, 42, .inr (.inl (fun _ => 0))))] H := hP
  have hD : va_D A [(h0, .inr (0, [.ref a1, .ref a2, .ref a3, .ref a4, .ref a5, .ref a6, .ref a7, .ref a8, .ref a9, .int 0, .int 0, .int 0, .long 0, .long 0, .int 0])), (a1, .inl (c1, 14, .inl (fun _ => 0))), (a2, .inl (c2, 14, .inl (fun _ => 0))), (a3, .inl (c3, 14, .inl (fun _ => 0))), (a4, .inl (c4, 3, .inl (upd (upd (fun _ => 0) 0 (nI 4)) 1 (nI 5)))), (a5, .inl (c5, 2, .inl (fun _ => 0))), (a6, .inl (c6, 21, .inr (.inl (fun _ => 0)))), (a7, .inl (c7, 3, .inr (.inl (fun _ => 0)))), (a8, .inl (c8, 5, .inr (.inl (fun _ => 0)))), (a9, .inl (c9, 42, .inr (.inl (fun _ => 0))))] := hD
  refine lv_iinc (v := nI 2) (lv' := [(1, .int (nI 2)), (0, .ref h0)]) hx hb dX0_init_88 hl (k := 0) rfl (n_inc _) (by decide) rfl (fun ls hl => ?_)
  refine lv_goto (tgt := 74) hx hb dX0_init_91 (by decide) ?_
  refine lv_iload_n hx hb dX0_init_74 rfl (lv_at hl 0 rfl) ?_
  refine lv_iconst (v := nI 3) hx hb dX0_init_75 (by decide) ?_
  refine n_ge (tgt := 94) hx hb dX0_init_76 (by decide) (by decide) (by decide) (fun c9 => absurd c9 (by decide)) (fun _ => ?_)
  refine lv_aload_n hx hb dX0_init_79 rfl (lv_at hl 1 rfl) ?_
  refine va_get (D := D) (ci := 0) (v := .ref a4) (C := RX0) (T := TX0) (N := 15) hx hb hts in_X0 hown hK hP 0 rfl rfl 3 (by decide) (hts _ q41) (fun _ h9 => h9) rfl dX0_init_80 ?_
  refine lv_iload_n hx hb dX0_init_83 rfl (lv_at hl 0 rfl) ?_
  refine lv_iconst (v := nI 4) hx hb dX0_init_84 (by decide) ?_
  refine lv_iload_n hx hb dX0_init_85 rfl (lv_at hl 0 rfl) ?_
  refine n_iadd hx hb dX0_init_86 ?_
  refine va_iast hx hb hK hP hD hS 4 3 rfl rfl (vp_in_nI (show 2 < 3 by decide) (by decide)) dX0_init_87 (fun H locs hP hD hS => ?_)
  rw [show (nI 2).toNatClampNeg = 2 from nI_clamp (by decide)] at hP hD
  have hP : va_P D vwCl [(h0, .inr (0, [.ref a1, .ref a2, .ref a3, .ref a4, .ref a5, .ref a6, .ref a7, .ref a8, .ref a9, .int 0, .int 0, .int 0, .long 0, .long 0, .int 0])), (a1, .inl (c1, 14, .inl (fun _ => 0))), (a2, .inl (c2, 14, .inl (fun _ => 0))), (a3, .inl (c3, 14, .inl (fun _ => 0))), (a4, .inl (c4, 3, .inl (upd (upd (upd (fun _ => 0) 0 (nI 4)) 1 (nI 5)) 2 (nI 6)))), (a5, .inl (c5, 2, .inl (fun _ => 0))), (a6, .inl (c6, 21, .inr (.inl (fun _ => 0)))), (a7, .inl (c7, 3, .inr (.inl (fun _ => 0)))), (a8, .inl (c8, 5, .inr (.inl (fun _ => 0)))), (a9, .inl (c9, 42, .inr (.inl (fun _ => 0))))] H := hP
  have hD : va_D A [(h0, .inr (0, [.ref a1, .ref a2, .ref a3, .ref a4, .ref a5, .ref a6, .ref a7, .ref a8, .ref a9, .int 0, .int 0, .int 0, .long 0, .long 0, .int 0])), (a1, .inl (c1, 14, .inl (fun _ => 0))), (a2, .inl (c2, 14, .inl (fun _ => 0))), (a3, .inl (c3, 14, .inl (fun _ => 0))), (a4, .inl (c4, 3, .inl (upd (upd (upd (fun _ => 0) 0 (nI 4)) 1 (nI 5)) 2 (nI 6)))), (a5, .inl (c5, 2, .inl (fun _ => 0))), (a6, .inl (c6, 21, .inr (.inl (fun _ => 0)))), (a7, .inl (c7, 3, .inr (.inl (fun _ => 0)))), (a8, .inl (c8, 5, .inr (.inl (fun _ => 0)))), (a9, .inl (c9, 42, .inr (.inl (fun _ => 0))))] := hD
  refine lv_iinc (v := nI 3) (lv' := [(1, .int (nI 3)), (0, .ref h0)]) hx hb dX0_init_88 hl (k := 0) rfl (n_inc _) (by decide) rfl (fun ls hl => ?_)
  refine lv_goto (tgt := 74) hx hb dX0_init_91 (by decide) ?_
  refine lv_iload_n hx hb dX0_init_74 rfl (lv_at hl 0 rfl) ?_
  refine lv_iconst (v := nI 3) hx hb dX0_init_75 (by decide) ?_
  refine n_ge (tgt := 94) hx hb dX0_init_76 (by decide) (by decide) (by decide) (fun _ => ?_) (fun c9 => absurd c9 (by decide))
  refine lv_aload_n hx hb dX0_init_94 rfl (lv_at hl 1 rfl) ?_
  refine lv_iconst (v := -1) hx hb dX0_init_95 (by decide) ?_
  refine va_put (D := D) (ci := 0) (v := .int (-1)) (ty := .int) (C := RX0) (T := TX0) (N := 15) hx hb hts in_X0 tyX0 tyX0_ok nmX0 hown hK hP hD hS 0 rfl rfl 10 (by decide) (hts _ q48) (fun _ h9 => h9) rfl (by decide +kernel) rfl rfl (Nat.le_of_ble_eq_true rfl) dX0_init_96 (fun H locs hP hD hS => ?_)
  have hP : va_P D vwCl [(h0, .inr (0, [.ref a1, .ref a2, .ref a3, .ref a4, .ref a5, .ref a6, .ref a7, .ref a8, .ref a9, .int 0, .int (-1), .int 0, .long 0, .long 0, .int 0])), (a1, .inl (c1, 14, .inl (fun _ => 0))), (a2, .inl (c2, 14, .inl (fun _ => 0))), (a3, .inl (c3, 14, .inl (fun _ => 0))), (a4, .inl (c4, 3, .inl (upd (upd (upd (fun _ => 0) 0 (nI 4)) 1 (nI 5)) 2 (nI 6)))), (a5, .inl (c5, 2, .inl (fun _ => 0))), (a6, .inl (c6, 21, .inr (.inl (fun _ => 0)))), (a7, .inl (c7, 3, .inr (.inl (fun _ => 0)))), (a8, .inl (c8, 5, .inr (.inl (fun _ => 0)))), (a9, .inl (c9, 42, .inr (.inl (fun _ => 0))))] H := hP
  have hD : va_D A [(h0, .inr (0, [.ref a1, .ref a2, .ref a3, .ref a4, .ref a5, .ref a6, .ref a7, .ref a8, .ref a9, .int 0, .int (-1), .int 0, .long 0, .long 0, .int 0])), (a1, .inl (c1, 14, .inl (fun _ => 0))), (a2, .inl (c2, 14, .inl (fun _ => 0))), (a3, .inl (c3, 14, .inl (fun _ => 0))), (a4, .inl (c4, 3, .inl (upd (upd (upd (fun _ => 0) 0 (nI 4)) 1 (nI 5)) 2 (nI 6)))), (a5, .inl (c5, 2, .inl (fun _ => 0))), (a6, .inl (c6, 21, .inr (.inl (fun _ => 0)))), (a7, .inl (c7, 3, .inr (.inl (fun _ => 0)))), (a8, .inl (c8, 5, .inr (.inl (fun _ => 0)))), (a9, .inl (c9, 42, .inr (.inl (fun _ => 0))))] := hD
  have e2 := ra_i (hK.2 0 (c1, .int) rfl).2 (hK.2 1 (c2, .int) rfl).2
  have e3 := ra_i (hK.2 0 (c1, .int) rfl).2 (hK.2 2 (c3, .int) rfl).2
  have e4 := ra_i (hK.2 0 (c1, .int) rfl).2 (hK.2 3 (c4, .int) rfl).2
  have e5 := ra_i (hK.2 0 (c1, .int) rfl).2 (hK.2 4 (c5, .int) rfl).2
  have e7 := ra_l (hK.2 5 (c6, .long) rfl).2 (hK.2 6 (c7, .long) rfl).2
  have e8 := ra_l (hK.2 5 (c6, .long) rfl).2 (hK.2 7 (c8, .long) rfl).2
  have e9 := ra_l (hK.2 5 (c6, .long) rfl).2 (hK.2 8 (c9, .long) rfl).2
  subst e2 e3 e4 e5 e7 e8 e9
  have hK2 := hK.sub (tys' := tyX c1 c6) [0, 5] rfl
  have hP : va_P D vwCl (wX c1 c6 (hv h0 a1 a2 a3 a4 a5 a6 a7 a8 a9) (C0, -1, 0, 0, 0, 0, fun _ => 0, fun _ => 0, fun _ => 0, fun _ => 0)) H := hP
  have hD : va_D A (wX c1 c6 (hv h0 a1 a2 a3 a4 a5 a6 a7 a8 a9) (C0, -1, 0, 0, 0, 0, fun _ => 0, fun _ => 0, fun _ => 0, fun _ => 0)) := hD
  have hx9 := x_of (h := (hv h0 a1 a2 a3 a4 a5 a6 a7 a8 a9)) (w := wX c1 c6 (hv h0 a1 a2 a3 a4 a5 a6 a7 a8 a9) (C0, -1, 0, 0, 0, 0, fun _ => 0, fun _ => 0, fun _ => 0, fun _ => 0)) rfl hD
  refine lv_aload_n hx hb dX0_init_99 rfl (lv_at hl 1 rfl) ?_
  refine va_callv (va_runV (As := []) (rest := []) (b := h0) ⟨hx, hb, hml, hown, hts⟩ (metX0_drop l D c1 c6 (hv h0 a1 a2 a3 a4 a5 a6 a7 a8 a9) hx9.1 C0 (-1) 0 0 0 0 (fun _ => 0) (fun _ => 0) (fun _ => 0) (fun _ => 0)) (cwX0_X0_drop hts ⟨Nat.le_of_ble_eq_true rfl, Nat.le_of_ble_eq_true rfl⟩) ⟨GPc.blind, va_recv hK2 hP (ci := 0) (q := (RX0, TX0, 15)) (q0 := 0) rfl rfl, fun U hU hW => ⟨rfl, by rw [hU]; exact hP, va_K.moved hW.alike hK2⟩⟩ rfl rfl hl.1 rfl (lv_room (Nat.le_of_ble_eq_true rfl)) dX0_init_100 ⟨Nat.le_of_ble_eq_true rfl, Nat.le_of_ble_eq_true rfl⟩) hS (fun q _ h => hx9.2 q h) hx9.2 (fun u t H1 locs ht hvm hp hB hz1 hk1 hS => ?_)
  obtain rfl := hp
  have hP : va_P D vwCl (wX c1 c6 (hv h0 a1 a2 a3 a4 a5 a6 a7 a8 a9) (C0, -1, 0, -1, 0, 0, fun _ => 0, fun _ => 0, fun _ => 0, fun _ => 0)) H1 := by rw [← ht]; exact hB
  refine W.widen (k := 9) (n := 118) (Nat.le_of_ble_eq_true rfl) (Nat.le_of_ble_eq_true rfl) ?_
  exact W.vret hx hb hr (fun t ht hW => ⟨⟨(), rfl, trivial, c1, c6, (hv h0 a1 a2 a3 a4 a5 a6 a7 a8 a9), rfl, hx9.1, hx9.2, by rw [ht]; exact hP, va_K.moved hW.alike hK2⟩, hS.F ht⟩) hS.2.2 dX0_init_103
abbrev rmX1_init : Room := { frames := 1, cells := 9, slots := 128, locals := 20 }
abbrev cellX1_init (h0 : Nat) : va_W := [(h0, .inr (1, [.int 0, .null, .null, .null, .null, .null, .int 0, .int 0, .null, .null, .null, .null]))]
def BX1_init (D : va_G) (h0 : Nat) (A : Nat → Prop) (_ : Unit) (t : State) : Prop := ∃ (di : ClassId) (h : Nat → Nat), h 0 = h0 ∧ xD h ∧ (∀ q, xB h q → A q) ∧ va_P D vwCl (wM di h (C0, -1, 0, fun _ => 0, fun _ => 0, fun _ => 0, fun _ => 0)) t.heap ∧ va_K D vwCl (tyM di) t
set_option maxHeartbeats 4000000 in
set_option maxRecDepth 100000 in
/-- ScanDiagnoseModel() -/
theorem metX1_init (l : Launch) (D : va_G) (h0 sz : Nat) : Met l yX1_init (ws_ yX1_init cX1_init 2 none) rmX1_init (va_Pc [.ref h0] (fun U => U.heap.size = sz ∧ va_P D vwCl (cellX1_init h0) U.heap ∧ va_K D vwCl [] U ∧ va_D (fun _ => True) (cellX1_init h0))) (va_Qv (fun _ : Unit => True) (BX1_init D h0 (va_A (cellX1_init h0) sz)) (va_A (cellX1_init h0) sz)) 9 128 (va_A (cellX1_init h0) sz) := by
  refine Met.ofW (cc := cX1_init) (maxL := 2) (ret := none) (by decide) rfl ?_
  intro p e s m args below meth c s₁ B hml hv9
  obtain ⟨rfl, hsz, hP, hK, hD0⟩ := hv9
  have hx := B.exec
  have hb := B.bytes
  have hr := B.returns
  have hts := atoms_spec (ws := ws_ yX1_init cX1_init 2 none) B.pre
  have hts : ∀ w ∈ lw_all, w.before _ s = true := fun w h => hts w (List.mem_cons_of_mem _ h)
  have hown : s.vm.findClass RX1 = some m.cls := findClass_of_methodNamed B.named
  have hlocks := B.notSynchronized
  have hin : meth.name = "<init>" := (name_of_methodNamed B.named B.method).1
  subst hsz
  have hD := hD0.self (sz := s.heap.size)
  generalize hAe : va_A (cellX1_init h0) s.heap.size = A at hD ⊢
  have hA : ∀ q : Nat, s.heap.size ≤ q → A q := fun q h => by rw [← hAe]; exact Or.inr h
  have hS : va_S A s.heap s.heap [] := va_S.rf
  have hl := lv_entry ([.ref h0]) (n := 2) (Nat.le_of_ble_eq_true rfl)
  rw [lg_entry_eq]
  generalize (lg_sl ([.ref h0]) ++ List.replicate (2 - (lg_sl ([.ref h0])).length) Slot.unset).toArray = ls at hl ⊢
  have hl : lv_has ls 2 [(0, .ref h0)] := hl
  refine lv_aload_n hx hb dX1_init_0 rfl (lv_at hl 0 rfl) ?_
  refine W.objInit hx hb hown (hts _ q225) (hts _ q31) (hts _ q32) rfl (by rw [hml]; exact hl.1) rfl dX1_init_1 (Nat.le_of_ble_eq_true rfl) (Nat.le_of_ble_eq_true rfl) ?_
  refine W.eq (g2 := F0 m 4 ls []) rfl ?_
  refine lv_aload_n hx hb dX1_init_4 rfl (lv_at hl 0 rfl) ?_
  refine lv_bipush (v := nI 14) hx hb dX1_init_5 (by decide) ?_
  refine va_newa (atype := .int) (N' := 14) (a0 := (14, .inl (fun _ => 0))) (ty := .int) hx hb (hts _ q84) rfl hK hP hD hS hA (fun _ => rfl) (by decide) (nI_clamp (by decide)) (by decide) (Nat.le_of_ble_eq_true rfl) (Nat.le_of_ble_eq_true rfl) dX1_init_7 (fun a1 c1 H hK hP hD hS => ?_)
  have hP : va_P D vwCl [(h0, .inr (1, [.int 0, .null, .null, .null, .null, .null, .int 0, .int 0, .null, .null, .null, .null])), (a1, .inl (c1, 14, .inl (fun _ => 0)))] H := hP
  have hD : va_D A [(h0, .inr (1, [.int 0, .null, .null, .null, .null, .null, .int 0, .int 0, .null, .null, .null, .null])), (a1, .inl (c1, 14, .inl (fun _ => 0)))] := hD
  refine W.widen (k := 1) (n := 14) (Nat.le_of_ble_eq_true rfl) (Nat.le_of_ble_eq_true rfl) ?_
  refine va_put (D := D) (ci := 1) (v := .ref a1) (ty := .array .int) (C := RX1) (T := TX1) (N := 12) hx hb hts in_X1 tyX1 tyX1_ok nmX1 hown hK hP hD hS 0 rfl rfl 1 (by decide) (hts _ q227) (fun _ h9 => h9) rfl (by decide +kernel) rfl rfl (Nat.le_of_ble_eq_true rfl) dX1_init_9 (fun H locs hP hD hS => ?_)
  have hP : va_P D vwCl [(h0, .inr (1, [.int 0, .ref a1, .null, .null, .null, .null, .int 0, .int 0, .null, .null, .null, .null])), (a1, .inl (c1, 14, .inl (fun _ => 0)))] H := hP
  have hD : va_D A [(h0, .inr (1, [.int 0, .ref a1, .null, .null, .null, .null, .int 0, .int 0, .null, .null, .null, .null])), (a1, .inl (c1, 14, .inl (fun _ => 0)))] := hD
  refine lv_aload_n hx hb dX1_init_12 rfl (lv_at hl 0 rfl) ?_
  refine lv_bipush (v := nI 14) hx hb dX1_init_13 (by decide) ?_
  refine va_newa (atype := .int) (N' := 14) (a0 := (14, .inl (fun _ => 0))) (ty := .int) hx hb (hts _ q84) rfl hK hP hD hS hA (fun _ => rfl) (by decide) (nI_clamp (by decide)) (by decide) (Nat.le_of_ble_eq_true rfl) (Nat.le_of_ble_eq_true rfl) dX1_init_15 (fun a2 c2 H hK hP hD hS => ?_)
  have hP : va_P D vwCl [(h0, .inr (1, [.int 0, .ref a1, .null, .null, .null, .null, .int 0, .int 0, .null, .null, .null, .null])), (a1, .inl (c1, 14, .inl (fun _ => 0))), (a2, .inl (c2, 14, .inl (fun _ => 0)))] H := hP
  have hD : va_D A [(h0, .inr (1, [.int 0, .ref a1, .null, .null, .null, .null, .int 0, .int 0, .null, .null, .null, .null])), (a1, .inl (c1, 14, .inl (fun _ => 0))), (a2, .inl (c2, 14, .inl (fun _ => 0)))] := hD
  refine W.widen (k := 2) (n := 28) (Nat.le_of_ble_eq_true rfl) (Nat.le_of_ble_eq_true rfl) ?_
  refine va_put (D := D) (ci := 1) (v := .ref a2) (ty := .array .int) (C := RX1) (T := TX1) (N := 12) hx hb hts in_X1 tyX1 tyX1_ok nmX1 hown hK hP hD hS 0 rfl rfl 2 (by decide) (hts _ q228) (fun _ h9 => h9) rfl (by decide +kernel) rfl rfl (Nat.le_of_ble_eq_true rfl) dX1_init_17 (fun H locs hP hD hS => ?_)
  have hP : va_P D vwCl [(h0, .inr (1, [.int 0, .ref a1, .ref a2, .null, .null, .null, .int 0, .int 0, .null, .null, .null, .null])), (a1, .inl (c1, 14, .inl (fun _ => 0))), (a2, .inl (c2, 14, .inl (fun _ => 0)))] H := hP
  have hD : va_D A [(h0, .inr (1, [.int 0, .ref a1, .ref a2, .null, .null, .null, .int 0, .int 0, .null, .null, .null, .null])), (a1, .inl (c1, 14, .inl (fun _ => 0))), (a2, .inl (c2, 14, .inl (fun _ => 0)))] := hD
  refine lv_aload_n hx hb dX1_init_20 rfl (lv_at hl 0 rfl) ?_
  refine lv_bipush (v := nI 14) hx hb dX1_init_21 (by decide) ?_
  refine va_newa (atype := .int) (N' := 14) (a0 := (14, .inl (fun _ => 0))) (ty := .int) hx hb (hts _ q84) rfl hK hP hD hS hA (fun _ => rfl) (by decide) (nI_clamp (by decide)) (by decide) (Nat.le_of_ble_eq_true rfl) (Nat.le_of_ble_eq_true rfl) dX1_init_23 (fun a3 c3 H hK hP hD hS => ?_)
  have hP : va_P D vwCl [(h0, .inr (1, [.int 0, .ref a1, .ref a2, .null, .null, .null, .int 0, .int 0, .null, .null, .null, .null])), (a1, .inl (c1, 14, .inl (fun _ => 0))), (a2, .inl (c2, 14, .inl (fun _ => 0))), (a3, .inl (c3, 14, .inl (fun _ => 0)))] H := hP
  have hD : va_D A [(h0, .inr (1, [.int 0, .ref a1, .ref a2, .null, .null, .null, .int 0, .int 0, .null, .null, .null, .null])), (a1, .inl (c1, 14, .inl (fun _ => 0))), (a2, .inl (c2, 14, .inl (fun _ => 0))), (a3, .inl (c3, 14, .inl (fun _ => 0)))] := hD
  refine W.widen (k := 3) (n := 42) (Nat.le_of_ble_eq_true rfl) (Nat.le_of_ble_eq_true rfl) ?_
  refine va_put (D := D) (ci := 1) (v := .ref a3) (ty := .array .int) (C := RX1) (T := TX1) (N := 12) hx hb hts in_X1 tyX1 tyX1_ok nmX1 hown hK hP hD hS 0 rfl rfl 3 (by decide) (hts _ q229) (fun _ h9 => h9) rfl (by decide +kernel) rfl rfl (Nat.le_of_ble_eq_true rfl) dX1_init_25 (fun H locs hP hD hS => ?_)
  have hP : va_P D vwCl [(h0, .inr (1, [.int 0, .ref a1, .ref a2, .ref a3, .null, .null, .int 0, .int 0, .null, .null, .null, .null])), (a1, .inl (c1, 14, .inl (fun _ => 0))), (a2, .inl (c2, 14, .inl (fun _ => 0))), (a3, .inl (c3, 14, .inl (fun _ => 0)))] H := hP
  have hD : va_D A [(h0, .inr (1, [.int 0, .ref a1, .ref a2, .ref a3, .null, .null, .int 0, .int 0, .null, .null, .null, .null])), (a1, .inl (c1, 14, .inl (fun _ => 0))), (a2, .inl (c2, 14, .inl (fun _ => 0))), (a3, .inl (c3, 14, .inl (fun _ => 0)))] := hD
  refine lv_aload_n hx hb dX1_init_28 rfl (lv_at hl 0 rfl) ?_
  refine lv_iconst (v := nI 3) hx hb dX1_init_29 (by decide) ?_
  refine va_newa (atype := .int) (N' := 3) (a0 := (3, .inl (fun _ => 0))) (ty := .int) hx hb (hts _ q84) rfl hK hP hD hS hA (fun _ => rfl) (by decide) (nI_clamp (by decide)) (by decide) (Nat.le_of_ble_eq_true rfl) (Nat.le_of_ble_eq_true rfl) dX1_init_30 (fun a4 c4 H hK hP hD hS => ?_)
  have hP : va_P D vwCl [(h0, .inr (1, [.int 0, .ref a1, .ref a2, .ref a3, .null, .null, .int 0, .int 0, .null, .null, .null, .null])), (a1, .inl (c1, 14, .inl (fun _ => 0))), (a2, .inl (c2, 14, .inl (fun _ => 0))), (a3, .inl (c3, 14, .inl (fun _ => 0))), (a4, .inl (c4, 3, .inl (fun _ => 0)))] H := hP
  have hD : va_D A [(h0, .inr (1, [.int 0, .ref a1, .ref a2, .ref a3, .null, .null, .int 0, .int 0, .null, .null, .null, .null])), (a1, .inl (c1, 14, .inl (fun _ => 0))), (a2, .inl (c2, 14, .inl (fun _ => 0))), (a3, .inl (c3, 14, .inl (fun _ => 0))), (a4, .inl (c4, 3, .inl (fun _ => 0)))] := hD
  refine W.widen (k := 4) (n := 45) (Nat.le_of_ble_eq_true rfl) (Nat.le_of_ble_eq_true rfl) ?_
  refine va_put (D := D) (ci := 1) (v := .ref a4) (ty := .array .int) (C := RX1) (T := TX1) (N := 12) hx hb hts in_X1 tyX1 tyX1_ok nmX1 hown hK hP hD hS 0 rfl rfl 4 (by decide) (hts _ q230) (fun _ h9 => h9) rfl (by decide +kernel) rfl rfl (Nat.le_of_ble_eq_true rfl) dX1_init_32 (fun H locs hP hD hS => ?_)
  have hP : va_P D vwCl [(h0, .inr (1, [.int 0, .ref a1, .ref a2, .ref a3, .ref a4, .null, .int 0, .int 0, .null, .null, .null, .null])), (a1, .inl (c1, 14, .inl (fun _ => 0))), (a2, .inl (c2, 14, .inl (fun _ => 0))), (a3, .inl (c3, 14, .inl (fun _ => 0))), (a4, .inl (c4, 3, .inl (fun _ => 0)))] H := hP
  have hD : va_D A [(h0, .inr (1, [.int 0, .ref a1, .ref a2, .ref a3, .ref a4, .null, .int 0, .int 0, .null, .null, .null, .null])), (a1, .inl (c1, 14, .inl (fun _ => 0))), (a2, .inl (c2, 14, .inl (fun _ => 0))), (a3, .inl (c3, 14, .inl (fun _ => 0))), (a4, .inl (c4, 3, .inl (fun _ => 0)))] := hD
  refine lv_aload_n hx hb dX1_init_35 rfl (lv_at hl 0 rfl) ?_
  refine lv_iconst (v := nI 2) hx hb dX1_init_36 (by decide) ?_
  refine va_newa (atype := .int) (N' := 2) (a0 := (2, .inl (fun _ => 0))) (ty := .int) hx hb (hts _ q84) rfl hK hP hD hS hA (fun _ => rfl) (by decide) (nI_clamp (by decide)) (by decide) (Nat.le_of_ble_eq_true rfl) (Nat.le_of_ble_eq_true rfl) dX1_init_37 (fun a5 c5 H hK hP hD hS => ?_)
  have hP : va_P D vwCl [(h0, .inr (1, [.int 0, .ref a1, .ref a2, .ref a3, .ref a4, .null, .int 0, .int 0, .null, .null, .null, .null])), (a1, .inl (c1, 14, .inl (fun _ => 0))), (a2, .inl (c2, 14, .inl (fun _ => 0))), (a3, .inl (c3, 14, .inl (fun _ => 0))), (a4, .inl (c4, 3, .inl (fun _ => 0))), (a5, .inl (c5, 2, .inl (fun _ => 0)))] H := hP
  have hD : va_D A [(h0, .inr (1, [.int 0, .ref a1, .ref a2, .ref a3, .ref a4, .null, .int 0, .int 0, .null, .null, .null, .null])), (a1, .inl (c1, 14, .inl (fun _ => 0))), (a2, .inl (c2, 14, .inl (fun _ => 0))), (a3, .inl (c3, 14, .inl (fun _ => 0))), (a4, .inl (c4, 3, .inl (fun _ => 0))), (a5, .inl (c5, 2, .inl (fun _ => 0)))] := hD
  refine W.widen (k := 5) (n := 47) (Nat.le_of_ble_eq_true rfl) (Nat.le_of_ble_eq_true rfl) ?_
  refine va_put (D := D) (ci := 1) (v := .ref a5) (ty := .array .int) (C := RX1) (T := TX1) (N := 12) hx hb hts in_X1 tyX1 tyX1_ok nmX1 hown hK hP hD hS 0 rfl rfl 5 (by decide) (hts _ q231) (fun _ h9 => h9) rfl (by decide +kernel) rfl rfl (Nat.le_of_ble_eq_true rfl) dX1_init_39 (fun H locs hP hD hS => ?_)
  have hP : va_P D vwCl [(h0, .inr (1, [.int 0, .ref a1, .ref a2, .ref a3, .ref a4, .ref a5, .int 0, .int 0, .null, .null, .null, .null])), (a1, .inl (c1, 14, .inl (fun _ => 0))), (a2, .inl (c2, 14, .inl (fun _ => 0))), (a3, .inl (c3, 14, .inl (fun _ => 0))), (a4, .inl (c4, 3, .inl (fun _ => 0))), (a5, .inl (c5, 2, .inl (fun _ => 0)))] H := hP
  have hD : va_D A [(h0, .inr (1, [.int 0, .ref a1, .ref a2, .ref a3, .ref a4, .ref a5, .int 0, .int 0, .null, .null, .null, .null])), (a1, .inl (c1, 14, .inl (fun _ => 0))), (a2, .inl (c2, 14, .inl (fun _ => 0))), (a3, .inl (c3, 14, .inl (fun _ => 0))), (a4, .inl (c4, 3, .inl (fun _ => 0))), (a5, .inl (c5, 2, .inl (fun _ => 0)))] := hD
  refine lv_aload_n hx hb dX1_init_42 rfl (lv_at hl 0 rfl) ?_
  refine lv_iconst (v := -1) hx hb dX1_init_43 (by decide) ?_
  refine va_put (D := D) (ci := 1) (v := .int (-1)) (ty := .int) (C := RX1) (T := TX1) (N := 12) hx hb hts in_X1 tyX1 tyX1_ok nmX1 hown hK hP hD hS 0 rfl rfl 6 (by decide) (hts _ q232) (fun _ h9 => h9) rfl (by decide +kernel) rfl rfl (Nat.le_of_ble_eq_true rfl) dX1_init_44 (fun H locs hP hD hS => ?_)
  have hP : va_P D vwCl [(h0, .inr (1, [.int 0, .ref a1, .ref a2, .ref a3, .ref a4, .ref a5, .int (-1), .int 0, .null, .null, .null, .null])), (a1, .inl (c1, 14, .inl (fun _ => 0))), (a2, .inl (c2, 14, .inl (fun _ => 0))), (a3, .inl (c3, 14, .inl (fun _ => 0))), (a4, .inl (c4, 3, .inl (fun _ => 0))), (a5, .inl (c5, 2, .inl (fun _ => 0)))] H := hP
  have hD : va_D A [(h0, .inr (1, [.int 0, .ref a1, .ref a2, .ref a3, .ref a4, .ref a5, .int (-1), .int 0, .null, .null, .null, .null])), (a1, .inl (c1, 14, .inl (fun _ => 0))), (a2, .inl (c2, 14, .inl (fun _ => 0))), (a3, .inl (c3, 14, .inl (fun _ => 0))), (a4, .inl (c4, 3, .inl (fun _ => 0))), (a5, .inl (c5, 2, .inl (fun _ => 0)))] := hD
  refine lv_aload_n hx hb dX1_init_47 rfl (lv_at hl 0 rfl) ?_
  refine lv_bipush (v := nI 20) hx hb dX1_init_48 (by decide) ?_
  refine va_newa (atype := .int) (N' := 20) (a0 := (20, .inl (fun _ => 0))) (ty := .int) hx hb (hts _ q84) rfl hK hP hD hS hA (fun _ => rfl) (by decide) (nI_clamp (by decide)) (by decide) (Nat.le_of_ble_eq_true rfl) (Nat.le_of_ble_eq_true rfl) dX1_init_50 (fun a6 c6 H hK hP hD hS => ?_)
  have hP : va_P D vwCl [(h0, .inr (1, [.int 0, .ref a1, .ref a2, .ref a3, .ref a4, .ref a5, .int (-1), .int 0, .null, .null, .null, .null])), (a1, .inl (c1, 14, .inl (fun _ => 0))), (a2, .inl (c2, 14, .inl (fun _ => 0))), (a3, .inl (c3, 14, .inl (fun _ => 0))), (a4, .inl (c4, 3, .inl (fun _ => 0))), (a5, .inl (c5, 2, .inl (fun _ => 0))), (a6, .inl (c6, 20, .inl (fun _ => 0)))] H := hP
  have hD : va_D A [(h0, .inr (1, [.int 0, .ref a1, .ref a2, .ref a3, .ref a4, .ref a5, .int (-1), .int 0, .null, .null, .null, .null])), (a1, .inl (c1, 14, .inl (fun _ => 0))), (a2, .inl (c2, 14, .inl (fun _ => 0))), (a3, .inl (c3, 14, .inl (fun _ => 0))), (a4, .inl (c4, 3, .inl (fun _ => 0))), (a5, .inl (c5, 2, .inl (fun _ => 0))), (a6, .inl (c6, 20, .inl (fun _ => 0)))] := hD
  refine W.widen (k := 6) (n := 67) (Nat.le_of_ble_eq_true rfl) (Nat.le_of_ble_eq_true rfl) ?_
  refine va_put (D := D) (ci := 1) (v := .ref a6) (ty := .array .int) (C := RX1) (T := TX1) (N := 12) hx hb hts in_X1 tyX1 tyX1_ok nmX1 hown hK hP hD hS 0 rfl rfl 8 (by decide) (hts _ q234) (fun _ h9 => h9) rfl (by decide +kernel) rfl rfl (Nat.le_of_ble_eq_true rfl) dX1_init_52 (fun H locs hP hD hS => ?_)
  have hP : va_P D vwCl [(h0, .inr (1, [.int 0, .ref a1, .ref a2, .ref a3, .ref a4, .ref a5, .int (-1), .int 0, .ref a6, .null, .null, .null])), (a1, .inl (c1, 14, .inl (fun _ => 0))), (a2, .inl (c2, 14, .inl (fun _ => 0))), (a3, .inl (c3, 14, .inl (fun _ => 0))), (a4, .inl (c4, 3, .inl (fun _ => 0))), (a5, .inl (c5, 2, .inl (fun _ => 0))), (a6, .inl (c6, 20, .inl (fun _ => 0)))] H := hP
  have hD : va_D A [(h0, .inr (1, [.int 0, .ref a1, .ref a2, .ref a3, .ref a4, .ref a5, .int (-1), .int 0, .ref a6, .null, .null, .null])), (a1, .inl (c1, 14, .inl (fun _ => 0))), (a2, .inl (c2, 14, .inl (fun _ => 0))), (a3, .inl (c3, 14, .inl (fun _ => 0))), (a4, .inl (c4, 3, .inl (fun _ => 0))), (a5, .inl (c5, 2, .inl (fun _ => 0))), (a6, .inl (c6, 20, .inl (fun _ => 0)))] := hD
  refine lv_aload_n hx hb dX1_init_55 rfl (lv_at hl 0 rfl) ?_
  refine lv_bipush (v := nI 20) hx hb dX1_init_56 (by decide) ?_
  refine va_newa (atype := .int) (N' := 20) (a0 := (20, .inl (fun _ => 0))) (ty := .int) hx hb (hts _ q84) rfl hK hP hD hS hA (fun _ => rfl) (by decide) (nI_clamp (by decide)) (by decide) (Nat.le_of_ble_eq_true rfl) (Nat.le_of_ble_eq_true rfl) dX1_init_58 (fun a7 c7 H hK hP hD hS => ?_)
  have hP : va_P D vwCl [(h0, .inr (1, [.int 0, .ref a1, .ref a2, .ref a3, .ref a4, .ref a5, .int (-1), .int 0, .ref a6, .null, .null, .null])), (a1, .inl (c1, 14, .inl (fun _ => 0))), (a2, .inl (c2, 14, .inl (fun _ => 0))), (a3, .inl (c3, 14, .inl (fun _ => 0))), (a4, .inl (c4, 3, .inl (fun _ => 0))), (a5, .inl (c5, 2, .inl (fun _ => 0))), (a6, .inl (c6, 20, .inl (fun _ => 0))), (a7, .inl (c7, 20, .inl (fun _ => 0)))] H := hP
  have hD : va_D A [(h0, .inr (1, [.int 0, .ref a1, .ref a2, .ref a3, .ref a4, .ref a5, .int (-1), .int 0, .ref a6, .null, .null, .null])), (a1, .inl (c1, 14, .inl (fun _ => 0))), (a2, .inl (c2, 14, .inl (fun _ => 0))), (a3, .inl (c3, 14, .inl (fun _ => 0))), (a4, .inl (c4, 3, .inl (fun _ => 0))), (a5, .inl (c5, 2, .inl (fun _ => 0))), (a6, .inl (c6, 20, .inl (fun _ => 0))), (a7, .inl (c7, 20, .inl (fun _ => 0)))] := hD
  refine W.widen (k := 7) (n := 87) (Nat.le_of_ble_eq_true rfl) (Nat.le_of_ble_eq_true rfl) ?_
  refine va_put (D := D) (ci := 1) (v := .ref a7) (ty := .array .int) (C := RX1) (T := TX1) (N := 12) hx hb hts in_X1 tyX1 tyX1_ok nmX1 hown hK hP hD hS 0 rfl rfl 9 (by decide) (hts _ q235) (fun _ h9 => h9) rfl (by decide +kernel) rfl rfl (Nat.le_of_ble_eq_true rfl) dX1_init_60 (fun H locs hP hD hS => ?_)
  have hP : va_P D vwCl [(h0, .inr (1, [.int 0, .ref a1, .ref a2, .ref a3, .ref a4, .ref a5, .int (-1), .int 0, .ref a6, .ref a7, .null, .null])), (a1, .inl (c1, 14, .inl (fun _ => 0))), (a2, .inl (c2, 14, .inl (fun _ => 0))), (a3, .inl (c3, 14, .inl (fun _ => 0))), (a4, .inl (c4, 3, .inl (fun _ => 0))), (a5, .inl (c5, 2, .inl (fun _ => 0))), (a6, .inl (c6, 20, .inl (fun _ => 0))), (a7, .inl (c7, 20, .inl (fun _ => 0)))] H := hP
  have hD : va_D A [(h0, .inr (1, [.int 0, .ref a1, .ref a2, .ref a3, .ref a4, .ref a5, .int (-1), .int 0, .ref a6, .ref a7, .null, .null])), (a1, .inl (c1, 14, .inl (fun _ => 0))), (a2, .inl (c2, 14, .inl (fun _ => 0))), (a3, .inl (c3, 14, .inl (fun _ => 0))), (a4, .inl (c4, 3, .inl (fun _ => 0))), (a5, .inl (c5, 2, .inl (fun _ => 0))), (a6, .inl (c6, 20, .inl (fun _ => 0))), (a7, .inl (c7, 20, .inl (fun _ => 0)))] := hD
  refine lv_aload_n hx hb dX1_init_63 rfl (lv_at hl 0 rfl) ?_
  refine lv_bipush (v := nI 20) hx hb dX1_init_64 (by decide) ?_
  refine va_newa (atype := .int) (N' := 20) (a0 := (20, .inl (fun _ => 0))) (ty := .int) hx hb (hts _ q84) rfl hK hP hD hS hA (fun _ => rfl) (by decide) (nI_clamp (by decide)) (by decide) (Nat.le_of_ble_eq_true rfl) (Nat.le_of_ble_eq_true rfl) dX1_init_66 (fun a8 c8 H hK hP hD hS => ?_)
  have hP : va_P D vwCl [(h0, .inr (1, [.int 0, .ref a1, .ref a2, .ref a3, .ref a4, .ref a5, .int (-1), .int 0, .ref a6, .ref a7, .null, .null])), (a1, .inl (c1, 14, .inl (fun _ => 0))), (a2, .inl (c2, 14, .inl (fun _ => 0))), (a3, .inl (c3, 14, .inl (fun _ => 0))), (a4, .inl (c4, 3, .inl (fun _ => 0))), (a5, .inl (c5, 2, .inl (fun _ => 0))), (a6, .inl (c6, 20, .inl (fun _ => 0))), (a7, .inl (c7, 20, .inl (fun _ => 0))), (a8, .inl (c8, 20, .inl (fun _ => 0)))] H := hP
  have hD : va_D A [(h0, .inr (1, [.int 0, .ref a1, .ref a2, .ref a3, .ref a4, .ref a5, .int (-1), .int 0, .ref a6, .ref a7, .null, .null])), (a1, .inl (c1, 14, .inl (fun _ => 0))), (a2, .inl (c2, 14, .inl (fun _ => 0))), (a3, .inl (c3, 14, .inl (fun _ => 0))), (a4, .inl (c4, 3, .inl (fun _ => 0))), (a5, .inl (c5, 2, .inl (fun _ => 0))), (a6, .inl (c6, 20, .inl (fun _ => 0))), (a7, .inl (c7, 20, .inl (fun _ => 0))), (a8, .inl (c8, 20, .inl (fun _ => 0)))] := hD
  refine W.widen (k := 8) (n := 107) (Nat.le_of_ble_eq_true rfl) (Nat.le_of_ble_eq_true rfl) ?_
  refine va_put (D := D) (ci := 1) (v := .ref a8) (ty := .array .int) (C := RX1) (T := TX1) (N := 12) hx hb hts in_X1 tyX1 tyX1_ok nmX1 hown hK hP hD hS 0 rfl rfl 10 (by decide) (hts _ q236) (fun _ h9 => h9) rfl (by decide +kernel) rfl rfl (Nat.le_of_ble_eq_true rfl) dX1_init_68 (fun H locs hP hD hS => ?_)
  have hP : va_P D vwCl [(h0, .inr (1, [.int 0, .ref a1, .ref a2, .ref a3, .ref a4, .ref a5, .int (-1), .int 0, .ref a6, .ref a7, .ref a8, .null])), (a1, .inl (c1, 14, .inl (fun _ => 0))), (a2, .inl (c2, 14, .inl (fun _ => 0))), (a3, .inl (c3, 14, .inl (fun _ => 0))), (a4, .inl (c4, 3, .inl (fun _ => 0))), (a5, .inl (c5, 2, .inl (fun _ => 0))), (a6, .inl (c6, 20, .inl (fun _ => 0))), (a7, .inl (c7, 20, .inl (fun _ => 0))), (a8, .inl (c8, 20, .inl (fun _ => 0)))] H := hP
  have hD : va_D A [(h0, .inr (1, [.int 0, .ref a1, .ref a2, .ref a3, .ref a4, .ref a5, .int (-1), .int 0, .ref a6, .ref a7, .ref a8, .null])), (a1, .inl (c1, 14, .inl (fun _ => 0))), (a2, .inl (c2, 14, .inl (fun _ => 0))), (a3, .inl (c3, 14, .inl (fun _ => 0))), (a4, .inl (c4, 3, .inl (fun _ => 0))), (a5, .inl (c5, 2, .inl (fun _ => 0))), (a6, .inl (c6, 20, .inl (fun _ => 0))), (a7, .inl (c7, 20, .inl (fun _ => 0))), (a8, .inl (c8, 20, .inl (fun _ => 0)))] := hD
  refine lv_aload_n hx hb dX1_init_71 rfl (lv_at hl 0 rfl) ?_
  refine lv_bipush (v := nI 21) hx hb dX1_init_72 (by decide) ?_
  refine va_newa (atype := .int) (N' := 21) (a0 := (21, .inl (fun _ => 0))) (ty := .int) hx hb (hts _ q84) rfl hK hP hD hS hA (fun _ => rfl) (by decide) (nI_clamp (by decide)) (by decide) (Nat.le_of_ble_eq_true rfl) (Nat.le_of_ble_eq_true rfl) dX1_init_74 (fun a9 c9 H hK hP hD hS => ?_)
  have hP : va_P D vwCl [(h0, .inr (1, [.int 0, .ref a1, .ref a2, .ref a3, .ref a4, .ref a5, .int (-1), .int 0, .ref a6, .ref a7, .ref a8, .null])), (a1, .inl (c1, 14, .inl (fun _ => 0))), (a2, .inl (c2, 14, .inl (fun _ => 0))), (a3, .inl (c3, 14, .inl (fun _ => 0))), (a4, .inl (c4, 3, .inl (fun _ => 0))), (a5, .inl (c5, 2, .inl (fun _ => 0))), (a6, .inl (c6, 20, .inl (fun _ => 0))), (a7, .inl (c7, 20, .inl (fun _ => 0))), (a8, .inl (c8, 20, .inl (fun _ => 0))), (a9, .inl (c9, 21, .inl (fun _ => 0)))] H := hP
  have hD : va_D A [(h0, .inr (1, [.int 0, .ref a1, .ref a2, .ref a3, .ref a4, .ref a5, .int (-1), .int 0, .ref a6, .ref a7, .ref a8, .null])), (a1, .inl (c1, 14, .inl (fun _ => 0))), (a2, .inl (c2, 14, .inl (fun _ => 0))), (a3, .inl (c3, 14, .inl (fun _ => 0))), (a4, .inl (c4, 3, .inl (fun _ => 0))), (a5, .inl (c5, 2, .inl (fun _ => 0))), (a6, .inl (c6, 20, .inl (fun _ => 0))), (a7, .inl (c7, 20, .inl (fun _ => 0))), (a8, .inl (c8, 20, .inl (fun _ => 0))), (a9, .inl (c9, 21, .inl (fun _ => 0)))] := hD
  refine W.widen (k := 9) (n := 128) (Nat.le_of_ble_eq_true rfl) (Nat.le_of_ble_eq_true rfl) ?_
  refine va_put (D := D) (ci := 1) (v := .ref a9) (ty := .array .int) (C := RX1) (T := TX1) (N := 12) hx hb hts in_X1 tyX1 tyX1_ok nmX1 hown hK hP hD hS 0 rfl rfl 11 (by decide) (hts _ q237) (fun _ h9 => h9) rfl (by decide +kernel) rfl rfl (Nat.le_of_ble_eq_true rfl) dX1_init_76 (fun H locs hP hD hS => ?_)
  have hP : va_P D vwCl [(h0, .inr (1, [.int 0, .ref a1, .ref a2, .ref a3, .ref a4, .ref a5, .int (-1), .int 0, .ref a6, .ref a7, .ref a8, .ref a9])), (a1, .inl (c1, 14, .inl (fun _ => 0))), (a2, .inl (c2, 14, .inl (fun _ => 0))), (a3, .inl (c3, 14, .inl (fun _ => 0))), (a4, .inl (c4, 3, .inl (fun _ => 0))), (a5, .inl (c5, 2, .inl (fun _ => 0))), (a6, .inl (c6, 20, .inl (fun _ => 0))), (a7, .inl (c7, 20, .inl (fun _ => 0))), (a8, .inl (c8, 20, .inl (fun _ => 0))), (a9, .inl (c9, 21, .inl (fun _ => 0)))] H := hP
  have hD : va_D A [(h0, .inr (1, [.int 0, .ref a1, .ref a2, .ref a3, .ref a4, .ref a5, .int (-1), .int 0, .ref a6, .ref a7, .ref a8, .ref a9])), (a1, .inl (c1, 14, .inl (fun _ => 0))), (a2, .inl (c2, 14, .inl (fun _ => 0))), (a3, .inl (c3, 14, .inl (fun _ => 0))), (a4, .inl (c4, 3, .inl (fun _ => 0))), (a5, .inl (c5, 2, .inl (fun _ => 0))), (a6, .inl (c6, 20, .inl (fun _ => 0))), (a7, .inl (c7, 20, .inl (fun _ => 0))), (a8, .inl (c8, 20, .inl (fun _ => 0))), (a9, .inl (c9, 21, .inl (fun _ => 0)))] := hD
  have hK : va_K D vwCl [(c1, .int), (c2, .int), (c3, .int), (c4, .int), (c5, .int), (c6, .int), (c7, .int), (c8, .int), (c9, .int)] s := hK
  refine lv_iconst (v := nI 0) hx hb dX1_init_79 (by decide) ?_
  refine lv_istore_n (lv' := [(1, .int (nI 0)), (0, .ref h0)]) hx hb dX1_init_80 rfl hl (by decide) rfl (fun ls hl => ?_)
  refine lv_iload_n hx hb dX1_init_81 rfl (lv_at hl 0 rfl) ?_
  refine lv_iconst (v := nI 3) hx hb dX1_init_82 (by decide) ?_
  refine n_ge (tgt := 101) hx hb dX1_init_83 (by decide) (by decide) (by decide) (fun c9 => absurd c9 (by decide)) (fun _ => ?_)
  refine lv_aload_n hx hb dX1_init_86 rfl (lv_at hl 1 rfl) ?_
  refine va_get (D := D) (ci := 1) (v := .ref a4) (C := RX1) (T := TX1) (N := 12) hx hb hts in_X1 hown hK hP 0 rfl rfl 4 (by decide) (hts _ q230) (fun _ h9 => h9) rfl dX1_init_87 ?_
  refine lv_iload_n hx hb dX1_init_90 rfl (lv_at hl 0 rfl) ?_
  refine lv_iconst (v := nI 4) hx hb dX1_init_91 (by decide) ?_
  refine lv_iload_n hx hb dX1_init_92 rfl (lv_at hl 0 rfl) ?_
  refine n_iadd hx hb dX1_init_93 ?_
  refine va_iast hx hb hK hP hD hS 4 3 rfl rfl (vp_in_nI (show 0 < 3 by decide) (by decide)) dX1_init_94 (fun H locs hP hD hS => ?_)
  rw [show (nI 0).toNatClampNeg = 0 from nI_clamp (by decide)] at hP hD
  have hP : va_P D vwCl [(h0, .inr (1, [.int 0, .ref a1, .ref a2, .ref a3, .ref a4, .ref a5, .int (-1), .int 0, .ref a6, .ref a7, .ref a8, .ref a9])), (a1, .inl (c1, 14, .inl (fun _ => 0))), (a2, .inl (c2, 14, .inl (fun _ => 0))), (a3, .inl (c3, 14, .inl (fun _ => 0))), (a4, .inl (c4, 3, .inl (upd (fun _ => 0) 0 (nI 4)))), (a5, .inl (c5, 2, .inl (fun _ => 0))), (a6, .inl (c6, 20, .inl (fun _ => 0))), (a7, .inl (c7, 20, .inl (fun _ => 0))), (a8, .inl (c8, 20, .inl (fun _ => 0))), (a9, .inl (c9, 21, .inl (fun _ => 0)))] H := hP
  have hD : va_D A [(h0, .inr (1, [.int 0, .ref a1, .ref a2, .ref a3, .ref a4, .ref a5, .int (-1), .int 0, .ref a6, .ref a7, .ref a8, .ref a9])), (a1, .inl (c1, 14, .inl (fun _ => 0))), (a2, .inl (c2, 14, .inl (fun _ => 0))), (a3, .inl (c3, 14, .inl (fun _ => 0))), (a4, .inl (c4, 3, .inl (upd (fun _ => 0) 0 (nI 4)))), (a5, .inl (c5, 2, .inl (fun _ => 0))), (a6, .inl (c6, 20, .inl (fun _ => 0))), (a7, .inl (c7, 20, .inl (fun _ => 0))), (a8, .inl (c8, 20, .inl (fun _ => 0))), (a9, .inl (c9, 21, .inl (fun _ => 0)))] := hD
  refine lv_iinc (v := nI 1) (lv' := [(1, .int (nI 1)), (0, .ref h0)]) hx hb dX1_init_95 hl (k := 0) rfl (n_inc _) (by decide) rfl (fun ls hl => ?_)
  refine lv_goto (tgt := 81) hx hb dX1_init_98 (by decide) ?_
  refine lv_iload_n hx hb dX1_init_81 rfl (lv_at hl 0 rfl) ?_
  refine lv_iconst (v := nI 3) hx hb dX1_init_82 (by decide) ?_
  refine n_ge (tgt := 101) hx hb dX1_init_83 (by decide) (by decide) (by decide) (fun c9 => absurd c9 (by decide)) (fun _ => ?_)
  refine lv_aload_n hx hb dX1_init_86 rfl (lv_at hl 1 rfl) ?_
  refine va_get (D := D) (ci := 1) (v := .ref a4) (C := RX1) (T := TX1) (N := 12) hx hb hts in_X1 hown hK hP 0 rfl rfl 4 (by decide) (hts _ q230) (fun _ h9 => h9) rfl dX1_init_87 ?_
  refine lv_iload_n hx hb dX1_init_90 rfl (lv_at hl 0 rfl) ?_
  refine lv_iconst (v := nI 4) hx hb dX1_init_91 (by decide) ?_
  refine lv_iload_n hx hb dX1_init_92 rfl (lv_at hl 0 rfl) ?_
  refine n_iadd hx hb dX1_init_93 ?_
  refine va_iast hx hb hK hP hD hS 4 3 rfl rfl (vp_in_nI (show 1 < 3 by decide) (by decide)) dX1_init_94 (fun H locs hP hD hS => ?_)
  rw [show (nI 1).toNatClampNeg = 1 from nI_clamp (by decide)] at hP hD
  have hP : va_P D vwCl [(h0, .inr (1, [.int 0, .ref a1, .ref a2, .ref a3, .ref a4, .ref a5, .int (-1), .int 0, .ref a6, .ref a7, .ref a8, .ref a9])), (a1, .inl (c1, 14, .inl (fun _ => 0))), (a2, .inl (c2, 14, .inl (fun _ => 0))), (a3, .inl (c3, 14, .inl (fun _ => 0))), (a4, .inl (c4, 3, .inl (upd (upd (fun _ => 0) 0 (nI 4)) 1 (nI 5)))), (a5, .inl (c5, 2, .inl (fun _ => 0))), (a6, .inl (c6, 20, .inl (fun _ => 0))), (a7, .inl (c7, 20, .inl (fun _ => 0))), (a8, .inl (c8, 20, .inl (fun _ => 0))), (a9, .inl (c9, 21, .inl (fun _ => 0)))] H := hP
  have hD : va_D A [(h0, .inr (1, [.int 0, .ref a1, .ref a2, .ref a3, .ref a4, .ref a5, .int (-1), .int 0, .ref a6, .ref a7, .ref a8, .ref a9])), (a1, .inl (c1, 14, .inl (fun _ => 0))), (a2, .inl (c2, 14, .inl (fun _ => 0))), (a3, .inl (c3, 14, .inl (fun _ => 0))), (a4, .inl (c4, 3, .inl (upd (upd (fun _ => 0) 0 (nI 4)) 1 (nI 5)))), (a5, .inl (c5, 2, .inl (fun _ => 0))), (a6, .inl (c6, 20, .inl (fun _ => 0))), (a7, .inl (c7, 20, .inl (fun _ => 0))), (a8, .inl (c8, 20, .inl (fun _ => 0))), (a9, .inl (c9, 21, .inl (fun _ => 0)))] := hD
  refine lv_iinc (v := nI 2) (lv' := [(1, .int (nI 2)), (0, .ref h0)]) hx hb dX1_init_95 hl (k := 0) rfl (n_inc _) (by decide) rfl (fun ls hl => ?_)
  refine lv_goto (tgt := 81) hx hb dX1_init_98 (by decide) ?_
  refine lv_iload_n hx hb dX1_init_81 rfl (lv_at hl 0 rfl) ?_
  refine lv_iconst (v := nI 3) hx hb dX1_init_82 (by decide) ?_
  refine n_ge (tgt := 101) hx hb dX1_init_83 (by decide) (by decide) (by decide) (fun c9 => absurd c9 (by decide)) (fun _ => ?_)
  refine lv_aload_n hx hb dX1_init_86 rfl (lv_at hl 1 rfl) ?_
  refine va_get (D := D) (ci := 1) (v := .ref a4) (C := RX1) (T := TX1) (N := 12) hx hb hts in_X1 hown hK hP 0 rfl rfl 4 (by decide) (hts _ q230) (fun _ h9 => h9) rfl dX1_init_87 ?_
  refine lv_iload_n hx hb dX1_init_90 rfl (lv_at hl 0 rfl) ?_
  refine lv_iconst (v := nI 4) hx hb dX1_init_91 (by decide) ?_
  refine lv_iload_n hx hb dX1_init_92 rfl (lv_at hl 0 rfl) ?_
  refine n_iadd hx hb dX1_init_93 ?_
  refine va_iast hx hb hK hP hD hS 4 3 rfl rfl (vp_in_nI (show 2 < 3 by decide) (by decide)) dX1_init_94 (fun H locs hP hD hS => ?_)
  rw [show (nI 2).toNatClampNeg = 2 from nI_clamp (by decide)] at hP hD
  have hP : va_P D vwCl [(h0, .inr (1, [.int 0, .ref a1, .ref a2, .ref a3, .ref a4, .ref a5, .int (-1), .int 0, .ref a6, .ref a7, .ref a8, .ref a9])), (a1, .inl (c1, 14, .inl (fun _ => 0))), (a2, .inl (c2, 14, .inl (fun _ => 0))), (a3, .inl (c3, 14, .inl (fun _ => 0))), (a4, .inl (c4, 3, .inl (upd (upd (upd (fun _ => 0) 0 (nI 4)) 1 (nI 5)) 2 (nI 6)))), (a5, .inl (c5, 2, .inl (fun _ => 0))), (a6, .inl (c6, 20, .inl (fun _ => 0))), (a7, .inl (c7, 20, .inl (fun _ => 0))), (a8, .inl (c8, 20, .inl (fun _ => 0))), (a9, .inl (c9, 21, .inl (fun _ => 0)))] H := hP
  have hD : va_D A [(h0, .inr (1, [.int 0, .ref a1, .ref a2, .ref a3, .ref a4, .ref a5, .int (-1), .int 0, .ref a6, .ref a7, .ref a8, .ref a9])), (a1, .inl (c1, 14, .inl (fun _ => 0))), (a2, .inl (c2, 14, .inl (fun _ => 0))), (a3, .inl (c3, 14, .inl (fun _ => 0))), (a4, .inl (c4, 3, .inl (upd (upd (upd (fun _ => 0) 0 (nI 4)) 1 (nI 5)) 2 (nI 6)))), (a5, .inl (c5, 2, .inl (fun _ => 0))), (a6, .inl (c6, 20, .inl (fun _ => 0))), (a7, .inl (c7, 20, .inl (fun _ => 0))), (a8, .inl (c8, 20, .inl (fun _ => 0))), (a9, .inl (c9, 21, .inl (fun _ => 0)))] := hD
  refine lv_iinc (v := nI 3) (lv' := [(1, .int (nI 3)), (0, .ref h0)]) hx hb dX1_init_95 hl (k := 0) rfl (n_inc _) (by decide) rfl (fun ls hl => ?_)
  refine lv_goto (tgt := 81) hx hb dX1_init_98 (by decide) ?_
  refine lv_iload_n hx hb dX1_init_81 rfl (lv_at hl 0 rfl) ?_
  refine lv_iconst (v := nI 3) hx hb dX1_init_82 (by decide) ?_
  refine n_ge (tgt := 101) hx hb dX1_init_83 (by decide) (by decide) (by decide) (fun _ => ?_) (fun c9 => absurd c9 (by decide))
  have e2 := ra_i (hK.2 0 (c1, .int) rfl).2 (hK.2 1 (c2, .int) rfl).2
  have e3 := ra_i (hK.2 0 (c1, .int) rfl).2 (hK.2 2 (c3, .int) rfl).2
  have e4 := ra_i (hK.2 0 (c1, .int) rfl).2 (hK.2 3 (c4, .int) rfl).2
  have e5 := ra_i (hK.2 0 (c1, .int) rfl).2 (hK.2 4 (c5, .int) rfl).2
  have e6 := ra_i (hK.2 0 (c1, .int) rfl).2 (hK.2 5 (c6, .int) rfl).2
  have e7 := ra_i (hK.2 0 (c1, .int) rfl).2 (hK.2 6 (c7, .int) rfl).2
  have e8 := ra_i (hK.2 0 (c1, .int) rfl).2 (hK.2 7 (c8, .int) rfl).2
  have e9 := ra_i (hK.2 0 (c1, .int) rfl).2 (hK.2 8 (c9, .int) rfl).2
  subst e2 e3 e4 e5 e6 e7 e8 e9
  have hK2 := hK.sub (tys' := tyM c1) [0] rfl
  have hP : va_P D vwCl (wM c1 (hv h0 a1 a2 a3 a4 a5 a6 a7 a8 a9) (C0, -1, 0, fun _ => 0, fun _ => 0, fun _ => 0, fun _ => 0)) H := hP
  have hD : va_D A (wM c1 (hv h0 a1 a2 a3 a4 a5 a6 a7 a8 a9) (C0, -1, 0, fun _ => 0, fun _ => 0, fun _ => 0, fun _ => 0)) := hD
  have hx9 := x_of (h := (hv h0 a1 a2 a3 a4 a5 a6 a7 a8 a9)) (w := wM c1 (hv h0 a1 a2 a3 a4 a5 a6 a7 a8 a9) (C0, -1, 0, fun _ => 0, fun _ => 0, fun _ => 0, fun _ => 0)) rfl hD
  exact W.vret hx hb hr (fun t ht hW => ⟨⟨(), rfl, trivial, c1, (hv h0 a1 a2 a3 a4 a5 a6 a7 a8 a9), rfl, hx9.1, hx9.2, by rw [ht]; exact hP, va_K.moved hW.alike hK2⟩, hS.F ht⟩) hS.2.2 dX1_init_101
end
section
set_option maxRecDepth 100000
/-! THE CLAIM OUT OF ONE WALK OF THE LAW'S BODY. Your part is whole_start (and what it stands on); all else here is the same for every law, but numbers. -/
def R_law : String := "ScanDiagnoseLaw"
def lw_P (b : Addr) (xs : List Int32) (args : Array Value) (s : State) : Prop := args = #[.ref b] ∧ s.IntsAt b xs ∧ xs.length ≤ 256 ∧ (Jvm.Cond.and given_1 narrow_1).before args s = true
def lw_Q (_ : Array Value) (s : State) (o : Outcome) (t : State) : Prop := o = .returned (some (.int 1)) ∧ Framed s o t [] 600000 7290000
def lw_Z (below : List Frame) (a : Array Value) (s : State) : State → Prop := fun t => ∃ o, t.status = .running ∧ Ended t below o ∧ lw_Q a s o t
/-- the law's own end, with 1 on the stack, nothing written that was there before, its room as the claim has it -/
theorem lw_ret {p : Program} {l : Launch} {e : Env} {s : State} {m : MethodId} {below : List Frame} {meth : Method} {c : Code} {b : Nat} (hx : p.tables.exec = Jvm.exec) (hb : c.code = code) (hr : meth.sig.returnType = ret) (hlocks : meth.locks = false) {pc : Nat} {H : Heap} {ls : Array Slot} (hdg : decode code pc = .ok (.ireturn, 1)) : W p l e room_1 s m #[Value.ref b] below meth c H [] 600000 7290000 (lw_Z below #[Value.ref b] s) (F0 m pc ls [.int 1]) := by
  intro T hT X
  obtain ⟨fs, hret, hrun, hended, hW, hframe⟩ := X.leave (v := some (.int 1)) (hlocks := hlocks) (fun h => by rw [hr] at h; cases h)
  have hmeth' : T.vm.method? m = some meth := X.method'
  refine ⟨T.setFrames fs, ?_, .returned (some (.int 1)), hrun, hended, rfl, ⟨_, rfl⟩, hW, hframe⟩
  jvm_step X.here [X.here.top, hx, hb, hdg, hmeth', hr, ret, narrow_b1]
  (try refine ⟨rfl, ?_⟩); (try refine ⟨rfl, ?_⟩)
  first | (intro acts; rw [hret _ acts rfl rfl rfl]) | rw [hret _ _ rfl rfl rfl]
  exact Steps.refl _
/-- what holds at the law's entry: the machine, the code, the tables' words (any of lw_tbl by 'hts w (by decide +kernel)'), the script of L ints xs at the cell b, what the Statement gives of the start (any of its parts by flat_of_before) -/
def lw_At (p : Program) (s : State) (m : MethodId) (meth : Method) (c : Code) (b L : Nat) (xs : Nat → Int32) : Prop :=
  p.tables.exec = Jvm.exec ∧ c.code = code ∧ meth.sig.returnType = ret ∧ c.maxLocals = 4 ∧ s.vm.findClass R_law = some m.cls ∧ (∀ w ∈ lw_tbl, w.before #[Value.ref b] s = true) ∧ va_X b L xs s s.heap ∧ b < s.heap.size ∧ meth.locks = false ∧ (Jvm.Cond.and given_1 narrow_1).before #[Value.ref b] s = true
end
section
/-! the law: its two worlds, its calls -/
set_option maxRecDepth 100000
theorem cwL_X0_gate {R : Room} {s : State} {args : Array Value} (hts : ∀ w ∈ lw_all, w.before args s = true) (hR : rmX0_gate.frames + 1 ≤ R.frames ∧ 8 + (4 + 11) + rmX0_gate.locals ≤ R.locals) : CallW R s args R_law RX0 13 yX0_gate cX0_gate 4 (some .int) (ws_ yX0_gate cX0_gate 4 (some .int)) rmX0_gate 0 0 3 := cwV 3 hts (lw_V q86 q87 q88 q23 q89) rfl rfl rfl (by decide +kernel) hR
theorem cwL_X0_feed {R : Room} {s : State} {args : Array Value} (hts : ∀ w ∈ lw_all, w.before args s = true) (hR : rmX0_feed.frames + 1 ≤ R.frames ∧ 8 + (4 + 11) + rmX0_feed.locals ≤ R.locals) : CallW R s args R_law RX0 18 yX0_feed cX0_feed 4 (some .int) (ws_ yX0_feed cX0_feed 4 (some .int)) rmX0_feed 0 0 2 := cwV 2 hts (lw_V q94 q95 q96 q23 q97) rfl rfl rfl (by decide +kernel) hR
theorem cwL_X0_output {R : Room} {s : State} {args : Array Value} (hts : ∀ w ∈ lw_all, w.before args s = true) (hR : rmX0_output.frames + 1 ≤ R.frames ∧ 8 + (4 + 11) + rmX0_output.locals ≤ R.locals) : CallW R s args R_law RX0 23 yX0_output cX0_output 4 (some .int) (ws_ yX0_output cX0_output 4 (some .int)) rmX0_output 0 0 2 := cwV 2 hts (lw_V q98 q99 q100 q23 q101) rfl rfl rfl (by decide +kernel) hR
theorem cwL_X0_lines {R : Room} {s : State} {args : Array Value} (hts : ∀ w ∈ lw_all, w.before args s = true) (hR : rmX0_lines.frames + 1 ≤ R.frames ∧ 8 + (1 + 11) + rmX0_lines.locals ≤ R.locals) : CallW R s args R_law RX0 27 yX0_lines cX0_lines 1 (some .int) (ws_ yX0_lines cX0_lines 1 (some .int)) rmX0_lines 0 0 0 := cwV 0 hts (lw_V q102 q103 q104 q23 q105) rfl rfl rfl (by decide +kernel) hR
theorem cwL_X0_inject {R : Room} {s : State} {args : Array Value} (hts : ∀ w ∈ lw_all, w.before args s = true) (hR : rmX0_inject.frames + 1 ≤ R.frames ∧ 8 + (2 + 11) + rmX0_inject.locals ≤ R.locals) : CallW R s args R_law RX0 32 yX0_inject cX0_inject 2 (some .int) (ws_ yX0_inject cX0_inject 2 (some .int)) rmX0_inject 0 0 1 := cwV 1 hts (lw_V q106 q107 q108 q23 q109) rfl rfl rfl (by decide +kernel) hR
theorem cwL_X0_observe {R : Room} {s : State} {args : Array Value} (hts : ∀ w ∈ lw_all, w.before args s = true) (hR : rmX0_observe.frames + 1 ≤ R.frames ∧ 8 + (6 + 11) + rmX0_observe.locals ≤ R.locals) : CallW R s args R_law RX0 37 yX0_observe cX0_observe 6 (some .int) (ws_ yX0_observe cX0_observe 6 (some .int)) rmX0_observe 0 0 2 := cwV 2 hts (lw_V q114 q115 q116 q23 q117) rfl rfl rfl (by decide +kernel) hR
theorem cwL_X0_forget {R : Room} {s : State} {args : Array Value} (hts : ∀ w ∈ lw_all, w.before args s = true) (hR : rmX0_forget.frames + 1 ≤ R.frames ∧ 8 + (2 + 11) + rmX0_forget.locals ≤ R.locals) : CallW R s args R_law RX0 41 yX0_forget cX0_forget 2 (some .int) (ws_ yX0_forget cX0_forget 2 (some .int)) rmX0_forget 0 0 0 := cwV 0 hts (lw_V q142 q143 q144 q23 q145) rfl rfl rfl (by decide +kernel) hR
theorem cwL_X0_observations {R : Room} {s : State} {args : Array Value} (hts : ∀ w ∈ lw_all, w.before args s = true) (hR : rmX0_observations.frames + 1 ≤ R.frames ∧ 8 + (1 + 11) + rmX0_observations.locals ≤ R.locals) : CallW R s args R_law RX0 45 yX0_observations cX0_observations 1 (some .int) (ws_ yX0_observations cX0_observations 1 (some .int)) rmX0_observations 0 0 0 := cwV 0 hts (lw_V q146 q147 q148 q23 q149) rfl rfl rfl (by decide +kernel) hR
theorem cwL_X0_response {R : Room} {s : State} {args : Array Value} (hts : ∀ w ∈ lw_all, w.before args s = true) (hR : rmX0_response.frames + 1 ≤ R.frames ∧ 8 + (3 + 11) + rmX0_response.locals ≤ R.locals) : CallW R s args R_law RX0 49 yX0_response cX0_response 3 (some .int) (ws_ yX0_response cX0_response 3 (some .int)) rmX0_response 0 0 2 := cwV 2 hts (lw_V q150 q151 q152 q23 q153) rfl rfl rfl (by decide +kernel) hR
theorem cwL_X0_responseWith {R : Room} {s : State} {args : Array Value} (hts : ∀ w ∈ lw_all, w.before args s = true) (hR : rmX0_responseWith.frames + 1 ≤ R.frames ∧ 8 + (4 + 11) + rmX0_responseWith.locals ≤ R.locals) : CallW R s args R_law RX0 53 yX0_responseWith cX0_responseWith 4 (some .int) (ws_ yX0_responseWith cX0_responseWith 4 (some .int)) rmX0_responseWith 0 0 3 := cwV 3 hts (lw_V q154 q155 q156 q23 q157) rfl rfl rfl (by decide +kernel) hR
theorem cwL_X0_candidates {R : Room} {s : State} {args : Array Value} (hts : ∀ w ∈ lw_all, w.before args s = true) (hR : rmX0_candidates.frames + 1 ≤ R.frames ∧ 8 + (1 + 11) + rmX0_candidates.locals ≤ R.locals) : CallW R s args R_law RX0 57 yX0_candidates cX0_candidates 1 (some .int) (ws_ yX0_candidates cX0_candidates 1 (some .int)) rmX0_candidates 0 0 0 := cwV 0 hts (lw_V q158 q159 q160 q23 q161) rfl rfl rfl (by decide +kernel) hR
theorem cwL_X0_candidate {R : Room} {s : State} {args : Array Value} (hts : ∀ w ∈ lw_all, w.before args s = true) (hR : rmX0_candidate.frames + 1 ≤ R.frames ∧ 8 + (5 + 11) + rmX0_candidate.locals ≤ R.locals) : CallW R s args R_law RX0 61 yX0_candidate cX0_candidate 5 (some .int) (ws_ yX0_candidate cX0_candidate 5 (some .int)) rmX0_candidate 0 0 1 := cwV 1 hts (lw_V q173 q174 q175 q23 q176) rfl rfl rfl (by decide +kernel) hR
theorem cwL_X0_healthy {R : Room} {s : State} {args : Array Value} (hts : ∀ w ∈ lw_all, w.before args s = true) (hR : rmX0_healthy.frames + 1 ≤ R.frames ∧ 8 + (1 + 11) + rmX0_healthy.locals ≤ R.locals) : CallW R s args R_law RX0 65 yX0_healthy cX0_healthy 1 (some .int) (ws_ yX0_healthy cX0_healthy 1 (some .int)) rmX0_healthy 0 0 0 := cwV 0 hts (lw_V q177 q178 q179 q23 q180) rfl rfl rfl (by decide +kernel) hR
theorem cwL_X0_nextPattern {R : Room} {s : State} {args : Array Value} (hts : ∀ w ∈ lw_all, w.before args s = true) (hR : rmX0_nextPattern.frames + 1 ≤ R.frames ∧ 8 + (7 + 11) + rmX0_nextPattern.locals ≤ R.locals) : CallW R s args R_law RX0 69 yX0_nextPattern cX0_nextPattern 7 (some .int) (ws_ yX0_nextPattern cX0_nextPattern 7 (some .int)) rmX0_nextPattern 0 0 0 := cwV 0 hts (lw_V q181 q182 q183 q23 q184) rfl rfl rfl (by decide +kernel) hR
theorem cwL_X0_detected {R : Room} {s : State} {args : Array Value} (hts : ∀ w ∈ lw_all, w.before args s = true) (hR : rmX0_detected.frames + 1 ≤ R.frames ∧ 8 + (6 + 11) + rmX0_detected.locals ≤ R.locals) : CallW R s args R_law RX0 73 yX0_detected cX0_detected 6 (some .int) (ws_ yX0_detected cX0_detected 6 (some .int)) rmX0_detected 0 0 2 := cwV 2 hts (lw_V q185 q186 q187 q23 q188) rfl rfl rfl (by decide +kernel) hR
theorem cwL_X0_hidden {R : Room} {s : State} {args : Array Value} (hts : ∀ w ∈ lw_all, w.before args s = true) (hR : rmX0_hidden.frames + 1 ≤ R.frames ∧ 8 + (1 + 11) + rmX0_hidden.locals ≤ R.locals) : CallW R s args R_law RX0 77 yX0_hidden cX0_hidden 1 (some .int) (ws_ yX0_hidden cX0_hidden 1 (some .int)) rmX0_hidden 0 0 0 := cwV 0 hts (lw_V q189 q190 q191 q23 q192) rfl rfl rfl (by decide +kernel) hR
theorem cwL_X0_leader {R : Room} {s : State} {args : Array Value} (hts : ∀ w ∈ lw_all, w.before args s = true) (hR : rmX0_leader.frames + 1 ≤ R.frames ∧ 8 + (2 + 11) + rmX0_leader.locals ≤ R.locals) : CallW R s args R_law RX0 81 yX0_leader cX0_leader 2 (some .int) (ws_ yX0_leader cX0_leader 2 (some .int)) rmX0_leader 0 0 1 := cwV 1 hts (lw_V q201 q202 q203 q23 q204) rfl rfl rfl (by decide +kernel) hR
theorem cwL_X0_groups {R : Room} {s : State} {args : Array Value} (hts : ∀ w ∈ lw_all, w.before args s = true) (hR : rmX0_groups.frames + 1 ≤ R.frames ∧ 8 + (1 + 11) + rmX0_groups.locals ≤ R.locals) : CallW R s args R_law RX0 85 yX0_groups cX0_groups 1 (some .int) (ws_ yX0_groups cX0_groups 1 (some .int)) rmX0_groups 0 0 0 := cwV 0 hts (lw_V q208 q209 q210 q23 q211) rfl rfl rfl (by decide +kernel) hR
theorem cwL_X0_candidateGroups {R : Room} {s : State} {args : Array Value} (hts : ∀ w ∈ lw_all, w.before args s = true) (hR : rmX0_candidateGroups.frames + 1 ≤ R.frames ∧ 8 + (1 + 11) + rmX0_candidateGroups.locals ≤ R.locals) : CallW R s args R_law RX0 89 yX0_candidateGroups cX0_candidateGroups 1 (some .int) (ws_ yX0_candidateGroups cX0_candidateGroups 1 (some .int)) rmX0_candidateGroups 0 0 0 := cwV 0 hts (lw_V q216 q217 q218 q23 q219) rfl rfl rfl (by decide +kernel) hR
theorem cwL_X1_gate {R : Room} {s : State} {args : Array Value} (hts : ∀ w ∈ lw_all, w.before args s = true) (hR : rmX1_gate.frames + 1 ≤ R.frames ∧ 8 + (5 + 11) + rmX1_gate.locals ≤ R.locals) : CallW R s args R_law RX1 17 yX1_gate cX1_gate 5 (some .int) (ws_ yX1_gate cX1_gate 5 (some .int)) rmX1_gate 0 0 3 := cwV 3 hts (lw_V q263 q264 q265 q24 q266) rfl rfl rfl (by decide +kernel) hR
theorem cwL_X1_feed {R : Room} {s : State} {args : Array Value} (hts : ∀ w ∈ lw_all, w.before args s = true) (hR : rmX1_feed.frames + 1 ≤ R.frames ∧ 8 + (4 + 11) + rmX1_feed.locals ≤ R.locals) : CallW R s args R_law RX1 22 yX1_feed cX1_feed 4 (some .int) (ws_ yX1_feed cX1_feed 4 (some .int)) rmX1_feed 0 0 2 := cwV 2 hts (lw_V q275 q276 q277 q24 q278) rfl rfl rfl (by decide +kernel) hR
theorem cwL_X1_output {R : Room} {s : State} {args : Array Value} (hts : ∀ w ∈ lw_all, w.before args s = true) (hR : rmX1_output.frames + 1 ≤ R.frames ∧ 8 + (4 + 11) + rmX1_output.locals ≤ R.locals) : CallW R s args R_law RX1 26 yX1_output cX1_output 4 (some .int) (ws_ yX1_output cX1_output 4 (some .int)) rmX1_output 0 0 2 := cwV 2 hts (lw_V q279 q280 q281 q24 q282) rfl rfl rfl (by decide +kernel) hR
theorem cwL_X1_lines {R : Room} {s : State} {args : Array Value} (hts : ∀ w ∈ lw_all, w.before args s = true) (hR : rmX1_lines.frames + 1 ≤ R.frames ∧ 8 + (1 + 11) + rmX1_lines.locals ≤ R.locals) : CallW R s args R_law RX1 31 yX1_lines cX1_lines 1 (some .int) (ws_ yX1_lines cX1_lines 1 (some .int)) rmX1_lines 0 0 0 := cwV 0 hts (lw_V q283 q284 q285 q24 q286) rfl rfl rfl (by decide +kernel) hR
theorem cwL_X1_inject {R : Room} {s : State} {args : Array Value} (hts : ∀ w ∈ lw_all, w.before args s = true) (hR : rmX1_inject.frames + 1 ≤ R.frames ∧ 8 + (2 + 11) + rmX1_inject.locals ≤ R.locals) : CallW R s args R_law RX1 36 yX1_inject cX1_inject 2 (some .int) (ws_ yX1_inject cX1_inject 2 (some .int)) rmX1_inject 0 0 1 := cwV 1 hts (lw_V q287 q288 q289 q24 q290) rfl rfl rfl (by decide +kernel) hR
theorem cwL_X1_observe {R : Room} {s : State} {args : Array Value} (hts : ∀ w ∈ lw_all, w.before args s = true) (hR : rmX1_observe.frames + 1 ≤ R.frames ∧ 8 + (4 + 11) + rmX1_observe.locals ≤ R.locals) : CallW R s args R_law RX1 40 yX1_observe cX1_observe 4 (some .int) (ws_ yX1_observe cX1_observe 4 (some .int)) rmX1_observe 0 0 2 := cwV 2 hts (lw_V q295 q296 q297 q24 q298) rfl rfl rfl (by decide +kernel) hR
theorem cwL_X1_forget {R : Room} {s : State} {args : Array Value} (hts : ∀ w ∈ lw_all, w.before args s = true) (hR : rmX1_forget.frames + 1 ≤ R.frames ∧ 8 + (2 + 11) + rmX1_forget.locals ≤ R.locals) : CallW R s args R_law RX1 44 yX1_forget cX1_forget 2 (some .int) (ws_ yX1_forget cX1_forget 2 (some .int)) rmX1_forget 0 0 0 := cwV 0 hts (lw_V q319 q320 q321 q24 q322) rfl rfl rfl (by decide +kernel) hR
theorem cwL_X1_observations {R : Room} {s : State} {args : Array Value} (hts : ∀ w ∈ lw_all, w.before args s = true) (hR : rmX1_observations.frames + 1 ≤ R.frames ∧ 8 + (1 + 11) + rmX1_observations.locals ≤ R.locals) : CallW R s args R_law RX1 48 yX1_observations cX1_observations 1 (some .int) (ws_ yX1_observations cX1_observations 1 (some .int)) rmX1_observations 0 0 0 := cwV 0 hts (lw_V q323 q324 q325 q24 q326) rfl rfl rfl (by decide +kernel) hR
theorem cwL_X1_response {R : Room} {s : State} {args : Array Value} (hts : ∀ w ∈ lw_all, w.before args s = true) (hR : rmX1_response.frames + 1 ≤ R.frames ∧ 8 + (3 + 11) + rmX1_response.locals ≤ R.locals) : CallW R s args R_law RX1 52 yX1_response cX1_response 3 (some .int) (ws_ yX1_response cX1_response 3 (some .int)) rmX1_response 0 0 2 := cwV 2 hts (lw_V q327 q328 q329 q24 q330) rfl rfl rfl (by decide +kernel) hR
theorem cwL_X1_responseWith {R : Room} {s : State} {args : Array Value} (hts : ∀ w ∈ lw_all, w.before args s = true) (hR : rmX1_responseWith.frames + 1 ≤ R.frames ∧ 8 + (4 + 11) + rmX1_responseWith.locals ≤ R.locals) : CallW R s args R_law RX1 56 yX1_responseWith cX1_responseWith 4 (some .int) (ws_ yX1_responseWith cX1_responseWith 4 (some .int)) rmX1_responseWith 0 0 3 := cwV 3 hts (lw_V q331 q332 q333 q24 q334) rfl rfl rfl (by decide +kernel) hR
theorem cwL_X1_candidates {R : Room} {s : State} {args : Array Value} (hts : ∀ w ∈ lw_all, w.before args s = true) (hR : rmX1_candidates.frames + 1 ≤ R.frames ∧ 8 + (3 + 11) + rmX1_candidates.locals ≤ R.locals) : CallW R s args R_law RX1 60 yX1_candidates cX1_candidates 3 (some .int) (ws_ yX1_candidates cX1_candidates 3 (some .int)) rmX1_candidates 0 0 0 := cwV 0 hts (lw_V q335 q336 q337 q24 q338) rfl rfl rfl (by decide +kernel) hR
theorem cwL_X1_candidate {R : Room} {s : State} {args : Array Value} (hts : ∀ w ∈ lw_all, w.before args s = true) (hR : rmX1_candidate.frames + 1 ≤ R.frames ∧ 8 + (4 + 11) + rmX1_candidate.locals ≤ R.locals) : CallW R s args R_law RX1 64 yX1_candidate cX1_candidate 4 (some .int) (ws_ yX1_candidate cX1_candidate 4 (some .int)) rmX1_candidate 0 0 1 := cwV 1 hts (lw_V q343 q344 q345 q24 q346) rfl rfl rfl (by decide +kernel) hR
theorem cwL_X1_healthy {R : Room} {s : State} {args : Array Value} (hts : ∀ w ∈ lw_all, w.before args s = true) (hR : rmX1_healthy.frames + 1 ≤ R.frames ∧ 8 + (1 + 11) + rmX1_healthy.locals ≤ R.locals) : CallW R s args R_law RX1 68 yX1_healthy cX1_healthy 1 (some .int) (ws_ yX1_healthy cX1_healthy 1 (some .int)) rmX1_healthy 0 0 0 := cwV 0 hts (lw_V q347 q348 q349 q24 q350) rfl rfl rfl (by decide +kernel) hR
theorem cwL_X1_nextPattern {R : Room} {s : State} {args : Array Value} (hts : ∀ w ∈ lw_all, w.before args s = true) (hR : rmX1_nextPattern.frames + 1 ≤ R.frames ∧ 8 + (5 + 11) + rmX1_nextPattern.locals ≤ R.locals) : CallW R s args R_law RX1 72 yX1_nextPattern cX1_nextPattern 5 (some .int) (ws_ yX1_nextPattern cX1_nextPattern 5 (some .int)) rmX1_nextPattern 0 0 0 := cwV 0 hts (lw_V q351 q352 q353 q24 q354) rfl rfl rfl (by decide +kernel) hR
theorem cwL_X1_detected {R : Room} {s : State} {args : Array Value} (hts : ∀ w ∈ lw_all, w.before args s = true) (hR : rmX1_detected.frames + 1 ≤ R.frames ∧ 8 + (7 + 11) + rmX1_detected.locals ≤ R.locals) : CallW R s args R_law RX1 76 yX1_detected cX1_detected 7 (some .int) (ws_ yX1_detected cX1_detected 7 (some .int)) rmX1_detected 0 0 2 := cwV 2 hts (lw_V q355 q356 q357 q24 q358) rfl rfl rfl (by decide +kernel) hR
theorem cwL_X1_hidden {R : Room} {s : State} {args : Array Value} (hts : ∀ w ∈ lw_all, w.before args s = true) (hR : rmX1_hidden.frames + 1 ≤ R.frames ∧ 8 + (3 + 11) + rmX1_hidden.locals ≤ R.locals) : CallW R s args R_law RX1 80 yX1_hidden cX1_hidden 3 (some .int) (ws_ yX1_hidden cX1_hidden 3 (some .int)) rmX1_hidden 0 0 0 := cwV 0 hts (lw_V q359 q360 q361 q24 q362) rfl rfl rfl (by decide +kernel) hR
theorem cwL_X1_leader {R : Room} {s : State} {args : Array Value} (hts : ∀ w ∈ lw_all, w.before args s = true) (hR : rmX1_leader.frames + 1 ≤ R.frames ∧ 8 + (2 + 11) + rmX1_leader.locals ≤ R.locals) : CallW R s args R_law RX1 84 yX1_leader cX1_leader 2 (some .int) (ws_ yX1_leader cX1_leader 2 (some .int)) rmX1_leader 0 0 1 := cwV 1 hts (lw_V q367 q368 q369 q24 q370) rfl rfl rfl (by decide +kernel) hR
theorem cwL_X1_groups {R : Room} {s : State} {args : Array Value} (hts : ∀ w ∈ lw_all, w.before args s = true) (hR : rmX1_groups.frames + 1 ≤ R.frames ∧ 8 + (3 + 11) + rmX1_groups.locals ≤ R.locals) : CallW R s args R_law RX1 88 yX1_groups cX1_groups 3 (some .int) (ws_ yX1_groups cX1_groups 3 (some .int)) rmX1_groups 0 0 0 := cwV 0 hts (lw_V q375 q376 q377 q24 q378) rfl rfl rfl (by decide +kernel) hR
theorem cwL_X1_candidateGroups {R : Room} {s : State} {args : Array Value} (hts : ∀ w ∈ lw_all, w.before args s = true) (hR : rmX1_candidateGroups.frames + 1 ≤ R.frames ∧ 8 + (3 + 11) + rmX1_candidateGroups.locals ≤ R.locals) : CallW R s args R_law RX1 92 yX1_candidateGroups cX1_candidateGroups 3 (some .int) (ws_ yX1_candidateGroups cX1_candidateGroups 3 (some .int)) rmX1_candidateGroups 0 0 0 := cwV 0 hts (lw_V q379 q380 q381 q24 q382) rfl rfl rfl (by decide +kernel) hR
theorem x_key {h : Nat → Nat} {w : va_W} (hw : w.map Prod.fst = (List.range 10).map h) {k : Nat} (hk : k < 10) : ∃ e : va_E, w[k]? = some (h k, e) := by
  have h1 : (w.map Prod.fst)[k]? = some (h k) := by rw [hw, List.getElem?_map, List.getElem?_range hk]; rfl
  rw [List.getElem?_map] at h1
  cases hq : w[k]? with
  | none => rw [hq] at h1; cases h1
  | some q =>
    rw [hq] at h1
    obtain ⟨a, e⟩ := q
    have h2 : a = h k := Option.some.inj h1
    exact ⟨e, by rw [h2]⟩
theorem x_disj {A : Nat → Prop} {h k : Nat → Nat} {w1 w2 : va_W} (e1 : w1.map Prod.fst = (List.range 10).map h) (e2 : w2.map Prod.fst = (List.range 10).map k) (hD : va_D A (w1 ++ w2)) : ∀ q, xB h q → ¬ xB k q := by
  rintro q ⟨i, hi, rfl⟩ ⟨j, hj, e⟩
  have hl : w1.length = 10 := by
    have := congrArg List.length e1
    rw [List.length_map, List.length_map, List.length_range] at this
    exact this
  obtain ⟨a, ha⟩ := x_key e1 hi
  obtain ⟨b, hb⟩ := x_key e2 hj
  have ha2 : (w1 ++ w2)[i]? = some (h i, a) := by rw [List.getElem?_append_left (by omega)]; exact ha
  have hb2 : (w1 ++ w2)[10 + j]? = some (k j, b) := by rw [List.getElem?_append_right (by omega), hl, Nat.add_sub_cancel_left]; exact hb
  have := hD.1 i (10 + j) _ _ ha2 hb2 e
  omega
/-- what stays through the law's walk -/
def LC (p : Program) (s : State) (m : MethodId) (args : Array Value) (c : Code) (D : va_G) (di dj dk : ClassId) (h k : Nat → Nat) : Prop :=
  p.tables.exec = Jvm.exec ∧ c.code = code ∧ c.maxLocals = 4 ∧ s.vm.findClass R_law = some m.cls ∧ (∀ w ∈ lw_all, w.before args s = true) ∧ va_K D vwCl (tyX di dj) s ∧ va_K D vwCl (tyM dk) s ∧ xD h ∧ xD k ∧ (∀ q, xB h q → ¬ xB k q) ∧ (∀ q, xB h q → s.heap.size ≤ q) ∧ (∀ q, xB k q → s.heap.size ≤ q)
/-- the two worlds now -/
def LG (s : State) (D : va_G) (di dj dk : ClassId) (h k : Nat → Nat) (u : XS) (v : MS) (H : Heap) (locs : List Loc) : Prop := va_P D vwCl (wX di dj h u) H ∧ va_P D vwCl (wM dk k v) H ∧ va_S (fun q : Nat => s.heap.size ≤ q) s.heap H locs
theorem l_keepM {D : va_G} {dk : ClassId} {v : MS} {h k : Nat → Nat} {H H1 : Heap} (hD : xD k) (hP : va_P D vwCl (wM dk k v) H) (hdj : ∀ q, xB k q → ¬ xB h q) (hk1 : ∀ q : Nat, q < H.size → ¬ xB h q → H1[q]? = H[q]?) : va_P D vwCl (wM dk k v) H1 :=
  hP.kept (fun i q hq => hk1 q.1 (hP i q hq).lt (hdj _ ((wM_apart hD).2 i q hq)))
theorem l_keepX {D : va_G} {di dj : ClassId} {u : XS} {h k : Nat → Nat} {H H1 : Heap} (hD : xD h) (hP : va_P D vwCl (wX di dj h u) H) (hdj : ∀ q, xB h q → ¬ xB k q) (hk1 : ∀ q : Nat, q < H.size → ¬ xB k q → H1[q]? = H[q]?) : va_P D vwCl (wX di dj h u) H1 :=
  hP.kept (fun i q hq => hk1 q.1 (hP i q hq).lt (hdj _ ((wX_apart hD).2 i q hq)))
theorem l_in {i L : Nat} (hL : L ≤ 256) (hi : i ≤ L) (h : ¬ Int32.ofNat L - nI 4 < nI i) : i + 4 ≤ L := by
  rw [Int32.lt_iff_toInt_lt, show Int32.ofNat L = nI L from rfl, pk_sub_toInt (by omega) (by omega), nI_toInt (by omega)] at h
  omega
section LR
variable {p : Program} {l : Launch} {e : Env} {R : Room} {s : State} {m : MethodId} {args : Array Value} {below : List Frame} {meth : Method} {c : Code} {H : Heap} {locs : List Loc} {cells slots : Nat} {Q : State → Prop}
variable {pc : Nat} {ls : Array Slot} {rest st0 As : List Value} {D : va_G} {di dj dk : ClassId} {h k : Nat → Nat} {u : XS} {v : MS}
variable {y : MethodName} {bytes : ByteArray} {maxL index n : Nat} {rm : Room} {ty : Option FieldType}
theorem l_sld {b L j : Nat} {xs : Nat → Int32} (K : LC p s m args c D di dj dk h k) (hX : va_X b L xs s s.heap) (hbl : b < s.heap.size) (hL : L ≤ 256) (w : LG s D di dj dk h k u v H locs) (hj : j < L) (hdg : decode code pc = .ok (.iaload, 1))
    (kk : W p l e R s m args below meth c H locs cells slots Q (F0 m (pc + 1) ls (.int (xs j) :: rest))) : W p l e R s m args below meth c H locs cells slots Q (F0 m pc ls (.int (nI j) :: .ref b :: rest)) := by
  have e9 : (nI j).toNatClampNeg = j := nI_clamp (by omega)
  refine va_sld K.1 K.2.1 hX hbl (Nat.not_le.mpr hbl) w.2.2 (vp_in_nI hj (by omega)) hdg ?_
  rw [e9]
  exact kk
theorem l_xi {post : Int32 → XS → Prop} (K : LC p s m args c D di dj dk h k) (w : LG s D di dj dk h k u v H locs) (hM : Met l y (ws_ y bytes maxL ty) rm (GPc D (tyX di dj) h As (wX di dj h u)) (GQi D h (wX di dj h) post) 0 0 (xB h)) (cw : CallW R s args R_law RX0 index y bytes maxL ty (ws_ y bytes maxL ty) rm 0 0 n) (hn : As.length = n) (hsize : ls.size = 4) (hst : st0 = As.reverse ++ .ref (h 0) :: rest) (hW : (rest.map fun v => v.category).sum ≤ 8) (hdg : decode code pc = .ok (.invokevirtual index, 3)) (hf : cells ≤ R.cells ∧ slots ≤ R.slots)
    (kk : ∀ (r : Int32) (u1 : XS) (H : Heap) (locs : List Loc), post r u1 → LG s D di dj dk h k u1 v H locs → W p l e R s m args below meth c H locs cells slots Q (F0 m (pc + 3) ls (.int r :: rest))) : W p l e R s m args below meth c H locs cells slots Q (F0 m pc ls st0) := by
  obtain ⟨hx, hb, hml, hown, hts, hKx, hKm, hDx, hDm, hdj, hAx, hAm⟩ := K
  refine va_calli (va_runV (As := As) (rest := rest) ⟨hx, hb, hml, hown, hts⟩ hM cw ⟨GPc.blind, va_recv hKx w.1 (ci := 0) (q := (RX0, TX0, 15)) (q0 := 0) rfl rfl, fun U hU hW => ⟨rfl, by rw [hU]; exact w.1, va_K.moved hW.alike hKx⟩⟩ rfl hn hsize hst (lv_room hW) hdg hf) w.2.2 (fun q _ h => hAx q h) hAx (fun r u1 t H1 locs ht hvm hp hB hz1 hk1 hS => ?_)
  exact kk r u1 H1 locs hp ⟨by rw [← ht]; exact hB, l_keepM hDm w.2.1 (fun q h1 h2 => hdj q h2 h1) hk1, hS⟩
theorem l_xr {post : Int32 → Prop} (K : LC p s m args c D di dj dk h k) (w : LG s D di dj dk h k u v H locs) (hM : Met l y (ws_ y bytes maxL ty) rm (GPc D (tyX di dj) h As (wX di dj h u)) (vp_Si post) 0 0 (fun _ => False)) (cw : CallW R s args R_law RX0 index y bytes maxL ty (ws_ y bytes maxL ty) rm 0 0 n) (hn : As.length = n) (hsize : ls.size = 4) (hst : st0 = As.reverse ++ .ref (h 0) :: rest) (hW : (rest.map fun v => v.category).sum ≤ 8) (hdg : decode code pc = .ok (.invokevirtual index, 3)) (hf : cells ≤ R.cells ∧ slots ≤ R.slots)
    (kk : ∀ (r : Int32), post r → W p l e R s m args below meth c H locs cells slots Q (F0 m (pc + 3) ls (.int r :: rest))) : W p l e R s m args below meth c H locs cells slots Q (F0 m pc ls st0) := by
  obtain ⟨hx, hb, hml, hown, hts, hKx, hKm, hDx, hDm, hdj, hAx, hAm⟩ := K
  exact vp_callSi (W.runV (As := As) (rest := rest) ⟨hx, hb, hml, hown, hts⟩ hM cw ⟨GPc.blind, va_recv hKx w.1 (ci := 0) (q := (RX0, TX0, 15)) (q0 := 0) rfl rfl, fun U hU hW => ⟨rfl, by rw [hU]; exact w.1, va_K.moved hW.alike hKx⟩⟩ rfl hn hsize hst (lv_room hW) hdg hf) kk
theorem l_mi {post : Int32 → MS → Prop} (K : LC p s m args c D di dj dk h k) (w : LG s D di dj dk h k u v H locs) (hM : Met l y (ws_ y bytes maxL ty) rm (GPc D (tyM dk) k As (wM dk k v)) (GQi D k (wM dk k) post) 0 0 (xB k)) (cw : CallW R s args R_law RX1 index y bytes maxL ty (ws_ y bytes maxL ty) rm 0 0 n) (hn : As.length = n) (hsize : ls.size = 4) (hst : st0 = As.reverse ++ .ref (k 0) :: rest) (hW : (rest.map fun v => v.category).sum ≤ 8) (hdg : decode code pc = .ok (.invokevirtual index, 3)) (hf : cells ≤ R.cells ∧ slots ≤ R.slots)
    (kk : ∀ (r : Int32) (v1 : MS) (H : Heap) (locs : List Loc), post r v1 → LG s D di dj dk h k u v1 H locs → W p l e R s m args below meth c H locs cells slots Q (F0 m (pc + 3) ls (.int r :: rest))) : W p l e R s m args below meth c H locs cells slots Q (F0 m pc ls st0) := by
  obtain ⟨hx, hb, hml, hown, hts, hKx, hKm, hDx, hDm, hdj, hAx, hAm⟩ := K
  refine va_calli (va_runV (As := As) (rest := rest) ⟨hx, hb, hml, hown, hts⟩ hM cw ⟨GPc.blind, va_recv hKm w.2.1 (ci := 1) (q := (RX1, TX1, 12)) (q0 := 0) rfl rfl, fun U hU hW => ⟨rfl, by rw [hU]; exact w.2.1, va_K.moved hW.alike hKm⟩⟩ rfl hn hsize hst (lv_room hW) hdg hf) w.2.2 (fun q _ h => hAm q h) hAm (fun r u1 t H1 locs ht hvm hp hB hz1 hk1 hS => ?_)
  exact kk r u1 H1 locs hp ⟨l_keepX hDx w.1 hdj hk1, by rw [← ht]; exact hB, hS⟩
theorem l_mr {post : Int32 → Prop} (K : LC p s m args c D di dj dk h k) (w : LG s D di dj dk h k u v H locs) (hM : Met l y (ws_ y bytes maxL ty) rm (GPc D (tyM dk) k As (wM dk k v)) (vp_Si post) 0 0 (fun _ => False)) (cw : CallW R s args R_law RX1 index y bytes maxL ty (ws_ y bytes maxL ty) rm 0 0 n) (hn : As.length = n) (hsize : ls.size = 4) (hst : st0 = As.reverse ++ .ref (k 0) :: rest) (hW : (rest.map fun v => v.category).sum ≤ 8) (hdg : decode code pc = .ok (.invokevirtual index, 3)) (hf : cells ≤ R.cells ∧ slots ≤ R.slots)
    (kk : ∀ (r : Int32), post r → W p l e R s m args below meth c H locs cells slots Q (F0 m (pc + 3) ls (.int r :: rest))) : W p l e R s m args below meth c H locs cells slots Q (F0 m pc ls st0) := by
  obtain ⟨hx, hb, hml, hown, hts, hKx, hKm, hDx, hDm, hdj, hAx, hAm⟩ := K
  exact vp_callSi (W.runV (As := As) (rest := rest) ⟨hx, hb, hml, hown, hts⟩ hM cw ⟨GPc.blind, va_recv hKm w.2.1 (ci := 1) (q := (RX1, TX1, 12)) (q0 := 0) rfl rfl, fun U hU hW => ⟨rfl, by rw [hU]; exact w.2.1, va_K.moved hW.alike hKm⟩⟩ rfl hn hsize hst (lv_room hW) hdg hf) kk
end LR
end
section
/-! the law, a case a theorem -/
set_option maxRecDepth 100000
set_option maxHeartbeats 4000000 in
set_option maxRecDepth 100000 in
/-- the law: gate -/
theorem cs_gate {p : Program} {l : Launch} {e : Env} {s : State} {m : MethodId} {below : List Frame} {meth : Method} {c : Code} {H : Heap} {locs : List Loc} {Q : State → Prop} {ls : Array Slot} {D : va_G} {di dj dk : ClassId} {h k : Nat → Nat} {u : XS} {v : MS} {b L i : Nat} {xs : Nat → Int32} (K : LC p s m #[Value.ref b] c D di dj dk h k) (hL : L ≤ 256) (hX : va_X b L xs s s.heap) (hbl : b < s.heap.size) (hi : i + 4 ≤ L) (hR : REL u v)
    (kk : ∀ (u : XS) (v : MS) (H : Heap) (locs : List Loc) (ls : Array Slot), REL u v → LG s D di dj dk h k u v H locs → lv_has ls 4 [(0, .ref b), (1, .ref (h 0)), (2, .ref (k 0)), (3, .int (nI i))] → W p l e room_1 s m #[Value.ref b] below meth c H locs 20 273 Q (F0 m 561 ls []))
    (w : LG s D di dj dk h k u v H locs) (hl : lv_has ls 4 [(0, .ref b), (1, .ref (h 0)), (2, .ref (k 0)), (3, .int (nI i))]) : W p l e room_1 s m #[Value.ref b] below meth c H locs 20 273 Q (F0 m 124 ls []) := by
  obtain ⟨hx, hb, hml, hown, hts, hKx, hKm, hDx, hDm, hdj, hAx, hAm⟩ := id K
  obtain ⟨C, dv, nt, lf, pt, cy, aw, hXK, hMK, hF⟩ := hR
  obtain ⟨lh, gr, wo, st, an, lk, rfl, hG⟩ := id hXK
  obtain ⟨va, rfl⟩ := id hMK
  have hC := hF.1
  refine lv_aload_n hx hb dL_law_124 rfl (lv_at hl 1 rfl) ?_
  refine lv_aload_n hx hb dL_law_125 rfl (lv_at hl 0 rfl) ?_
  refine lv_iload_n hx hb dL_law_126 rfl (lv_at hl 3 rfl) ?_
  refine lv_iconst (v := nI 1) hx hb dL_law_127 (by decide) ?_
  refine n_iadd hx hb dL_law_128 ?_
  refine l_sld (j := i + 1) K hX hbl hL w (by omega) dL_law_129 ?_
  refine lv_aload_n hx hb dL_law_130 rfl (lv_at hl 0 rfl) ?_
  refine lv_iload_n hx hb dL_law_131 rfl (lv_at hl 3 rfl) ?_
  refine lv_iconst (v := nI 2) hx hb dL_law_132 (by decide) ?_
  refine n_iadd hx hb dL_law_133 ?_
  refine l_sld (j := i + 2) K hX hbl hL w (by omega) dL_law_134 ?_
  refine lv_aload_n hx hb dL_law_135 rfl (lv_at hl 0 rfl) ?_
  refine lv_iload_n hx hb dL_law_136 rfl (lv_at hl 3 rfl) ?_
  refine lv_iconst (v := nI 3) hx hb dL_law_137 (by decide) ?_
  refine n_iadd hx hb dL_law_138 ?_
  refine l_sld (j := i + 3) K hX hbl hL w (by omega) dL_law_139 ?_
  refine l_xi (As := [.int (xs (i + 1)), .int (xs (i + 2)), .int (xs (i + 3))]) (rest := []) K w (metX0_gate l D di dj h hDx C dv nt lf lh gr wo st an lk hC hG (xs (i + 1)) (xs (i + 2)) (xs (i + 3))) (cwL_X0_gate hts ⟨Nat.le_of_ble_eq_true rfl, Nat.le_of_ble_eq_true rfl⟩) rfl hl.1 rfl (Nat.le_of_ble_eq_true rfl) dL_law_140 ⟨Nat.le_of_ble_eq_true rfl, Nat.le_of_ble_eq_true rfl⟩ (fun r u1 H locs hp w => ?_)
  refine lv_aload_n hx hb dL_law_143 rfl (lv_at hl 2 rfl) ?_
  refine lv_aload_n hx hb dL_law_144 rfl (lv_at hl 0 rfl) ?_
  refine lv_iload_n hx hb dL_law_145 rfl (lv_at hl 3 rfl) ?_
  refine lv_iconst (v := nI 1) hx hb dL_law_146 (by decide) ?_
  refine n_iadd hx hb dL_law_147 ?_
  refine l_sld (j := i + 1) K hX hbl hL w (by omega) dL_law_148 ?_
  refine lv_aload_n hx hb dL_law_149 rfl (lv_at hl 0 rfl) ?_
  refine lv_iload_n hx hb dL_law_150 rfl (lv_at hl 3 rfl) ?_
  refine lv_iconst (v := nI 2) hx hb dL_law_151 (by decide) ?_
  refine n_iadd hx hb dL_law_152 ?_
  refine l_sld (j := i + 2) K hX hbl hL w (by omega) dL_law_153 ?_
  refine lv_aload_n hx hb dL_law_154 rfl (lv_at hl 0 rfl) ?_
  refine lv_iload_n hx hb dL_law_155 rfl (lv_at hl 3 rfl) ?_
  refine lv_iconst (v := nI 3) hx hb dL_law_156 (by decide) ?_
  refine n_iadd hx hb dL_law_157 ?_
  refine l_sld (j := i + 3) K hX hbl hL w (by omega) dL_law_158 ?_
  refine l_mi (As := [.int (xs (i + 1)), .int (xs (i + 2)), .int (xs (i + 3))]) (rest := [.int r]) K w (metX1_gate l D dk k hDm C dv nt pt cy aw va hC (xs (i + 1)) (xs (i + 2)) (xs (i + 3))) (cwL_X1_gate hts ⟨Nat.le_of_ble_eq_true rfl, Nat.le_of_ble_eq_true rfl⟩) rfl hl.1 rfl (Nat.le_of_ble_eq_true rfl) dL_law_159 ⟨Nat.le_of_ble_eq_true rfl, Nat.le_of_ble_eq_true rfl⟩ (fun r' v1 H locs hq w => ?_)
  obtain ⟨heq, hrel⟩ : r = r' ∧ REL u1 v1 := tie_gate hF hp hq
  exact lv_icmp_eq (tgt := 561) hx hb dL_law_162 (by decide) (fun _ => kk _ _ H locs ls hrel w hl) (fun c9 => absurd heq c9)
set_option maxHeartbeats 4000000 in
set_option maxRecDepth 100000 in
/-- the law: feed -/
theorem cs_feed {p : Program} {l : Launch} {e : Env} {s : State} {m : MethodId} {below : List Frame} {meth : Method} {c : Code} {H : Heap} {locs : List Loc} {Q : State → Prop} {ls : Array Slot} {D : va_G} {di dj dk : ClassId} {h k : Nat → Nat} {u : XS} {v : MS} {b L i : Nat} {xs : Nat → Int32} (K : LC p s m #[Value.ref b] c D di dj dk h k) (hL : L ≤ 256) (hX : va_X b L xs s s.heap) (hbl : b < s.heap.size) (hi : i + 4 ≤ L) (hR : REL u v)
    (kk : ∀ (u : XS) (v : MS) (H : Heap) (locs : List Loc) (ls : Array Slot), REL u v → LG s D di dj dk h k u v H locs → lv_has ls 4 [(0, .ref b), (1, .ref (h 0)), (2, .ref (k 0)), (3, .int (nI i))] → W p l e room_1 s m #[Value.ref b] below meth c H locs 20 273 Q (F0 m 561 ls []))
    (w : LG s D di dj dk h k u v H locs) (hl : lv_has ls 4 [(0, .ref b), (1, .ref (h 0)), (2, .ref (k 0)), (3, .int (nI i))]) : W p l e room_1 s m #[Value.ref b] below meth c H locs 20 273 Q (F0 m 167 ls []) := by
  obtain ⟨hx, hb, hml, hown, hts, hKx, hKm, hDx, hDm, hdj, hAx, hAm⟩ := id K
  obtain ⟨C, dv, nt, lf, pt, cy, aw, hXK, hMK, hF⟩ := hR
  obtain ⟨lh, gr, wo, st, an, lk, rfl, hG⟩ := id hXK
  obtain ⟨va, rfl⟩ := id hMK
  have hC := hF.1
  refine lv_aload_n hx hb dL_law_167 rfl (lv_at hl 1 rfl) ?_
  refine lv_aload_n hx hb dL_law_168 rfl (lv_at hl 0 rfl) ?_
  refine lv_iload_n hx hb dL_law_169 rfl (lv_at hl 3 rfl) ?_
  refine lv_iconst (v := nI 1) hx hb dL_law_170 (by decide) ?_
  refine n_iadd hx hb dL_law_171 ?_
  refine l_sld (j := i + 1) K hX hbl hL w (by omega) dL_law_172 ?_
  refine lv_aload_n hx hb dL_law_173 rfl (lv_at hl 0 rfl) ?_
  refine lv_iload_n hx hb dL_law_174 rfl (lv_at hl 3 rfl) ?_
  refine lv_iconst (v := nI 2) hx hb dL_law_175 (by decide) ?_
  refine n_iadd hx hb dL_law_176 ?_
  refine l_sld (j := i + 2) K hX hbl hL w (by omega) dL_law_177 ?_
  refine l_xi (As := [.int (xs (i + 1)), .int (xs (i + 2))]) (rest := []) K w (metX0_feed l D di dj h hDx C dv nt lf lh gr wo st an lk hC hG (xs (i + 1)) (xs (i + 2))) (cwL_X0_feed hts ⟨Nat.le_of_ble_eq_true rfl, Nat.le_of_ble_eq_true rfl⟩) rfl hl.1 rfl (Nat.le_of_ble_eq_true rfl) dL_law_178 ⟨Nat.le_of_ble_eq_true rfl, Nat.le_of_ble_eq_true rfl⟩ (fun r u1 H locs hp w => ?_)
  refine lv_aload_n hx hb dL_law_181 rfl (lv_at hl 2 rfl) ?_
  refine lv_aload_n hx hb dL_law_182 rfl (lv_at hl 0 rfl) ?_
  refine lv_iload_n hx hb dL_law_183 rfl (lv_at hl 3 rfl) ?_
  refine lv_iconst (v := nI 1) hx hb dL_law_184 (by decide) ?_
  refine n_iadd hx hb dL_law_185 ?_
  refine l_sld (j := i + 1) K hX hbl hL w (by omega) dL_law_186 ?_
  refine lv_aload_n hx hb dL_law_187 rfl (lv_at hl 0 rfl) ?_
  refine lv_iload_n hx hb dL_law_188 rfl (lv_at hl 3 rfl) ?_
  refine lv_iconst (v := nI 2) hx hb dL_law_189 (by decide) ?_
  refine n_iadd hx hb dL_law_190 ?_
  refine l_sld (j := i + 2) K hX hbl hL w (by omega) dL_law_191 ?_
  refine l_mi (As := [.int (xs (i + 1)), .int (xs (i + 2))]) (rest := [.int r]) K w (metX1_feed l D dk k hDm C dv nt pt cy aw va hC (xs (i + 1)) (xs (i + 2))) (cwL_X1_feed hts ⟨Nat.le_of_ble_eq_true rfl, Nat.le_of_ble_eq_true rfl⟩) rfl hl.1 rfl (Nat.le_of_ble_eq_true rfl) dL_law_192 ⟨Nat.le_of_ble_eq_true rfl, Nat.le_of_ble_eq_true rfl⟩ (fun r' v1 H locs hq w => ?_)
  obtain ⟨heq, hrel⟩ : r = r' ∧ REL u1 v1 := tie_feed hF hp hq
  exact lv_icmp_eq (tgt := 561) hx hb dL_law_195 (by decide) (fun _ => kk _ _ H locs ls hrel w hl) (fun c9 => absurd heq c9)
set_option maxHeartbeats 4000000 in
set_option maxRecDepth 100000 in
/-- the law: output -/
theorem cs_output {p : Program} {l : Launch} {e : Env} {s : State} {m : MethodId} {below : List Frame} {meth : Method} {c : Code} {H : Heap} {locs : List Loc} {Q : State → Prop} {ls : Array Slot} {D : va_G} {di dj dk : ClassId} {h k : Nat → Nat} {u : XS} {v : MS} {b L i : Nat} {xs : Nat → Int32} (K : LC p s m #[Value.ref b] c D di dj dk h k) (hL : L ≤ 256) (hX : va_X b L xs s s.heap) (hbl : b < s.heap.size) (hi : i + 4 ≤ L) (hR : REL u v)
    (kk : ∀ (u : XS) (v : MS) (H : Heap) (locs : List Loc) (ls : Array Slot), REL u v → LG s D di dj dk h k u v H locs → lv_has ls 4 [(0, .ref b), (1, .ref (h 0)), (2, .ref (k 0)), (3, .int (nI i))] → W p l e room_1 s m #[Value.ref b] below meth c H locs 20 273 Q (F0 m 561 ls []))
    (w : LG s D di dj dk h k u v H locs) (hl : lv_has ls 4 [(0, .ref b), (1, .ref (h 0)), (2, .ref (k 0)), (3, .int (nI i))]) : W p l e room_1 s m #[Value.ref b] below meth c H locs 20 273 Q (F0 m 200 ls []) := by
  obtain ⟨hx, hb, hml, hown, hts, hKx, hKm, hDx, hDm, hdj, hAx, hAm⟩ := id K
  obtain ⟨C, dv, nt, lf, pt, cy, aw, hXK, hMK, hF⟩ := hR
  obtain ⟨lh, gr, wo, st, an, lk, rfl, hG⟩ := id hXK
  obtain ⟨va, rfl⟩ := id hMK
  have hC := hF.1
  refine lv_aload_n hx hb dL_law_200 rfl (lv_at hl 1 rfl) ?_
  refine lv_aload_n hx hb dL_law_201 rfl (lv_at hl 0 rfl) ?_
  refine lv_iload_n hx hb dL_law_202 rfl (lv_at hl 3 rfl) ?_
  refine lv_iconst (v := nI 1) hx hb dL_law_203 (by decide) ?_
  refine n_iadd hx hb dL_law_204 ?_
  refine l_sld (j := i + 1) K hX hbl hL w (by omega) dL_law_205 ?_
  refine lv_aload_n hx hb dL_law_206 rfl (lv_at hl 0 rfl) ?_
  refine lv_iload_n hx hb dL_law_207 rfl (lv_at hl 3 rfl) ?_
  refine lv_iconst (v := nI 2) hx hb dL_law_208 (by decide) ?_
  refine n_iadd hx hb dL_law_209 ?_
  refine l_sld (j := i + 2) K hX hbl hL w (by omega) dL_law_210 ?_
  refine l_xi (As := [.int (xs (i + 1)), .int (xs (i + 2))]) (rest := []) K w (metX0_output l D di dj h hDx C dv nt lf lh gr wo st an lk hC hG (xs (i + 1)) (xs (i + 2))) (cwL_X0_output hts ⟨Nat.le_of_ble_eq_true rfl, Nat.le_of_ble_eq_true rfl⟩) rfl hl.1 rfl (Nat.le_of_ble_eq_true rfl) dL_law_211 ⟨Nat.le_of_ble_eq_true rfl, Nat.le_of_ble_eq_true rfl⟩ (fun r u1 H locs hp w => ?_)
  refine lv_aload_n hx hb dL_law_214 rfl (lv_at hl 2 rfl) ?_
  refine lv_aload_n hx hb dL_law_215 rfl (lv_at hl 0 rfl) ?_
  refine lv_iload_n hx hb dL_law_216 rfl (lv_at hl 3 rfl) ?_
  refine lv_iconst (v := nI 1) hx hb dL_law_217 (by decide) ?_
  refine n_iadd hx hb dL_law_218 ?_
  refine l_sld (j := i + 1) K hX hbl hL w (by omega) dL_law_219 ?_
  refine lv_aload_n hx hb dL_law_220 rfl (lv_at hl 0 rfl) ?_
  refine lv_iload_n hx hb dL_law_221 rfl (lv_at hl 3 rfl) ?_
  refine lv_iconst (v := nI 2) hx hb dL_law_222 (by decide) ?_
  refine n_iadd hx hb dL_law_223 ?_
  refine l_sld (j := i + 2) K hX hbl hL w (by omega) dL_law_224 ?_
  refine l_mi (As := [.int (xs (i + 1)), .int (xs (i + 2))]) (rest := [.int r]) K w (metX1_output l D dk k hDm C dv nt pt cy aw va hC (xs (i + 1)) (xs (i + 2))) (cwL_X1_output hts ⟨Nat.le_of_ble_eq_true rfl, Nat.le_of_ble_eq_true rfl⟩) rfl hl.1 rfl (Nat.le_of_ble_eq_true rfl) dL_law_225 ⟨Nat.le_of_ble_eq_true rfl, Nat.le_of_ble_eq_true rfl⟩ (fun r' v1 H locs hq w => ?_)
  obtain ⟨heq, hrel⟩ : r = r' ∧ REL u1 v1 := tie_output hF hp hq
  exact lv_icmp_eq (tgt := 561) hx hb dL_law_228 (by decide) (fun _ => kk _ _ H locs ls hrel w hl) (fun c9 => absurd heq c9)
set_option maxHeartbeats 4000000 in
set_option maxRecDepth 100000 in
/-- the law: lines -/
theorem cs_lines {p : Program} {l : Launch} {e : Env} {s : State} {m : MethodId} {below : List Frame} {meth : Method} {c : Code} {H : Heap} {locs : List Loc} {Q : State → Prop} {ls : Array Slot} {D : va_G} {di dj dk : ClassId} {h k : Nat → Nat} {u : XS} {v : MS} {b L i : Nat} {xs : Nat → Int32} (K : LC p s m #[Value.ref b] c D di dj dk h k) (hL : L ≤ 256) (hX : va_X b L xs s s.heap) (hbl : b < s.heap.size) (hi : i + 4 ≤ L) (hR : REL u v)
    (kk : ∀ (u : XS) (v : MS) (H : Heap) (locs : List Loc) (ls : Array Slot), REL u v → LG s D di dj dk h k u v H locs → lv_has ls 4 [(0, .ref b), (1, .ref (h 0)), (2, .ref (k 0)), (3, .int (nI i))] → W p l e room_1 s m #[Value.ref b] below meth c H locs 20 273 Q (F0 m 561 ls []))
    (w : LG s D di dj dk h k u v H locs) (hl : lv_has ls 4 [(0, .ref b), (1, .ref (h 0)), (2, .ref (k 0)), (3, .int (nI i))]) : W p l e room_1 s m #[Value.ref b] below meth c H locs 20 273 Q (F0 m 233 ls []) := by
  obtain ⟨hx, hb, hml, hown, hts, hKx, hKm, hDx, hDm, hdj, hAx, hAm⟩ := id K
  obtain ⟨C, dv, nt, lf, pt, cy, aw, hXK, hMK, hF⟩ := hR
  obtain ⟨lh, gr, wo, st, an, lk, rfl, hG⟩ := id hXK
  obtain ⟨va, rfl⟩ := id hMK
  have hC := hF.1
  refine lv_aload_n hx hb dL_law_233 rfl (lv_at hl 1 rfl) ?_
  refine l_xr (As := []) (rest := []) K w (metX0_lines l D di dj h hDx C dv nt lf lh gr wo st an lk) (cwL_X0_lines hts ⟨Nat.le_of_ble_eq_true rfl, Nat.le_of_ble_eq_true rfl⟩) rfl hl.1 rfl (Nat.le_of_ble_eq_true rfl) dL_law_234 ⟨Nat.le_of_ble_eq_true rfl, Nat.le_of_ble_eq_true rfl⟩ (fun r hp => ?_)
  refine lv_aload_n hx hb dL_law_237 rfl (lv_at hl 2 rfl) ?_
  refine l_mr (As := []) (rest := [.int r]) K w (metX1_lines l D dk k hDm C dv nt pt cy aw va) (cwL_X1_lines hts ⟨Nat.le_of_ble_eq_true rfl, Nat.le_of_ble_eq_true rfl⟩) rfl hl.1 rfl (Nat.le_of_ble_eq_true rfl) dL_law_238 ⟨Nat.le_of_ble_eq_true rfl, Nat.le_of_ble_eq_true rfl⟩ (fun r' hq => ?_)
  obtain ⟨heq, hrel⟩ : r = r' ∧ REL (C, dv, nt, lf, lh, gr, wo, st, an, lk) (C, dv, nt, pt, cy, aw, va) := ⟨hp.trans hq.symm, tie_keep hF hXK hMK⟩
  exact lv_icmp_eq (tgt := 561) hx hb dL_law_241 (by decide) (fun _ => kk _ _ H locs ls hrel w hl) (fun c9 => absurd heq c9)
set_option maxHeartbeats 4000000 in
set_option maxRecDepth 100000 in
/-- the law: inject -/
theorem cs_inject {p : Program} {l : Launch} {e : Env} {s : State} {m : MethodId} {below : List Frame} {meth : Method} {c : Code} {H : Heap} {locs : List Loc} {Q : State → Prop} {ls : Array Slot} {D : va_G} {di dj dk : ClassId} {h k : Nat → Nat} {u : XS} {v : MS} {b L i : Nat} {xs : Nat → Int32} (K : LC p s m #[Value.ref b] c D di dj dk h k) (hL : L ≤ 256) (hX : va_X b L xs s s.heap) (hbl : b < s.heap.size) (hi : i + 4 ≤ L) (hR : REL u v)
    (kk : ∀ (u : XS) (v : MS) (H : Heap) (locs : List Loc) (ls : Array Slot), REL u v → LG s D di dj dk h k u v H locs → lv_has ls 4 [(0, .ref b), (1, .ref (h 0)), (2, .ref (k 0)), (3, .int (nI i))] → W p l e room_1 s m #[Value.ref b] below meth c H locs 20 273 Q (F0 m 561 ls []))
    (w : LG s D di dj dk h k u v H locs) (hl : lv_has ls 4 [(0, .ref b), (1, .ref (h 0)), (2, .ref (k 0)), (3, .int (nI i))]) : W p l e room_1 s m #[Value.ref b] below meth c H locs 20 273 Q (F0 m 246 ls []) := by
  obtain ⟨hx, hb, hml, hown, hts, hKx, hKm, hDx, hDm, hdj, hAx, hAm⟩ := id K
  obtain ⟨C, dv, nt, lf, pt, cy, aw, hXK, hMK, hF⟩ := hR
  obtain ⟨lh, gr, wo, st, an, lk, rfl, hG⟩ := id hXK
  obtain ⟨va, rfl⟩ := id hMK
  have hC := hF.1
  refine lv_aload_n hx hb dL_law_246 rfl (lv_at hl 1 rfl) ?_
  refine lv_aload_n hx hb dL_law_247 rfl (lv_at hl 0 rfl) ?_
  refine lv_iload_n hx hb dL_law_248 rfl (lv_at hl 3 rfl) ?_
  refine lv_iconst (v := nI 1) hx hb dL_law_249 (by decide) ?_
  refine n_iadd hx hb dL_law_250 ?_
  refine l_sld (j := i + 1) K hX hbl hL w (by omega) dL_law_251 ?_
  refine l_xi (As := [.int (xs (i + 1))]) (rest := []) K w (metX0_inject l D di dj h hDx C dv nt lf lh gr wo st an lk hC hG (xs (i + 1))) (cwL_X0_inject hts ⟨Nat.le_of_ble_eq_true rfl, Nat.le_of_ble_eq_true rfl⟩) rfl hl.1 rfl (Nat.le_of_ble_eq_true rfl) dL_law_252 ⟨Nat.le_of_ble_eq_true rfl, Nat.le_of_ble_eq_true rfl⟩ (fun r u1 H locs hp w => ?_)
  refine lv_aload_n hx hb dL_law_255 rfl (lv_at hl 2 rfl) ?_
  refine lv_aload_n hx hb dL_law_256 rfl (lv_at hl 0 rfl) ?_
  refine lv_iload_n hx hb dL_law_257 rfl (lv_at hl 3 rfl) ?_
  refine lv_iconst (v := nI 1) hx hb dL_law_258 (by decide) ?_
  refine n_iadd hx hb dL_law_259 ?_
  refine l_sld (j := i + 1) K hX hbl hL w (by omega) dL_law_260 ?_
  refine l_mi (As := [.int (xs (i + 1))]) (rest := [.int r]) K w (metX1_inject l D dk k hDm C dv nt pt cy aw va hC (xs (i + 1))) (cwL_X1_inject hts ⟨Nat.le_of_ble_eq_true rfl, Nat.le_of_ble_eq_true rfl⟩) rfl hl.1 rfl (Nat.le_of_ble_eq_true rfl) dL_law_261 ⟨Nat.le_of_ble_eq_true rfl, Nat.le_of_ble_eq_true rfl⟩ (fun r' v1 H locs hq w => ?_)
  obtain ⟨heq, hrel⟩ : r = r' ∧ REL u1 v1 := tie_inject hF hp hq
  exact lv_icmp_eq (tgt := 561) hx hb dL_law_264 (by decide) (fun _ => kk _ _ H locs ls hrel w hl) (fun c9 => absurd heq c9)
set_option maxHeartbeats 4000000 in
set_option maxRecDepth 100000 in
/-- the law: observe -/
theorem cs_observe {p : Program} {l : Launch} {e : Env} {s : State} {m : MethodId} {below : List Frame} {meth : Method} {c : Code} {H : Heap} {locs : List Loc} {Q : State → Prop} {ls : Array Slot} {D : va_G} {di dj dk : ClassId} {h k : Nat → Nat} {u : XS} {v : MS} {b L i : Nat} {xs : Nat → Int32} (K : LC p s m #[Value.ref b] c D di dj dk h k) (hL : L ≤ 256) (hX : va_X b L xs s s.heap) (hbl : b < s.heap.size) (hi : i + 4 ≤ L) (hR : REL u v)
    (kk : ∀ (u : XS) (v : MS) (H : Heap) (locs : List Loc) (ls : Array Slot), REL u v → LG s D di dj dk h k u v H locs → lv_has ls 4 [(0, .ref b), (1, .ref (h 0)), (2, .ref (k 0)), (3, .int (nI i))] → W p l e room_1 s m #[Value.ref b] below meth c H locs 20 273 Q (F0 m 561 ls []))
    (w : LG s D di dj dk h k u v H locs) (hl : lv_has ls 4 [(0, .ref b), (1, .ref (h 0)), (2, .ref (k 0)), (3, .int (nI i))]) : W p l e room_1 s m #[Value.ref b] below meth c H locs 20 273 Q (F0 m 269 ls []) := by
  obtain ⟨hx, hb, hml, hown, hts, hKx, hKm, hDx, hDm, hdj, hAx, hAm⟩ := id K
  obtain ⟨C, dv, nt, lf, pt, cy, aw, hXK, hMK, hF⟩ := hR
  obtain ⟨lh, gr, wo, st, an, lk, rfl, hG⟩ := id hXK
  obtain ⟨va, rfl⟩ := id hMK
  have hC := hF.1
  obtain ⟨d, hj⟩ := hF.2.1
  refine lv_aload_n hx hb dL_law_269 rfl (lv_at hl 1 rfl) ?_
  refine lv_aload_n hx hb dL_law_270 rfl (lv_at hl 0 rfl) ?_
  refine lv_iload_n hx hb dL_law_271 rfl (lv_at hl 3 rfl) ?_
  refine lv_iconst (v := nI 1) hx hb dL_law_272 (by decide) ?_
  refine n_iadd hx hb dL_law_273 ?_
  refine l_sld (j := i + 1) K hX hbl hL w (by omega) dL_law_274 ?_
  refine lv_aload_n hx hb dL_law_275 rfl (lv_at hl 0 rfl) ?_
  refine lv_iload_n hx hb dL_law_276 rfl (lv_at hl 3 rfl) ?_
  refine lv_iconst (v := nI 2) hx hb dL_law_277 (by decide) ?_
  refine n_iadd hx hb dL_law_278 ?_
  refine l_sld (j := i + 2) K hX hbl hL w (by omega) dL_law_279 ?_
  refine l_xi (As := [.int (xs (i + 1)), .int (xs (i + 2))]) (rest := []) K w (metX0_observe l D di dj h hDx C dv nt lf lh gr wo st an lk hC hG (xs (i + 1)) (xs (i + 2)) d hj hF.2.2.1) (cwL_X0_observe hts ⟨Nat.le_of_ble_eq_true rfl, Nat.le_of_ble_eq_true rfl⟩) rfl hl.1 rfl (Nat.le_of_ble_eq_true rfl) dL_law_280 ⟨Nat.le_of_ble_eq_true rfl, Nat.le_of_ble_eq_true rfl⟩ (fun r u1 H locs hp w => ?_)
  refine lv_aload_n hx hb dL_law_283 rfl (lv_at hl 2 rfl) ?_
  refine lv_aload_n hx hb dL_law_284 rfl (lv_at hl 0 rfl) ?_
  refine lv_iload_n hx hb dL_law_285 rfl (lv_at hl 3 rfl) ?_
  refine lv_iconst (v := nI 1) hx hb dL_law_286 (by decide) ?_
  refine n_iadd hx hb dL_law_287 ?_
  refine l_sld (j := i + 1) K hX hbl hL w (by omega) dL_law_288 ?_
  refine lv_aload_n hx hb dL_law_289 rfl (lv_at hl 0 rfl) ?_
  refine lv_iload_n hx hb dL_law_290 rfl (lv_at hl 3 rfl) ?_
  refine lv_iconst (v := nI 2) hx hb dL_law_291 (by decide) ?_
  refine n_iadd hx hb dL_law_292 ?_
  refine l_sld (j := i + 2) K hX hbl hL w (by omega) dL_law_293 ?_
  refine l_mi (As := [.int (xs (i + 1)), .int (xs (i + 2))]) (rest := [.int r]) K w (metX1_observe l D dk k hDm C dv nt pt cy aw va hC (xs (i + 1)) (xs (i + 2)) d hj hF.2.2.1) (cwL_X1_observe hts ⟨Nat.le_of_ble_eq_true rfl, Nat.le_of_ble_eq_true rfl⟩) rfl hl.1 rfl (Nat.le_of_ble_eq_true rfl) dL_law_294 ⟨Nat.le_of_ble_eq_true rfl, Nat.le_of_ble_eq_true rfl⟩ (fun r' v1 H locs hq w => ?_)
  obtain ⟨heq, hrel⟩ : r = r' ∧ REL u1 v1 := tie_observe hF hp hq
  exact lv_icmp_eq (tgt := 561) hx hb dL_law_297 (by decide) (fun _ => kk _ _ H locs ls hrel w hl) (fun c9 => absurd heq c9)
set_option maxHeartbeats 4000000 in
set_option maxRecDepth 100000 in
/-- the law: forget -/
theorem cs_forget {p : Program} {l : Launch} {e : Env} {s : State} {m : MethodId} {below : List Frame} {meth : Method} {c : Code} {H : Heap} {locs : List Loc} {Q : State → Prop} {ls : Array Slot} {D : va_G} {di dj dk : ClassId} {h k : Nat → Nat} {u : XS} {v : MS} {b L i : Nat} {xs : Nat → Int32} (K : LC p s m #[Value.ref b] c D di dj dk h k) (hL : L ≤ 256) (hX : va_X b L xs s s.heap) (hbl : b < s.heap.size) (hi : i + 4 ≤ L) (hR : REL u v)
    (kk : ∀ (u : XS) (v : MS) (H : Heap) (locs : List Loc) (ls : Array Slot), REL u v → LG s D di dj dk h k u v H locs → lv_has ls 4 [(0, .ref b), (1, .ref (h 0)), (2, .ref (k 0)), (3, .int (nI i))] → W p l e room_1 s m #[Value.ref b] below meth c H locs 20 273 Q (F0 m 561 ls []))
    (w : LG s D di dj dk h k u v H locs) (hl : lv_has ls 4 [(0, .ref b), (1, .ref (h 0)), (2, .ref (k 0)), (3, .int (nI i))]) : W p l e room_1 s m #[Value.ref b] below meth c H locs 20 273 Q (F0 m 302 ls []) := by
  obtain ⟨hx, hb, hml, hown, hts, hKx, hKm, hDx, hDm, hdj, hAx, hAm⟩ := id K
  obtain ⟨C, dv, nt, lf, pt, cy, aw, hXK, hMK, hF⟩ := hR
  obtain ⟨lh, gr, wo, st, an, lk, rfl, hG⟩ := id hXK
  obtain ⟨va, rfl⟩ := id hMK
  have hC := hF.1
  refine lv_aload_n hx hb dL_law_302 rfl (lv_at hl 1 rfl) ?_
  refine l_xi (As := []) (rest := []) K w (metX0_forget l D di dj h hDx C dv nt lf lh gr wo st an lk) (cwL_X0_forget hts ⟨Nat.le_of_ble_eq_true rfl, Nat.le_of_ble_eq_true rfl⟩) rfl hl.1 rfl (Nat.le_of_ble_eq_true rfl) dL_law_303 ⟨Nat.le_of_ble_eq_true rfl, Nat.le_of_ble_eq_true rfl⟩ (fun r u1 H locs hp w => ?_)
  refine lv_aload_n hx hb dL_law_306 rfl (lv_at hl 2 rfl) ?_
  refine l_mi (As := []) (rest := [.int r]) K w (metX1_forget l D dk k hDm C dv nt pt cy aw va) (cwL_X1_forget hts ⟨Nat.le_of_ble_eq_true rfl, Nat.le_of_ble_eq_true rfl⟩) rfl hl.1 rfl (Nat.le_of_ble_eq_true rfl) dL_law_307 ⟨Nat.le_of_ble_eq_true rfl, Nat.le_of_ble_eq_true rfl⟩ (fun r' v1 H locs hq w => ?_)
  obtain ⟨heq, hrel⟩ : r = r' ∧ REL u1 v1 := ⟨hp.1.trans hq.1.symm, (by rw [hp.2, hq.2]; exact tie_keep (RF_0 hC hF.2.1) ⟨lh, gr, wo, st, an, lk, rfl, hG⟩ ⟨va, rfl⟩ : REL u1 v1)⟩
  exact lv_icmp_eq (tgt := 561) hx hb dL_law_310 (by decide) (fun _ => kk _ _ H locs ls hrel w hl) (fun c9 => absurd heq c9)
end
section
/-! the law, a case a theorem -/
set_option maxRecDepth 100000
set_option maxHeartbeats 4000000 in
set_option maxRecDepth 100000 in
/-- the law: observations -/
theorem cs_observations {p : Program} {l : Launch} {e : Env} {s : State} {m : MethodId} {below : List Frame} {meth : Method} {c : Code} {H : Heap} {locs : List Loc} {Q : State → Prop} {ls : Array Slot} {D : va_G} {di dj dk : ClassId} {h k : Nat → Nat} {u : XS} {v : MS} {b L i : Nat} {xs : Nat → Int32} (K : LC p s m #[Value.ref b] c D di dj dk h k) (hL : L ≤ 256) (hX : va_X b L xs s s.heap) (hbl : b < s.heap.size) (hi : i + 4 ≤ L) (hR : REL u v)
    (kk : ∀ (u : XS) (v : MS) (H : Heap) (locs : List Loc) (ls : Array Slot), REL u v → LG s D di dj dk h k u v H locs → lv_has ls 4 [(0, .ref b), (1, .ref (h 0)), (2, .ref (k 0)), (3, .int (nI i))] → W p l e room_1 s m #[Value.ref b] below meth c H locs 20 273 Q (F0 m 561 ls []))
    (w : LG s D di dj dk h k u v H locs) (hl : lv_has ls 4 [(0, .ref b), (1, .ref (h 0)), (2, .ref (k 0)), (3, .int (nI i))]) : W p l e room_1 s m #[Value.ref b] below meth c H locs 20 273 Q (F0 m 315 ls []) := by
  obtain ⟨hx, hb, hml, hown, hts, hKx, hKm, hDx, hDm, hdj, hAx, hAm⟩ := id K
  obtain ⟨C, dv, nt, lf, pt, cy, aw, hXK, hMK, hF⟩ := hR
  obtain ⟨lh, gr, wo, st, an, lk, rfl, hG⟩ := id hXK
  obtain ⟨va, rfl⟩ := id hMK
  have hC := hF.1
  refine lv_aload_n hx hb dL_law_315 rfl (lv_at hl 1 rfl) ?_
  refine l_xr (As := []) (rest := []) K w (metX0_observations l D di dj h hDx C dv nt lf lh gr wo st an lk) (cwL_X0_observations hts ⟨Nat.le_of_ble_eq_true rfl, Nat.le_of_ble_eq_true rfl⟩) rfl hl.1 rfl (Nat.le_of_ble_eq_true rfl) dL_law_316 ⟨Nat.le_of_ble_eq_true rfl, Nat.le_of_ble_eq_true rfl⟩ (fun r hp => ?_)
  refine lv_aload_n hx hb dL_law_319 rfl (lv_at hl 2 rfl) ?_
  refine l_mr (As := []) (rest := [.int r]) K w (metX1_observations l D dk k hDm C dv nt pt cy aw va) (cwL_X1_observations hts ⟨Nat.le_of_ble_eq_true rfl, Nat.le_of_ble_eq_true rfl⟩) rfl hl.1 rfl (Nat.le_of_ble_eq_true rfl) dL_law_320 ⟨Nat.le_of_ble_eq_true rfl, Nat.le_of_ble_eq_true rfl⟩ (fun r' hq => ?_)
  obtain ⟨heq, hrel⟩ : r = r' ∧ REL (C, dv, nt, lf, lh, gr, wo, st, an, lk) (C, dv, nt, pt, cy, aw, va) := ⟨hp.trans hq.symm, tie_keep hF hXK hMK⟩
  exact lv_icmp_eq (tgt := 561) hx hb dL_law_323 (by decide) (fun _ => kk _ _ H locs ls hrel w hl) (fun c9 => absurd heq c9)
set_option maxHeartbeats 4000000 in
set_option maxRecDepth 100000 in
/-- the law: response -/
theorem cs_response {p : Program} {l : Launch} {e : Env} {s : State} {m : MethodId} {below : List Frame} {meth : Method} {c : Code} {H : Heap} {locs : List Loc} {Q : State → Prop} {ls : Array Slot} {D : va_G} {di dj dk : ClassId} {h k : Nat → Nat} {u : XS} {v : MS} {b L i : Nat} {xs : Nat → Int32} (K : LC p s m #[Value.ref b] c D di dj dk h k) (hL : L ≤ 256) (hX : va_X b L xs s s.heap) (hbl : b < s.heap.size) (hi : i + 4 ≤ L) (hR : REL u v)
    (kk : ∀ (u : XS) (v : MS) (H : Heap) (locs : List Loc) (ls : Array Slot), REL u v → LG s D di dj dk h k u v H locs → lv_has ls 4 [(0, .ref b), (1, .ref (h 0)), (2, .ref (k 0)), (3, .int (nI i))] → W p l e room_1 s m #[Value.ref b] below meth c H locs 20 273 Q (F0 m 561 ls []))
    (w : LG s D di dj dk h k u v H locs) (hl : lv_has ls 4 [(0, .ref b), (1, .ref (h 0)), (2, .ref (k 0)), (3, .int (nI i))]) : W p l e room_1 s m #[Value.ref b] below meth c H locs 20 273 Q (F0 m 328 ls []) := by
  obtain ⟨hx, hb, hml, hown, hts, hKx, hKm, hDx, hDm, hdj, hAx, hAm⟩ := id K
  obtain ⟨C, dv, nt, lf, pt, cy, aw, hXK, hMK, hF⟩ := hR
  obtain ⟨lh, gr, wo, st, an, lk, rfl, hG⟩ := id hXK
  obtain ⟨va, rfl⟩ := id hMK
  have hC := hF.1
  refine lv_aload_n hx hb dL_law_328 rfl (lv_at hl 1 rfl) ?_
  refine lv_aload_n hx hb dL_law_329 rfl (lv_at hl 0 rfl) ?_
  refine lv_iload_n hx hb dL_law_330 rfl (lv_at hl 3 rfl) ?_
  refine lv_iconst (v := nI 1) hx hb dL_law_331 (by decide) ?_
  refine n_iadd hx hb dL_law_332 ?_
  refine l_sld (j := i + 1) K hX hbl hL w (by omega) dL_law_333 ?_
  refine lv_aload_n hx hb dL_law_334 rfl (lv_at hl 0 rfl) ?_
  refine lv_iload_n hx hb dL_law_335 rfl (lv_at hl 3 rfl) ?_
  refine lv_iconst (v := nI 2) hx hb dL_law_336 (by decide) ?_
  refine n_iadd hx hb dL_law_337 ?_
  refine l_sld (j := i + 2) K hX hbl hL w (by omega) dL_law_338 ?_
  refine l_xi (As := [.int (xs (i + 1)), .int (xs (i + 2))]) (rest := []) K w (metX0_response l D di dj h hDx C dv nt lf lh gr wo st an lk hC hG (xs (i + 1)) (xs (i + 2))) (cwL_X0_response hts ⟨Nat.le_of_ble_eq_true rfl, Nat.le_of_ble_eq_true rfl⟩) rfl hl.1 rfl (Nat.le_of_ble_eq_true rfl) dL_law_339 ⟨Nat.le_of_ble_eq_true rfl, Nat.le_of_ble_eq_true rfl⟩ (fun r u1 H locs hp w => ?_)
  refine lv_aload_n hx hb dL_law_342 rfl (lv_at hl 2 rfl) ?_
  refine lv_aload_n hx hb dL_law_343 rfl (lv_at hl 0 rfl) ?_
  refine lv_iload_n hx hb dL_law_344 rfl (lv_at hl 3 rfl) ?_
  refine lv_iconst (v := nI 1) hx hb dL_law_345 (by decide) ?_
  refine n_iadd hx hb dL_law_346 ?_
  refine l_sld (j := i + 1) K hX hbl hL w (by omega) dL_law_347 ?_
  refine lv_aload_n hx hb dL_law_348 rfl (lv_at hl 0 rfl) ?_
  refine lv_iload_n hx hb dL_law_349 rfl (lv_at hl 3 rfl) ?_
  refine lv_iconst (v := nI 2) hx hb dL_law_350 (by decide) ?_
  refine n_iadd hx hb dL_law_351 ?_
  refine l_sld (j := i + 2) K hX hbl hL w (by omega) dL_law_352 ?_
  refine l_mi (As := [.int (xs (i + 1)), .int (xs (i + 2))]) (rest := [.int r]) K w (metX1_response l D dk k hDm C dv nt pt cy aw va hC (xs (i + 1)) (xs (i + 2))) (cwL_X1_response hts ⟨Nat.le_of_ble_eq_true rfl, Nat.le_of_ble_eq_true rfl⟩) rfl hl.1 rfl (Nat.le_of_ble_eq_true rfl) dL_law_353 ⟨Nat.le_of_ble_eq_true rfl, Nat.le_of_ble_eq_true rfl⟩ (fun r' v1 H locs hq w => ?_)
  obtain ⟨heq, hrel⟩ : r = r' ∧ REL u1 v1 := ⟨Rask_det hp.1 hq.1, tie_keep hF hp.2 hq.2⟩
  exact lv_icmp_eq (tgt := 561) hx hb dL_law_356 (by decide) (fun _ => kk _ _ H locs ls hrel w hl) (fun c9 => absurd heq c9)
set_option maxHeartbeats 4000000 in
set_option maxRecDepth 100000 in
/-- the law: responseWith -/
theorem cs_responseWith {p : Program} {l : Launch} {e : Env} {s : State} {m : MethodId} {below : List Frame} {meth : Method} {c : Code} {H : Heap} {locs : List Loc} {Q : State → Prop} {ls : Array Slot} {D : va_G} {di dj dk : ClassId} {h k : Nat → Nat} {u : XS} {v : MS} {b L i : Nat} {xs : Nat → Int32} (K : LC p s m #[Value.ref b] c D di dj dk h k) (hL : L ≤ 256) (hX : va_X b L xs s s.heap) (hbl : b < s.heap.size) (hi : i + 4 ≤ L) (hR : REL u v)
    (kk : ∀ (u : XS) (v : MS) (H : Heap) (locs : List Loc) (ls : Array Slot), REL u v → LG s D di dj dk h k u v H locs → lv_has ls 4 [(0, .ref b), (1, .ref (h 0)), (2, .ref (k 0)), (3, .int (nI i))] → W p l e room_1 s m #[Value.ref b] below meth c H locs 20 273 Q (F0 m 561 ls []))
    (w : LG s D di dj dk h k u v H locs) (hl : lv_has ls 4 [(0, .ref b), (1, .ref (h 0)), (2, .ref (k 0)), (3, .int (nI i))]) : W p l e room_1 s m #[Value.ref b] below meth c H locs 20 273 Q (F0 m 361 ls []) := by
  obtain ⟨hx, hb, hml, hown, hts, hKx, hKm, hDx, hDm, hdj, hAx, hAm⟩ := id K
  obtain ⟨C, dv, nt, lf, pt, cy, aw, hXK, hMK, hF⟩ := hR
  obtain ⟨lh, gr, wo, st, an, lk, rfl, hG⟩ := id hXK
  obtain ⟨va, rfl⟩ := id hMK
  have hC := hF.1
  refine lv_aload_n hx hb dL_law_361 rfl (lv_at hl 1 rfl) ?_
  refine lv_aload_n hx hb dL_law_362 rfl (lv_at hl 0 rfl) ?_
  refine lv_iload_n hx hb dL_law_363 rfl (lv_at hl 3 rfl) ?_
  refine lv_iconst (v := nI 1) hx hb dL_law_364 (by decide) ?_
  refine n_iadd hx hb dL_law_365 ?_
  refine l_sld (j := i + 1) K hX hbl hL w (by omega) dL_law_366 ?_
  refine lv_aload_n hx hb dL_law_367 rfl (lv_at hl 0 rfl) ?_
  refine lv_iload_n hx hb dL_law_368 rfl (lv_at hl 3 rfl) ?_
  refine lv_iconst (v := nI 2) hx hb dL_law_369 (by decide) ?_
  refine n_iadd hx hb dL_law_370 ?_
  refine l_sld (j := i + 2) K hX hbl hL w (by omega) dL_law_371 ?_
  refine lv_aload_n hx hb dL_law_372 rfl (lv_at hl 0 rfl) ?_
  refine lv_iload_n hx hb dL_law_373 rfl (lv_at hl 3 rfl) ?_
  refine lv_iconst (v := nI 3) hx hb dL_law_374 (by decide) ?_
  refine n_iadd hx hb dL_law_375 ?_
  refine l_sld (j := i + 3) K hX hbl hL w (by omega) dL_law_376 ?_
  refine l_xi (As := [.int (xs (i + 1)), .int (xs (i + 2)), .int (xs (i + 3))]) (rest := []) K w (metX0_responseWith l D di dj h hDx C dv nt lf lh gr wo st an lk hC hG (xs (i + 1)) (xs (i + 2)) (xs (i + 3))) (cwL_X0_responseWith hts ⟨Nat.le_of_ble_eq_true rfl, Nat.le_of_ble_eq_true rfl⟩) rfl hl.1 rfl (Nat.le_of_ble_eq_true rfl) dL_law_377 ⟨Nat.le_of_ble_eq_true rfl, Nat.le_of_ble_eq_true rfl⟩ (fun r u1 H locs hp w => ?_)
  refine lv_aload_n hx hb dL_law_380 rfl (lv_at hl 2 rfl) ?_
  refine lv_aload_n hx hb dL_law_381 rfl (lv_at hl 0 rfl) ?_
  refine lv_iload_n hx hb dL_law_382 rfl (lv_at hl 3 rfl) ?_
  refine lv_iconst (v := nI 1) hx hb dL_law_383 (by decide) ?_
  refine n_iadd hx hb dL_law_384 ?_
  refine l_sld (j := i + 1) K hX hbl hL w (by omega) dL_law_385 ?_
  refine lv_aload_n hx hb dL_law_386 rfl (lv_at hl 0 rfl) ?_
  refine lv_iload_n hx hb dL_law_387 rfl (lv_at hl 3 rfl) ?_
  refine lv_iconst (v := nI 2) hx hb dL_law_388 (by decide) ?_
  refine n_iadd hx hb dL_law_389 ?_
  refine l_sld (j := i + 2) K hX hbl hL w (by omega) dL_law_390 ?_
  refine lv_aload_n hx hb dL_law_391 rfl (lv_at hl 0 rfl) ?_
  refine lv_iload_n hx hb dL_law_392 rfl (lv_at hl 3 rfl) ?_
  refine lv_iconst (v := nI 3) hx hb dL_law_393 (by decide) ?_
  refine n_iadd hx hb dL_law_394 ?_
  refine l_sld (j := i + 3) K hX hbl hL w (by omega) dL_law_395 ?_
  refine l_mi (As := [.int (xs (i + 1)), .int (xs (i + 2)), .int (xs (i + 3))]) (rest := [.int r]) K w (metX1_responseWith l D dk k hDm C dv nt pt cy aw va hC (xs (i + 1)) (xs (i + 2)) (xs (i + 3))) (cwL_X1_responseWith hts ⟨Nat.le_of_ble_eq_true rfl, Nat.le_of_ble_eq_true rfl⟩) rfl hl.1 rfl (Nat.le_of_ble_eq_true rfl) dL_law_396 ⟨Nat.le_of_ble_eq_true rfl, Nat.le_of_ble_eq_true rfl⟩ (fun r' v1 H locs hq w => ?_)
  obtain ⟨heq, hrel⟩ : r = r' ∧ REL u1 v1 := ⟨RaskF_det hC hp.1 hq.1, tie_keep hF hp.2 hq.2⟩
  exact lv_icmp_eq (tgt := 561) hx hb dL_law_399 (by decide) (fun _ => kk _ _ H locs ls hrel w hl) (fun c9 => absurd heq c9)
set_option maxHeartbeats 4000000 in
set_option maxRecDepth 100000 in
/-- the law: candidates -/
theorem cs_candidates {p : Program} {l : Launch} {e : Env} {s : State} {m : MethodId} {below : List Frame} {meth : Method} {c : Code} {H : Heap} {locs : List Loc} {Q : State → Prop} {ls : Array Slot} {D : va_G} {di dj dk : ClassId} {h k : Nat → Nat} {u : XS} {v : MS} {b L i : Nat} {xs : Nat → Int32} (K : LC p s m #[Value.ref b] c D di dj dk h k) (hL : L ≤ 256) (hX : va_X b L xs s s.heap) (hbl : b < s.heap.size) (hi : i + 4 ≤ L) (hR : REL u v)
    (kk : ∀ (u : XS) (v : MS) (H : Heap) (locs : List Loc) (ls : Array Slot), REL u v → LG s D di dj dk h k u v H locs → lv_has ls 4 [(0, .ref b), (1, .ref (h 0)), (2, .ref (k 0)), (3, .int (nI i))] → W p l e room_1 s m #[Value.ref b] below meth c H locs 20 273 Q (F0 m 561 ls []))
    (w : LG s D di dj dk h k u v H locs) (hl : lv_has ls 4 [(0, .ref b), (1, .ref (h 0)), (2, .ref (k 0)), (3, .int (nI i))]) : W p l e room_1 s m #[Value.ref b] below meth c H locs 20 273 Q (F0 m 404 ls []) := by
  obtain ⟨hx, hb, hml, hown, hts, hKx, hKm, hDx, hDm, hdj, hAx, hAm⟩ := id K
  obtain ⟨C, dv, nt, lf, pt, cy, aw, hXK, hMK, hF⟩ := hR
  obtain ⟨lh, gr, wo, st, an, lk, rfl, hG⟩ := id hXK
  obtain ⟨va, rfl⟩ := id hMK
  have hC := hF.1
  have hN : nt ≤ 20 ∧ ∀ i, i < nt → isP (pt i) ∧ isC (cy i) := ⟨hF.2.2.1, hF.2.2.2.1⟩
  refine lv_aload_n hx hb dL_law_404 rfl (lv_at hl 1 rfl) ?_
  refine l_xr (As := []) (rest := []) K w (metX0_candidates l D di dj h hDx C dv nt lf lh gr wo st an lk hC) (cwL_X0_candidates hts ⟨Nat.le_of_ble_eq_true rfl, Nat.le_of_ble_eq_true rfl⟩) rfl hl.1 rfl (Nat.le_of_ble_eq_true rfl) dL_law_405 ⟨Nat.le_of_ble_eq_true rfl, Nat.le_of_ble_eq_true rfl⟩ (fun r hp => ?_)
  refine lv_aload_n hx hb dL_law_408 rfl (lv_at hl 2 rfl) ?_
  refine l_mi (As := []) (rest := [.int r]) K w (metX1_candidates l D dk k hDm C dv nt pt cy aw va hC hN) (cwL_X1_candidates hts ⟨Nat.le_of_ble_eq_true rfl, Nat.le_of_ble_eq_true rfl⟩) rfl hl.1 rfl (Nat.le_of_ble_eq_true rfl) dL_law_409 ⟨Nat.le_of_ble_eq_true rfl, Nat.le_of_ble_eq_true rfl⟩ (fun r' v1 H locs hq w => ?_)
  obtain ⟨heq, hrel⟩ : r = r' ∧ REL (C, dv, nt, lf, lh, gr, wo, st, an, lk) v1 := ⟨eq_candidates hF hp hq.1, tie_keep hF hXK hq.2⟩
  exact lv_icmp_eq (tgt := 561) hx hb dL_law_412 (by decide) (fun _ => kk _ _ H locs ls hrel w hl) (fun c9 => absurd heq c9)
set_option maxHeartbeats 4000000 in
set_option maxRecDepth 100000 in
/-- the law: candidate -/
theorem cs_candidate {p : Program} {l : Launch} {e : Env} {s : State} {m : MethodId} {below : List Frame} {meth : Method} {c : Code} {H : Heap} {locs : List Loc} {Q : State → Prop} {ls : Array Slot} {D : va_G} {di dj dk : ClassId} {h k : Nat → Nat} {u : XS} {v : MS} {b L i : Nat} {xs : Nat → Int32} (K : LC p s m #[Value.ref b] c D di dj dk h k) (hL : L ≤ 256) (hX : va_X b L xs s s.heap) (hbl : b < s.heap.size) (hi : i + 4 ≤ L) (hR : REL u v)
    (kk : ∀ (u : XS) (v : MS) (H : Heap) (locs : List Loc) (ls : Array Slot), REL u v → LG s D di dj dk h k u v H locs → lv_has ls 4 [(0, .ref b), (1, .ref (h 0)), (2, .ref (k 0)), (3, .int (nI i))] → W p l e room_1 s m #[Value.ref b] below meth c H locs 20 273 Q (F0 m 561 ls []))
    (w : LG s D di dj dk h k u v H locs) (hl : lv_has ls 4 [(0, .ref b), (1, .ref (h 0)), (2, .ref (k 0)), (3, .int (nI i))]) : W p l e room_1 s m #[Value.ref b] below meth c H locs 20 273 Q (F0 m 417 ls []) := by
  obtain ⟨hx, hb, hml, hown, hts, hKx, hKm, hDx, hDm, hdj, hAx, hAm⟩ := id K
  obtain ⟨C, dv, nt, lf, pt, cy, aw, hXK, hMK, hF⟩ := hR
  obtain ⟨lh, gr, wo, st, an, lk, rfl, hG⟩ := id hXK
  obtain ⟨va, rfl⟩ := id hMK
  have hC := hF.1
  have hN : nt ≤ 20 ∧ ∀ i, i < nt → isP (pt i) ∧ isC (cy i) := ⟨hF.2.2.1, hF.2.2.2.1⟩
  refine lv_aload_n hx hb dL_law_417 rfl (lv_at hl 1 rfl) ?_
  refine lv_aload_n hx hb dL_law_418 rfl (lv_at hl 0 rfl) ?_
  refine lv_iload_n hx hb dL_law_419 rfl (lv_at hl 3 rfl) ?_
  refine lv_iconst (v := nI 1) hx hb dL_law_420 (by decide) ?_
  refine n_iadd hx hb dL_law_421 ?_
  refine l_sld (j := i + 1) K hX hbl hL w (by omega) dL_law_422 ?_
  refine l_xr (As := [.int (xs (i + 1))]) (rest := []) K w (metX0_candidate l D di dj h hDx C dv nt lf lh gr wo st an lk hC (xs (i + 1))) (cwL_X0_candidate hts ⟨Nat.le_of_ble_eq_true rfl, Nat.le_of_ble_eq_true rfl⟩) rfl hl.1 rfl (Nat.le_of_ble_eq_true rfl) dL_law_423 ⟨Nat.le_of_ble_eq_true rfl, Nat.le_of_ble_eq_true rfl⟩ (fun r hp => ?_)
  refine lv_aload_n hx hb dL_law_426 rfl (lv_at hl 2 rfl) ?_
  refine lv_aload_n hx hb dL_law_427 rfl (lv_at hl 0 rfl) ?_
  refine lv_iload_n hx hb dL_law_428 rfl (lv_at hl 3 rfl) ?_
  refine lv_iconst (v := nI 1) hx hb dL_law_429 (by decide) ?_
  refine n_iadd hx hb dL_law_430 ?_
  refine l_sld (j := i + 1) K hX hbl hL w (by omega) dL_law_431 ?_
  refine l_mi (As := [.int (xs (i + 1))]) (rest := [.int r]) K w (metX1_candidate l D dk k hDm C dv nt pt cy aw va hC hN (xs (i + 1))) (cwL_X1_candidate hts ⟨Nat.le_of_ble_eq_true rfl, Nat.le_of_ble_eq_true rfl⟩) rfl hl.1 rfl (Nat.le_of_ble_eq_true rfl) dL_law_432 ⟨Nat.le_of_ble_eq_true rfl, Nat.le_of_ble_eq_true rfl⟩ (fun r' v1 H locs hq w => ?_)
  obtain ⟨heq, hrel⟩ : r = r' ∧ REL (C, dv, nt, lf, lh, gr, wo, st, an, lk) v1 := ⟨eq_candidate hF hp hq.1, tie_keep hF hXK hq.2⟩
  exact lv_icmp_eq (tgt := 561) hx hb dL_law_435 (by decide) (fun _ => kk _ _ H locs ls hrel w hl) (fun c9 => absurd heq c9)
set_option maxHeartbeats 4000000 in
set_option maxRecDepth 100000 in
/-- the law: healthy -/
theorem cs_healthy {p : Program} {l : Launch} {e : Env} {s : State} {m : MethodId} {below : List Frame} {meth : Method} {c : Code} {H : Heap} {locs : List Loc} {Q : State → Prop} {ls : Array Slot} {D : va_G} {di dj dk : ClassId} {h k : Nat → Nat} {u : XS} {v : MS} {b L i : Nat} {xs : Nat → Int32} (K : LC p s m #[Value.ref b] c D di dj dk h k) (hL : L ≤ 256) (hX : va_X b L xs s s.heap) (hbl : b < s.heap.size) (hi : i + 4 ≤ L) (hR : REL u v)
    (kk : ∀ (u : XS) (v : MS) (H : Heap) (locs : List Loc) (ls : Array Slot), REL u v → LG s D di dj dk h k u v H locs → lv_has ls 4 [(0, .ref b), (1, .ref (h 0)), (2, .ref (k 0)), (3, .int (nI i))] → W p l e room_1 s m #[Value.ref b] below meth c H locs 20 273 Q (F0 m 561 ls []))
    (w : LG s D di dj dk h k u v H locs) (hl : lv_has ls 4 [(0, .ref b), (1, .ref (h 0)), (2, .ref (k 0)), (3, .int (nI i))]) : W p l e room_1 s m #[Value.ref b] below meth c H locs 20 273 Q (F0 m 440 ls []) := by
  obtain ⟨hx, hb, hml, hown, hts, hKx, hKm, hDx, hDm, hdj, hAx, hAm⟩ := id K
  obtain ⟨C, dv, nt, lf, pt, cy, aw, hXK, hMK, hF⟩ := hR
  obtain ⟨lh, gr, wo, st, an, lk, rfl, hG⟩ := id hXK
  obtain ⟨va, rfl⟩ := id hMK
  have hC := hF.1
  have hN : nt ≤ 20 ∧ ∀ i, i < nt → isP (pt i) ∧ isC (cy i) := ⟨hF.2.2.1, hF.2.2.2.1⟩
  refine lv_aload_n hx hb dL_law_440 rfl (lv_at hl 1 rfl) ?_
  refine l_xr (As := []) (rest := []) K w (metX0_healthy l D di dj h hDx C dv nt lf lh gr wo st an lk) (cwL_X0_healthy hts ⟨Nat.le_of_ble_eq_true rfl, Nat.le_of_ble_eq_true rfl⟩) rfl hl.1 rfl (Nat.le_of_ble_eq_true rfl) dL_law_441 ⟨Nat.le_of_ble_eq_true rfl, Nat.le_of_ble_eq_true rfl⟩ (fun r hp => ?_)
  refine lv_aload_n hx hb dL_law_444 rfl (lv_at hl 2 rfl) ?_
  refine l_mi (As := []) (rest := [.int r]) K w (metX1_healthy l D dk k hDm C dv nt pt cy aw va hC hN) (cwL_X1_healthy hts ⟨Nat.le_of_ble_eq_true rfl, Nat.le_of_ble_eq_true rfl⟩) rfl hl.1 rfl (Nat.le_of_ble_eq_true rfl) dL_law_445 ⟨Nat.le_of_ble_eq_true rfl, Nat.le_of_ble_eq_true rfl⟩ (fun r' v1 H locs hq w => ?_)
  obtain ⟨heq, hrel⟩ : r = r' ∧ REL (C, dv, nt, lf, lh, gr, wo, st, an, lk) v1 := ⟨eq_healthy hF hp hq.1, tie_keep hF hXK hq.2⟩
  exact lv_icmp_eq (tgt := 561) hx hb dL_law_448 (by decide) (fun _ => kk _ _ H locs ls hrel w hl) (fun c9 => absurd heq c9)
end
section
/-! the law, a case a theorem -/
set_option maxRecDepth 100000
set_option maxHeartbeats 4000000 in
set_option maxRecDepth 100000 in
/-- the law: nextPattern -/
theorem cs_nextPattern {p : Program} {l : Launch} {e : Env} {s : State} {m : MethodId} {below : List Frame} {meth : Method} {c : Code} {H : Heap} {locs : List Loc} {Q : State → Prop} {ls : Array Slot} {D : va_G} {di dj dk : ClassId} {h k : Nat → Nat} {u : XS} {v : MS} {b L i : Nat} {xs : Nat → Int32} (K : LC p s m #[Value.ref b] c D di dj dk h k) (hL : L ≤ 256) (hX : va_X b L xs s s.heap) (hbl : b < s.heap.size) (hi : i + 4 ≤ L) (hR : REL u v)
    (kk : ∀ (u : XS) (v : MS) (H : Heap) (locs : List Loc) (ls : Array Slot), REL u v → LG s D di dj dk h k u v H locs → lv_has ls 4 [(0, .ref b), (1, .ref (h 0)), (2, .ref (k 0)), (3, .int (nI i))] → W p l e room_1 s m #[Value.ref b] below meth c H locs 20 273 Q (F0 m 561 ls []))
    (w : LG s D di dj dk h k u v H locs) (hl : lv_has ls 4 [(0, .ref b), (1, .ref (h 0)), (2, .ref (k 0)), (3, .int (nI i))]) : W p l e room_1 s m #[Value.ref b] below meth c H locs 20 273 Q (F0 m 453 ls []) := by
  obtain ⟨hx, hb, hml, hown, hts, hKx, hKm, hDx, hDm, hdj, hAx, hAm⟩ := id K
  obtain ⟨C, dv, nt, lf, pt, cy, aw, hXK, hMK, hF⟩ := hR
  obtain ⟨lh, gr, wo, st, an, lk, rfl, hG⟩ := id hXK
  obtain ⟨va, rfl⟩ := id hMK
  have hC := hF.1
  have hN : nt ≤ 20 ∧ ∀ i, i < nt → isP (pt i) ∧ isC (cy i) := ⟨hF.2.2.1, hF.2.2.2.1⟩
  refine lv_aload_n hx hb dL_law_453 rfl (lv_at hl 1 rfl) ?_
  refine l_xi (As := []) (rest := []) K w (metX0_nextPattern l D di dj h hDx C dv nt lf lh gr wo st an lk hC hG) (cwL_X0_nextPattern hts ⟨Nat.le_of_ble_eq_true rfl, Nat.le_of_ble_eq_true rfl⟩) rfl hl.1 rfl (Nat.le_of_ble_eq_true rfl) dL_law_454 ⟨Nat.le_of_ble_eq_true rfl, Nat.le_of_ble_eq_true rfl⟩ (fun r u1 H locs hp w => ?_)
  refine lv_aload_n hx hb dL_law_457 rfl (lv_at hl 2 rfl) ?_
  refine l_mi (As := []) (rest := [.int r]) K w (metX1_nextPattern l D dk k hDm C dv nt pt cy aw va hC hN) (cwL_X1_nextPattern hts ⟨Nat.le_of_ble_eq_true rfl, Nat.le_of_ble_eq_true rfl⟩) rfl hl.1 rfl (Nat.le_of_ble_eq_true rfl) dL_law_458 ⟨Nat.le_of_ble_eq_true rfl, Nat.le_of_ble_eq_true rfl⟩ (fun r' v1 H locs hq w => ?_)
  obtain ⟨heq, hrel⟩ : r = r' ∧ REL u1 v1 := ⟨eq_next hF hp.1 hq.1, tie_keep hF hp.2 hq.2⟩
  exact lv_icmp_eq (tgt := 561) hx hb dL_law_461 (by decide) (fun _ => kk _ _ H locs ls hrel w hl) (fun c9 => absurd heq c9)
set_option maxHeartbeats 4000000 in
set_option maxRecDepth 100000 in
/-- the law: detected -/
theorem cs_detected {p : Program} {l : Launch} {e : Env} {s : State} {m : MethodId} {below : List Frame} {meth : Method} {c : Code} {H : Heap} {locs : List Loc} {Q : State → Prop} {ls : Array Slot} {D : va_G} {di dj dk : ClassId} {h k : Nat → Nat} {u : XS} {v : MS} {b L i : Nat} {xs : Nat → Int32} (K : LC p s m #[Value.ref b] c D di dj dk h k) (hL : L ≤ 256) (hX : va_X b L xs s s.heap) (hbl : b < s.heap.size) (hi : i + 4 ≤ L) (hR : REL u v)
    (kk : ∀ (u : XS) (v : MS) (H : Heap) (locs : List Loc) (ls : Array Slot), REL u v → LG s D di dj dk h k u v H locs → lv_has ls 4 [(0, .ref b), (1, .ref (h 0)), (2, .ref (k 0)), (3, .int (nI i))] → W p l e room_1 s m #[Value.ref b] below meth c H locs 20 273 Q (F0 m 561 ls []))
    (w : LG s D di dj dk h k u v H locs) (hl : lv_has ls 4 [(0, .ref b), (1, .ref (h 0)), (2, .ref (k 0)), (3, .int (nI i))]) : W p l e room_1 s m #[Value.ref b] below meth c H locs 20 273 Q (F0 m 466 ls []) := by
  obtain ⟨hx, hb, hml, hown, hts, hKx, hKm, hDx, hDm, hdj, hAx, hAm⟩ := id K
  obtain ⟨C, dv, nt, lf, pt, cy, aw, hXK, hMK, hF⟩ := hR
  obtain ⟨lh, gr, wo, st, an, lk, rfl, hG⟩ := id hXK
  obtain ⟨va, rfl⟩ := id hMK
  have hC := hF.1
  refine lv_aload_n hx hb dL_law_466 rfl (lv_at hl 1 rfl) ?_
  refine lv_aload_n hx hb dL_law_467 rfl (lv_at hl 0 rfl) ?_
  refine lv_iload_n hx hb dL_law_468 rfl (lv_at hl 3 rfl) ?_
  refine lv_iconst (v := nI 1) hx hb dL_law_469 (by decide) ?_
  refine n_iadd hx hb dL_law_470 ?_
  refine l_sld (j := i + 1) K hX hbl hL w (by omega) dL_law_471 ?_
  refine lv_aload_n hx hb dL_law_472 rfl (lv_at hl 0 rfl) ?_
  refine lv_iload_n hx hb dL_law_473 rfl (lv_at hl 3 rfl) ?_
  refine lv_iconst (v := nI 2) hx hb dL_law_474 (by decide) ?_
  refine n_iadd hx hb dL_law_475 ?_
  refine l_sld (j := i + 2) K hX hbl hL w (by omega) dL_law_476 ?_
  refine l_xi (As := [.int (xs (i + 1)), .int (xs (i + 2))]) (rest := []) K w (metX0_detected l D di dj h hDx C dv nt lf lh gr wo st an lk hC hG (xs (i + 1)) (xs (i + 2))) (cwL_X0_detected hts ⟨Nat.le_of_ble_eq_true rfl, Nat.le_of_ble_eq_true rfl⟩) rfl hl.1 rfl (Nat.le_of_ble_eq_true rfl) dL_law_477 ⟨Nat.le_of_ble_eq_true rfl, Nat.le_of_ble_eq_true rfl⟩ (fun r u1 H locs hp w => ?_)
  refine lv_aload_n hx hb dL_law_480 rfl (lv_at hl 2 rfl) ?_
  refine lv_aload_n hx hb dL_law_481 rfl (lv_at hl 0 rfl) ?_
  refine lv_iload_n hx hb dL_law_482 rfl (lv_at hl 3 rfl) ?_
  refine lv_iconst (v := nI 1) hx hb dL_law_483 (by decide) ?_
  refine n_iadd hx hb dL_law_484 ?_
  refine l_sld (j := i + 1) K hX hbl hL w (by omega) dL_law_485 ?_
  refine lv_aload_n hx hb dL_law_486 rfl (lv_at hl 0 rfl) ?_
  refine lv_iload_n hx hb dL_law_487 rfl (lv_at hl 3 rfl) ?_
  refine lv_iconst (v := nI 2) hx hb dL_law_488 (by decide) ?_
  refine n_iadd hx hb dL_law_489 ?_
  refine l_sld (j := i + 2) K hX hbl hL w (by omega) dL_law_490 ?_
  refine l_mi (As := [.int (xs (i + 1)), .int (xs (i + 2))]) (rest := [.int r]) K w (metX1_detected l D dk k hDm C dv nt pt cy aw va hC (xs (i + 1)) (xs (i + 2))) (cwL_X1_detected hts ⟨Nat.le_of_ble_eq_true rfl, Nat.le_of_ble_eq_true rfl⟩) rfl hl.1 rfl (Nat.le_of_ble_eq_true rfl) dL_law_491 ⟨Nat.le_of_ble_eq_true rfl, Nat.le_of_ble_eq_true rfl⟩ (fun r' v1 H locs hq w => ?_)
  obtain ⟨heq, hrel⟩ : r = r' ∧ REL u1 v1 := ⟨Rask_det hp.1 hq.1, tie_keep hF hp.2 hq.2⟩
  exact lv_icmp_eq (tgt := 561) hx hb dL_law_494 (by decide) (fun _ => kk _ _ H locs ls hrel w hl) (fun c9 => absurd heq c9)
set_option maxHeartbeats 4000000 in
set_option maxRecDepth 100000 in
/-- the law: hidden -/
theorem cs_hidden {p : Program} {l : Launch} {e : Env} {s : State} {m : MethodId} {below : List Frame} {meth : Method} {c : Code} {H : Heap} {locs : List Loc} {Q : State → Prop} {ls : Array Slot} {D : va_G} {di dj dk : ClassId} {h k : Nat → Nat} {u : XS} {v : MS} {b L i : Nat} {xs : Nat → Int32} (K : LC p s m #[Value.ref b] c D di dj dk h k) (hL : L ≤ 256) (hX : va_X b L xs s s.heap) (hbl : b < s.heap.size) (hi : i + 4 ≤ L) (hR : REL u v)
    (kk : ∀ (u : XS) (v : MS) (H : Heap) (locs : List Loc) (ls : Array Slot), REL u v → LG s D di dj dk h k u v H locs → lv_has ls 4 [(0, .ref b), (1, .ref (h 0)), (2, .ref (k 0)), (3, .int (nI i))] → W p l e room_1 s m #[Value.ref b] below meth c H locs 20 273 Q (F0 m 561 ls []))
    (w : LG s D di dj dk h k u v H locs) (hl : lv_has ls 4 [(0, .ref b), (1, .ref (h 0)), (2, .ref (k 0)), (3, .int (nI i))]) : W p l e room_1 s m #[Value.ref b] below meth c H locs 20 273 Q (F0 m 499 ls []) := by
  obtain ⟨hx, hb, hml, hown, hts, hKx, hKm, hDx, hDm, hdj, hAx, hAm⟩ := id K
  obtain ⟨C, dv, nt, lf, pt, cy, aw, hXK, hMK, hF⟩ := hR
  obtain ⟨lh, gr, wo, st, an, lk, rfl, hG⟩ := id hXK
  obtain ⟨va, rfl⟩ := id hMK
  have hC := hF.1
  refine lv_aload_n hx hb dL_law_499 rfl (lv_at hl 1 rfl) ?_
  refine l_xi (As := []) (rest := []) K w (metX0_hidden l D di dj h hDx C dv nt lf lh gr wo st an lk hC hG) (cwL_X0_hidden hts ⟨Nat.le_of_ble_eq_true rfl, Nat.le_of_ble_eq_true rfl⟩) rfl hl.1 rfl (Nat.le_of_ble_eq_true rfl) dL_law_500 ⟨Nat.le_of_ble_eq_true rfl, Nat.le_of_ble_eq_true rfl⟩ (fun r u1 H locs hp w => ?_)
  refine lv_aload_n hx hb dL_law_503 rfl (lv_at hl 2 rfl) ?_
  refine l_mi (As := []) (rest := [.int r]) K w (metX1_hidden l D dk k hDm C dv nt pt cy aw va hC) (cwL_X1_hidden hts ⟨Nat.le_of_ble_eq_true rfl, Nat.le_of_ble_eq_true rfl⟩) rfl hl.1 rfl (Nat.le_of_ble_eq_true rfl) dL_law_504 ⟨Nat.le_of_ble_eq_true rfl, Nat.le_of_ble_eq_true rfl⟩ (fun r' v1 H locs hq w => ?_)
  obtain ⟨heq, hrel⟩ : r = r' ∧ REL u1 v1 := ⟨eq_hidden hp.1 hq.1, tie_keep hF hp.2 hq.2⟩
  exact lv_icmp_eq (tgt := 561) hx hb dL_law_507 (by decide) (fun _ => kk _ _ H locs ls hrel w hl) (fun c9 => absurd heq c9)
set_option maxHeartbeats 4000000 in
set_option maxRecDepth 100000 in
/-- the law: leader -/
theorem cs_leader {p : Program} {l : Launch} {e : Env} {s : State} {m : MethodId} {below : List Frame} {meth : Method} {c : Code} {H : Heap} {locs : List Loc} {Q : State → Prop} {ls : Array Slot} {D : va_G} {di dj dk : ClassId} {h k : Nat → Nat} {u : XS} {v : MS} {b L i : Nat} {xs : Nat → Int32} (K : LC p s m #[Value.ref b] c D di dj dk h k) (hL : L ≤ 256) (hX : va_X b L xs s s.heap) (hbl : b < s.heap.size) (hi : i + 4 ≤ L) (hR : REL u v)
    (kk : ∀ (u : XS) (v : MS) (H : Heap) (locs : List Loc) (ls : Array Slot), REL u v → LG s D di dj dk h k u v H locs → lv_has ls 4 [(0, .ref b), (1, .ref (h 0)), (2, .ref (k 0)), (3, .int (nI i))] → W p l e room_1 s m #[Value.ref b] below meth c H locs 20 273 Q (F0 m 561 ls []))
    (w : LG s D di dj dk h k u v H locs) (hl : lv_has ls 4 [(0, .ref b), (1, .ref (h 0)), (2, .ref (k 0)), (3, .int (nI i))]) : W p l e room_1 s m #[Value.ref b] below meth c H locs 20 273 Q (F0 m 512 ls []) := by
  obtain ⟨hx, hb, hml, hown, hts, hKx, hKm, hDx, hDm, hdj, hAx, hAm⟩ := id K
  obtain ⟨C, dv, nt, lf, pt, cy, aw, hXK, hMK, hF⟩ := hR
  obtain ⟨lh, gr, wo, st, an, lk, rfl, hG⟩ := id hXK
  obtain ⟨va, rfl⟩ := id hMK
  have hC := hF.1
  refine lv_aload_n hx hb dL_law_512 rfl (lv_at hl 1 rfl) ?_
  refine lv_aload_n hx hb dL_law_513 rfl (lv_at hl 0 rfl) ?_
  refine lv_iload_n hx hb dL_law_514 rfl (lv_at hl 3 rfl) ?_
  refine lv_iconst (v := nI 1) hx hb dL_law_515 (by decide) ?_
  refine n_iadd hx hb dL_law_516 ?_
  refine l_sld (j := i + 1) K hX hbl hL w (by omega) dL_law_517 ?_
  refine l_xi (As := [.int (xs (i + 1))]) (rest := []) K w (metX0_leader l D di dj h hDx C dv nt lf lh gr wo st an lk hC hG (xs (i + 1))) (cwL_X0_leader hts ⟨Nat.le_of_ble_eq_true rfl, Nat.le_of_ble_eq_true rfl⟩) rfl hl.1 rfl (Nat.le_of_ble_eq_true rfl) dL_law_518 ⟨Nat.le_of_ble_eq_true rfl, Nat.le_of_ble_eq_true rfl⟩ (fun r u1 H locs hp w => ?_)
  refine lv_aload_n hx hb dL_law_521 rfl (lv_at hl 2 rfl) ?_
  refine lv_aload_n hx hb dL_law_522 rfl (lv_at hl 0 rfl) ?_
  refine lv_iload_n hx hb dL_law_523 rfl (lv_at hl 3 rfl) ?_
  refine lv_iconst (v := nI 1) hx hb dL_law_524 (by decide) ?_
  refine n_iadd hx hb dL_law_525 ?_
  refine l_sld (j := i + 1) K hX hbl hL w (by omega) dL_law_526 ?_
  refine l_mi (As := [.int (xs (i + 1))]) (rest := [.int r]) K w (metX1_leader l D dk k hDm C dv nt pt cy aw va hC (xs (i + 1))) (cwL_X1_leader hts ⟨Nat.le_of_ble_eq_true rfl, Nat.le_of_ble_eq_true rfl⟩) rfl hl.1 rfl (Nat.le_of_ble_eq_true rfl) dL_law_527 ⟨Nat.le_of_ble_eq_true rfl, Nat.le_of_ble_eq_true rfl⟩ (fun r' v1 H locs hq w => ?_)
  obtain ⟨heq, hrel⟩ : r = r' ∧ REL u1 v1 := ⟨Rlead_det hC hp.1 hq.1, tie_keep hF hp.2 hq.2⟩
  exact lv_icmp_eq (tgt := 561) hx hb dL_law_530 (by decide) (fun _ => kk _ _ H locs ls hrel w hl) (fun c9 => absurd heq c9)
set_option maxHeartbeats 4000000 in
set_option maxRecDepth 100000 in
/-- the law: groups -/
theorem cs_groups {p : Program} {l : Launch} {e : Env} {s : State} {m : MethodId} {below : List Frame} {meth : Method} {c : Code} {H : Heap} {locs : List Loc} {Q : State → Prop} {ls : Array Slot} {D : va_G} {di dj dk : ClassId} {h k : Nat → Nat} {u : XS} {v : MS} {b L i : Nat} {xs : Nat → Int32} (K : LC p s m #[Value.ref b] c D di dj dk h k) (hL : L ≤ 256) (hX : va_X b L xs s s.heap) (hbl : b < s.heap.size) (hi : i + 4 ≤ L) (hR : REL u v)
    (kk : ∀ (u : XS) (v : MS) (H : Heap) (locs : List Loc) (ls : Array Slot), REL u v → LG s D di dj dk h k u v H locs → lv_has ls 4 [(0, .ref b), (1, .ref (h 0)), (2, .ref (k 0)), (3, .int (nI i))] → W p l e room_1 s m #[Value.ref b] below meth c H locs 20 273 Q (F0 m 561 ls []))
    (w : LG s D di dj dk h k u v H locs) (hl : lv_has ls 4 [(0, .ref b), (1, .ref (h 0)), (2, .ref (k 0)), (3, .int (nI i))]) : W p l e room_1 s m #[Value.ref b] below meth c H locs 20 273 Q (F0 m 535 ls []) := by
  obtain ⟨hx, hb, hml, hown, hts, hKx, hKm, hDx, hDm, hdj, hAx, hAm⟩ := id K
  obtain ⟨C, dv, nt, lf, pt, cy, aw, hXK, hMK, hF⟩ := hR
  obtain ⟨lh, gr, wo, st, an, lk, rfl, hG⟩ := id hXK
  obtain ⟨va, rfl⟩ := id hMK
  have hC := hF.1
  refine lv_aload_n hx hb dL_law_535 rfl (lv_at hl 1 rfl) ?_
  refine l_xi (As := []) (rest := []) K w (metX0_groups l D di dj h hDx C dv nt lf lh gr wo st an lk hC hG) (cwL_X0_groups hts ⟨Nat.le_of_ble_eq_true rfl, Nat.le_of_ble_eq_true rfl⟩) rfl hl.1 rfl (Nat.le_of_ble_eq_true rfl) dL_law_536 ⟨Nat.le_of_ble_eq_true rfl, Nat.le_of_ble_eq_true rfl⟩ (fun r u1 H locs hp w => ?_)
  refine lv_aload_n hx hb dL_law_539 rfl (lv_at hl 2 rfl) ?_
  refine l_mi (As := []) (rest := [.int r]) K w (metX1_groups l D dk k hDm C dv nt pt cy aw va hC) (cwL_X1_groups hts ⟨Nat.le_of_ble_eq_true rfl, Nat.le_of_ble_eq_true rfl⟩) rfl hl.1 rfl (Nat.le_of_ble_eq_true rfl) dL_law_540 ⟨Nat.le_of_ble_eq_true rfl, Nat.le_of_ble_eq_true rfl⟩ (fun r' v1 H locs hq w => ?_)
  obtain ⟨heq, hrel⟩ : r = r' ∧ REL u1 v1 := ⟨eq_groups hF hp.1 hq.1, tie_keep hF hp.2 hq.2⟩
  exact lv_icmp_eq (tgt := 561) hx hb dL_law_543 (by decide) (fun _ => kk _ _ H locs ls hrel w hl) (fun c9 => absurd heq c9)
set_option maxHeartbeats 4000000 in
set_option maxRecDepth 100000 in
/-- the law: candidateGroups -/
theorem cs_candidateGroups {p : Program} {l : Launch} {e : Env} {s : State} {m : MethodId} {below : List Frame} {meth : Method} {c : Code} {H : Heap} {locs : List Loc} {Q : State → Prop} {ls : Array Slot} {D : va_G} {di dj dk : ClassId} {h k : Nat → Nat} {u : XS} {v : MS} {b L i : Nat} {xs : Nat → Int32} (K : LC p s m #[Value.ref b] c D di dj dk h k) (hL : L ≤ 256) (hX : va_X b L xs s s.heap) (hbl : b < s.heap.size) (hi : i + 4 ≤ L) (hR : REL u v)
    (kk : ∀ (u : XS) (v : MS) (H : Heap) (locs : List Loc) (ls : Array Slot), REL u v → LG s D di dj dk h k u v H locs → lv_has ls 4 [(0, .ref b), (1, .ref (h 0)), (2, .ref (k 0)), (3, .int (nI i))] → W p l e room_1 s m #[Value.ref b] below meth c H locs 20 273 Q (F0 m 561 ls []))
    (w : LG s D di dj dk h k u v H locs) (hl : lv_has ls 4 [(0, .ref b), (1, .ref (h 0)), (2, .ref (k 0)), (3, .int (nI i))]) : W p l e room_1 s m #[Value.ref b] below meth c H locs 20 273 Q (F0 m 548 ls []) := by
  obtain ⟨hx, hb, hml, hown, hts, hKx, hKm, hDx, hDm, hdj, hAx, hAm⟩ := id K
  obtain ⟨C, dv, nt, lf, pt, cy, aw, hXK, hMK, hF⟩ := hR
  obtain ⟨lh, gr, wo, st, an, lk, rfl, hG⟩ := id hXK
  obtain ⟨va, rfl⟩ := id hMK
  have hC := hF.1
  have hN : nt ≤ 20 ∧ ∀ i, i < nt → isP (pt i) ∧ isC (cy i) := ⟨hF.2.2.1, hF.2.2.2.1⟩
  refine lv_aload_n hx hb dL_law_548 rfl (lv_at hl 1 rfl) ?_
  refine l_xi (As := []) (rest := []) K w (metX0_candidateGroups l D di dj h hDx C dv nt lf lh gr wo st an lk hC hG) (cwL_X0_candidateGroups hts ⟨Nat.le_of_ble_eq_true rfl, Nat.le_of_ble_eq_true rfl⟩) rfl hl.1 rfl (Nat.le_of_ble_eq_true rfl) dL_law_549 ⟨Nat.le_of_ble_eq_true rfl, Nat.le_of_ble_eq_true rfl⟩ (fun r u1 H locs hp w => ?_)
  refine lv_aload_n hx hb dL_law_552 rfl (lv_at hl 2 rfl) ?_
  refine l_mi (As := []) (rest := [.int r]) K w (metX1_candidateGroups l D dk k hDm C dv nt pt cy aw va hC hN) (cwL_X1_candidateGroups hts ⟨Nat.le_of_ble_eq_true rfl, Nat.le_of_ble_eq_true rfl⟩) rfl hl.1 rfl (Nat.le_of_ble_eq_true rfl) dL_law_553 ⟨Nat.le_of_ble_eq_true rfl, Nat.le_of_ble_eq_true rfl⟩ (fun r' v1 H locs hq w => ?_)
  obtain ⟨heq, hrel⟩ : r = r' ∧ REL u1 v1 := ⟨eq_cgroups hF hp.1 hq.1, tie_keep hF hp.2 hq.2⟩
  exact lv_icmp_eq (tgt := 561) hx hb dL_law_556 (by decide) (fun _ => kk _ _ H locs ls hrel w hl) (fun c9 => absurd heq c9)
end
section
/-! the law: its loop, and from its entry -/
set_option maxRecDepth 100000
set_option maxHeartbeats 4000000 in
set_option maxRecDepth 100000 in
/-- the law's loop at its head: i ints read -/
theorem law_loop {p : Program} {l : Launch} {e : Env} {s : State} {m : MethodId} {below : List Frame} {meth : Method} {c : Code} {D : va_G} {di dj dk : ClassId} {h k : Nat → Nat} {b L : Nat} {xs : Nat → Int32} (K : LC p s m #[Value.ref b] c D di dj dk h k) (hL : L ≤ 256) (hX : va_X b L xs s s.heap) (hbl : b < s.heap.size) (hr : meth.sig.returnType = ret) (hlocks : meth.locks = false) :
    ∀ (n i : Nat) (u : XS) (v : MS) (H : Heap) (locs : List Loc) (ls : Array Slot), i ≤ L → L + 1 ≤ i + n → REL u v → LG s D di dj dk h k u v H locs → lv_has ls 4 [(0, .ref b), (1, .ref (h 0)), (2, .ref (k 0)), (3, .int (nI i))] → W p l e room_1 s m #[Value.ref b] below meth c H locs 20 273 (lw_Z below #[Value.ref b] s) (F0 m 18 ls []) := by
  obtain ⟨hx, hb, hml, hown, hts, hKx, hKm, hDx, hDm, hdj, hAx, hAm⟩ := id K
  intro n
  induction n with
  | zero =>
    intro i u v H locs ls h1 h2
    exact absurd h2 (by omega)
  | succ n ih =>
    intro i u v H locs ls h1 h2 hR w hl
    refine lv_iload_n hx hb dL_law_18 rfl (lv_at hl 3 rfl) ?_
    refine lv_aload_n hx hb dL_law_19 rfl (lv_at hl 0 rfl) ?_
    refine va_slen hx hb hX hbl (Nat.not_le.mpr hbl) w.2.2 dL_law_20 ?_
    refine lv_iconst (v := nI 4) hx hb dL_law_21 (by decide) ?_
    refine lv_isub hx hb dL_law_22 ?_
    refine lv_icmp_gt (tgt := 567) hx hb dL_law_23 (by decide) (fun c23 => ?_) (fun c23 => ?_)
    · refine lv_iconst (v := 1) hx hb dL_law_567 (by decide) ?_
      refine va_forget w.2.2.2.2 ?_
      refine W.widen (k := 600000) (n := 7290000) (Nat.le_of_ble_eq_true rfl) (Nat.le_of_ble_eq_true rfl) ?_
      exact lw_ret hx hb hr hlocks dL_law_568
    · have hi4 : i + 4 ≤ L := l_in hL h1 c23
      have hk : ∀ (u : XS) (v : MS) (H : Heap) (locs : List Loc) (ls : Array Slot), REL u v → LG s D di dj dk h k u v H locs → lv_has ls 4 [(0, .ref b), (1, .ref (h 0)), (2, .ref (k 0)), (3, .int (nI i))] → W p l e room_1 s m #[Value.ref b] below meth c H locs 20 273 (lw_Z below #[Value.ref b] s) (F0 m 561 ls []) := by
        intro u v H locs ls hR w hl
        refine lv_iinc (v := nI (i + 4)) (lv' := [(3, .int (nI (i + 4))), (0, .ref b), (1, .ref (h 0)), (2, .ref (k 0))]) hx hb dL_law_561 hl (k := 3) rfl (n_inc4 _) (by decide) rfl (fun ls hl => ?_)
        refine lv_goto (tgt := 18) hx hb dL_law_564 (by decide) ?_
        exact ih (i + 4) u v H locs ls hi4 (by omega) hR w (lv_sub hl [1, 2, 3, 0] rfl)
      refine lv_aload_n hx hb dL_law_26 rfl (lv_at hl 0 rfl) ?_
      refine lv_iload_n hx hb dL_law_27 rfl (lv_at hl 3 rfl) ?_
      refine l_sld (j := i) K hX hbl hL w (by omega) dL_law_28 ?_
      refine lv_bipush (v := nI 31) hx hb dL_law_29 (by decide) ?_
      refine lv_iand hx hb dL_law_31 ?_
      obtain ⟨j, hj, ej⟩ := pk_andE (xs i) (m := nI 31) 5 (by decide)
      refine n_tope ej ?_
      rcases (show j = 0 ∨ j = 1 ∨ j = 2 ∨ j = 3 ∨ j = 4 ∨ j = 5 ∨ j = 6 ∨ j = 7 ∨ j = 8 ∨ j = 9 ∨ j = 10 ∨ j = 11 ∨ j = 12 ∨ j = 13 ∨ j = 14 ∨ j = 15 ∨ j = 16 ∨ j = 17 ∨ j = 18 ∨ 19 ≤ j by omega) with rfl | rfl | rfl | rfl | rfl | rfl | rfl | rfl | rfl | rfl | rfl | rfl | rfl | rfl | rfl | rfl | rfl | rfl | rfl | hj9
      · refine lv_tableIn (off := 92) (tgt := 124) hx hb dL_law_32 (by decide) (by decide) (by decide) (by decide) ?_
        exact cs_gate K hL hX hbl hi4 hR hk w hl
      · refine lv_tableIn (off := 135) (tgt := 167) hx hb dL_law_32 (by decide) (by decide) (by decide) (by decide) ?_
        exact cs_feed K hL hX hbl hi4 hR hk w hl
      · refine lv_tableIn (off := 168) (tgt := 200) hx hb dL_law_32 (by decide) (by decide) (by decide) (by decide) ?_
        exact cs_output K hL hX hbl hi4 hR hk w hl
      · refine lv_tableIn (off := 201) (tgt := 233) hx hb dL_law_32 (by decide) (by decide) (by decide) (by decide) ?_
        exact cs_lines K hL hX hbl hi4 hR hk w hl
      · refine lv_tableIn (off := 214) (tgt := 246) hx hb dL_law_32 (by decide) (by decide) (by decide) (by decide) ?_
        exact cs_inject K hL hX hbl hi4 hR hk w hl
      · refine lv_tableIn (off := 237) (tgt := 269) hx hb dL_law_32 (by decide) (by decide) (by decide) (by decide) ?_
        exact cs_observe K hL hX hbl hi4 hR hk w hl
      · refine lv_tableIn (off := 270) (tgt := 302) hx hb dL_law_32 (by decide) (by decide) (by decide) (by decide) ?_
        exact cs_forget K hL hX hbl hi4 hR hk w hl
      · refine lv_tableIn (off := 283) (tgt := 315) hx hb dL_law_32 (by decide) (by decide) (by decide) (by decide) ?_
        exact cs_observations K hL hX hbl hi4 hR hk w hl
      · refine lv_tableIn (off := 296) (tgt := 328) hx hb dL_law_32 (by decide) (by decide) (by decide) (by decide) ?_
        exact cs_response K hL hX hbl hi4 hR hk w hl
      · refine lv_tableIn (off := 329) (tgt := 361) hx hb dL_law_32 (by decide) (by decide) (by decide) (by decide) ?_
        exact cs_responseWith K hL hX hbl hi4 hR hk w hl
      · refine lv_tableIn (off := 372) (tgt := 404) hx hb dL_law_32 (by decide) (by decide) (by decide) (by decide) ?_
        exact cs_candidates K hL hX hbl hi4 hR hk w hl
      · refine lv_tableIn (off := 385) (tgt := 417) hx hb dL_law_32 (by decide) (by decide) (by decide) (by decide) ?_
        exact cs_candidate K hL hX hbl hi4 hR hk w hl
      · refine lv_tableIn (off := 408) (tgt := 440) hx hb dL_law_32 (by decide) (by decide) (by decide) (by decide) ?_
        exact cs_healthy K hL hX hbl hi4 hR hk w hl
      · refine lv_tableIn (off := 421) (tgt := 453) hx hb dL_law_32 (by decide) (by decide) (by decide) (by decide) ?_
        exact cs_nextPattern K hL hX hbl hi4 hR hk w hl
      · refine lv_tableIn (off := 434) (tgt := 466) hx hb dL_law_32 (by decide) (by decide) (by decide) (by decide) ?_
        exact cs_detected K hL hX hbl hi4 hR hk w hl
      · refine lv_tableIn (off := 467) (tgt := 499) hx hb dL_law_32 (by decide) (by decide) (by decide) (by decide) ?_
        exact cs_hidden K hL hX hbl hi4 hR hk w hl
      · refine lv_tableIn (off := 480) (tgt := 512) hx hb dL_law_32 (by decide) (by decide) (by decide) (by decide) ?_
        exact cs_leader K hL hX hbl hi4 hR hk w hl
      · refine lv_tableIn (off := 503) (tgt := 535) hx hb dL_law_32 (by decide) (by decide) (by decide) (by decide) ?_
        exact cs_groups K hL hX hbl hi4 hR hk w hl
      · refine lv_tableIn (off := 516) (tgt := 548) hx hb dL_law_32 (by decide) (by decide) (by decide) (by decide) ?_
        exact cs_candidateGroups K hL hX hbl hi4 hR hk w hl
      · refine lv_tableOut (tgt := 561) hx hb dL_law_32 (Or.inr (by rw [nI_toInt (by omega)]; omega)) (by decide) ?_
        exact hk u v H locs ls hR w hl
set_option maxHeartbeats 4000000 in
set_option maxRecDepth 100000 in
/-- THE LAW, from its entry -/
theorem whole_start {p : Program} {e : Env} {s : State} {m : MethodId} {below : List Frame} {meth : Method} {c : Code} (l : Launch) {b L : Nat} {xs : Nat → Int32} (hL : L ≤ 256) (At0 : lw_At p s m meth c b L xs) : W p l e room_1 s m #[Value.ref b] below meth c s.heap [] 0 0 (lw_Z below #[Value.ref b] s) (entryFrame m ([Value.ref b] : List Value).toArray 4) := by
  obtain ⟨hx, hb, hr, hml, hown, hts0, hX, hbl, hlocks, hgv⟩ := At0
  have hts : ∀ w ∈ lw_all, w.before #[Value.ref b] s = true := fun w h => hts0 w (lw_all_tbl h)
  have hA : ∀ q : Nat, s.heap.size ≤ q → (fun q : Nat => s.heap.size ≤ q) q := fun _ h => h
  obtain ⟨c0_, iS0, hKn0⟩ := u_known (C := RX0) (T := TX0) (N := 15) (n := 15) hts in_X0 (hts _ q26)
  obtain ⟨c1_, iS1, hKn1⟩ := u_known (C := RX1) (T := TX1) (N := 12) (n := 12) hts in_X1 (hts _ q221)
  obtain ⟨D, hKc0⟩ : ∃ D : va_G, ∀ (k : Nat) (q : vw_C), vwCl[k]? = some q → u_Kn s q.1 q.2.1 q.2.2 (D.1 k) (D.2 k) := by
    refine ⟨(fun k => if k = 0 then c0_ else c1_, fun k => if k = 0 then iS0 else iS1), ?_⟩
    intro k q hq
    match k, hq with
    | 0, hq => cases hq; exact hKn0
    | 1, hq => cases hq; exact hKn1
    | k + 2, hq => simp [vwCl] at hq
  have hS : va_S (fun q : Nat => s.heap.size ≤ q) s.heap s.heap [] := va_S.rf
  have hK : va_K D vwCl [] s := ⟨hKc0, fun k q h => by simp at h⟩
  have hP : va_P D vwCl [] s.heap := fun k q h => by simp at h
  have hD : va_D (fun q : Nat => s.heap.size ≤ q) [] := ⟨fun i j p q h => by simp at h, fun k q h => by simp at h⟩
  have hl := lv_entry ([.ref b]) (n := 4) (Nat.le_of_ble_eq_true rfl)
  rw [lg_entry_eq]
  generalize (lg_sl ([.ref b]) ++ List.replicate (4 - (lg_sl ([.ref b])).length) Slot.unset).toArray = ls at hl ⊢
  have hl : lv_has ls 4 [(0, .ref b)] := hl
  refine va_new (ci := 0) (fs := [.null, .null, .null, .null, .null, .null, .null, .null, .null, .int 0, .int 0, .int 0, .long 0, .long 0, .int 0]) (C := RX0) (T := TX0) (N := 15) hx hb hts in_X0 tyX0 tyX0_ok hown (hts _ q25) (hts _ q26) (hts _ q23) hK hP hD hS hA rfl (fun j hj => by rcases (show j = 0 ∨ j = 1 ∨ j = 2 ∨ j = 3 ∨ j = 4 ∨ j = 5 ∨ j = 6 ∨ j = 7 ∨ j = 8 ∨ j = 9 ∨ j = 10 ∨ j = 11 ∨ j = 12 ∨ j = 13 ∨ j = 14 by omega) with rfl | rfl | rfl | rfl | rfl | rfl | rfl | rfl | rfl | rfl | rfl | rfl | rfl | rfl | rfl <;> rfl) (Nat.le_of_ble_eq_true rfl) (Nat.le_of_ble_eq_true rfl) dL_law_0 (fun q0 H hP hD hS => ?_)
  have hP : va_P D vwCl (cellX0_init q0) H := hP
  have hD : va_D (fun q : Nat => s.heap.size ≤ q) (cellX0_init q0) := hD
  refine W.widen (k := 1) (n := 15) (Nat.le_of_ble_eq_true rfl) (Nat.le_of_ble_eq_true rfl) ?_
  refine lv_dup hx hb dL_law_3 rfl ?_
  have hPc := hP
  have hDc := hD
  have hKc := hK
  have hFc := va_free (wc := cellX0_init q0) hD hS hA [0] rfl
  refine va_callv (va_runI (As := []) (rest := [.ref q0]) ⟨hx, hb, hml, hown, hts⟩ (metX0_init l D q0 H.size) (cwI 0 hts (lw_meth q29) rfl rfl rfl (hts _ q23) (hts _ q27) (hts _ q28) rfl (by decide +kernel) ⟨Nat.le_of_ble_eq_true rfl, Nat.le_of_ble_eq_true rfl⟩) ⟨fun a U g mk q => by obtain ⟨q0, q1, qP, qK, qD⟩ := q; exact ⟨q0, q1, qP, va_K.moved (u := U) (U := U.calling g mk a) (Vm.Alike.refl U.vm) qK, qD⟩, fun U hU hW => ⟨rfl, by rw [hU], by rw [hU]; exact hPc, va_K.moved hW.alike hKc, hDc.weaken (fun _ _ _ _ => trivial)⟩⟩ rfl rfl hl.1 rfl (lv_room (Nat.le_of_ble_eq_true rfl)) dL_law_4 ⟨Nat.le_of_ble_eq_true rfl, Nat.le_of_ble_eq_true rfl⟩) hS (fun q _ h => hFc q h) hFc (fun u t H1 locs ht hvm hw hB hz1 hk1 hS => ?_)
  obtain ⟨di, dj, h, rfl, hDx, hAx, hPx, hKx⟩ := hB
  rw [ht] at hPx
  have hKx := va_K.moved hvm.symm hKx
  have hAx : ∀ q, xB h q → s.heap.size ≤ q := fun q z => hFc q (hAx q z)
  generalize H1 = H at hPx hS ⊢
  refine W.widen (k := 10) (n := 133) (Nat.le_of_ble_eq_true rfl) (Nat.le_of_ble_eq_true rfl) ?_
  refine lv_astore_n (lv' := [(1, .ref (h 0)), (0, .ref b)]) hx hb dL_law_7 rfl hl (by decide) rfl (fun ls hl => ?_)
  have hDX : va_D (fun q : Nat => s.heap.size ≤ q) (wX di dj h (C0, -1, 0, -1, 0, 0, fun _ => 0, fun _ => 0, fun _ => 0, fun _ => 0)) := (wX_apart hDx).weaken (fun _ q _ z => hAx q.1 z)
  refine va_new (ci := 1) (fs := [.int 0, .null, .null, .null, .null, .null, .int 0, .int 0, .null, .null, .null, .null]) (C := RX1) (T := TX1) (N := 12) hx hb hts in_X1 tyX1 tyX1_ok hown (hts _ q220) (hts _ q221) (hts _ q24) hK hPx hDX hS hA rfl (fun j hj => by rcases (show j = 0 ∨ j = 1 ∨ j = 2 ∨ j = 3 ∨ j = 4 ∨ j = 5 ∨ j = 6 ∨ j = 7 ∨ j = 8 ∨ j = 9 ∨ j = 10 ∨ j = 11 by omega) with rfl | rfl | rfl | rfl | rfl | rfl | rfl | rfl | rfl | rfl | rfl | rfl <;> rfl) (Nat.le_of_ble_eq_true rfl) (Nat.le_of_ble_eq_true rfl) dL_law_8 (fun q1 H hP hD hS => ?_)
  refine W.widen (k := 11) (n := 145) (Nat.le_of_ble_eq_true rfl) (Nat.le_of_ble_eq_true rfl) ?_
  refine lv_dup hx hb dL_law_11 rfl ?_
  have hPc := hP.sub (ws' := cellX1_init q1) [10] rfl
  have hDc := hD.sub (ws' := cellX1_init q1) [10] (by decide) rfl
  have hFc := va_free (wc := cellX1_init q1) hD hS hA [10] rfl
  refine va_callv (va_runI (As := []) (rest := [.ref q1]) ⟨hx, hb, hml, hown, hts⟩ (metX1_init l D q1 H.size) (cwI 0 hts (lw_meth q224) rfl rfl rfl (hts _ q24) (hts _ q222) (hts _ q223) rfl (by decide +kernel) ⟨Nat.le_of_ble_eq_true rfl, Nat.le_of_ble_eq_true rfl⟩) ⟨fun a U g mk q => by obtain ⟨q0, q1, qP, qK, qD⟩ := q; exact ⟨q0, q1, qP, va_K.moved (u := U) (U := U.calling g mk a) (Vm.Alike.refl U.vm) qK, qD⟩, fun U hU hW => ⟨rfl, by rw [hU], by rw [hU]; exact hPc, va_K.moved hW.alike hKc, hDc.weaken (fun _ _ _ _ => trivial)⟩⟩ rfl rfl hl.1 rfl (lv_room (Nat.le_of_ble_eq_true rfl)) dL_law_12 ⟨Nat.le_of_ble_eq_true rfl, Nat.le_of_ble_eq_true rfl⟩) hS (fun q _ h => hFc q h) hFc (fun u t H1 locs ht hvm hw hB hz1 hk1 hS => ?_)
  obtain ⟨dk, k, rfl, hDm, hAm, hPm, hKm⟩ := hB
  rw [ht] at hPm
  have hKm := va_K.moved hvm.symm hKm
  obtain ⟨hP, hD⟩ := va_join (wr := wX di dj h (C0, -1, 0, -1, 0, 0, fun _ => 0, fun _ => 0, fun _ => 0, fun _ => 0)) (w1 := wM dk k (C0, -1, 0, fun _ => 0, fun _ => 0, fun _ => 0, fun _ => 0)) hP hD [10] [0, 1, 2, 3, 4, 5, 6, 7, 8, 9] rfl rfl (by decide) (by decide) hk1 hFc hPm ((wM_apart hDm).weaken (fun _ q _ z => hAm q.1 z))
  have hdj := x_disj (h := h) (k := k) (w1 := wX di dj h (C0, -1, 0, -1, 0, 0, fun _ => 0, fun _ => 0, fun _ => 0, fun _ => 0)) (w2 := wM dk k (C0, -1, 0, fun _ => 0, fun _ => 0, fun _ => 0, fun _ => 0)) rfl rfl hD
  have hPx := hP.sub (ws' := wX di dj h (C0, -1, 0, -1, 0, 0, fun _ => 0, fun _ => 0, fun _ => 0, fun _ => 0)) [0, 1, 2, 3, 4, 5, 6, 7, 8, 9] rfl
  have hAm : ∀ q, xB k q → s.heap.size ≤ q := fun q z => hFc q (hAm q z)
  refine W.widen (k := 20) (n := 273) (Nat.le_of_ble_eq_true rfl) (Nat.le_of_ble_eq_true rfl) ?_
  refine lv_astore_n (lv' := [(2, .ref (k 0)), (1, .ref (h 0)), (0, .ref b)]) hx hb dL_law_15 rfl hl (by decide) rfl (fun ls hl => ?_)
  refine lv_iconst (v := nI 0) hx hb dL_law_16 (by decide) ?_
  refine lv_istore_n (lv' := [(3, .int (nI 0)), (2, .ref (k 0)), (1, .ref (h 0)), (0, .ref b)]) hx hb dL_law_17 rfl hl (by decide) rfl (fun ls hl => ?_)
  exact law_loop ⟨hx, hb, hml, hown, hts, hKx, hKm, hDx, hDm, hdj, hAx, hAm⟩ hL hX hbl hr hlocks (L + 1) 0 _ _ _ _ ls (Nat.zero_le L) (by omega) REL_0 ⟨hPx, hPm, hS⟩ (lv_sub hl [3, 2, 1, 0] rfl)
end
section
set_option maxRecDepth 100000
set_option maxHeartbeats 4000000 in
theorem lw_walk (l : Launch) (b : Addr) (xs : List Int32) : MetFree l x (headSpec (Jvm.Cond.code x code maxLocals ret :: tables_1) room_1) (lw_P b xs) (fun _ _ _ _ _ => True) lw_Q := by
  refine MetFree.of_bodyS (code := code) (maxLocals := maxLocals) (ret := ret) (by decide) ?_ ?_
  · intro args s m h hn
    obtain ⟨meth, c, h1, h2, h3, h4, h5, h6, -, -⟩ := Cond.code_spec hn (atoms_spec (ws := Jvm.Cond.code x code maxLocals ret :: tables_1) h _ List.mem_cons_self)
    exact ⟨meth, c, h1, h2, h3, h4, h5, h6⟩
  · intro p e s m args below meth c s₁ B hml0 hP _
    obtain ⟨rfl, hx, hbd, hgv⟩ := hP
    obtain ⟨scr, harrAt, hlist, hof, hsmall⟩ := hx
    obtain ⟨hcb, hkn, -, -⟩ := State.arrayAt?_spec harrAt
    have hown : s.vm.findClass R_law = some m.cls := findClass_of_methodNamed B.named
    have hts0 : ∀ c ∈ (Jvm.Cond.code x code maxLocals ret :: tables_1), c.before #[Value.ref b] s = true := atoms_spec (ws := Jvm.Cond.code x code maxLocals ret :: tables_1) B.pre
    have hts : ∀ w ∈ lw_tbl, w.before #[Value.ref b] s = true := k2_hts_sels lw_privs (fun w hw => hts0 w (List.mem_cons_of_mem _ hw)) lw_privs_ok
    have hml : c.maxLocals = 4 := B.maxLocals_eq (hts0 _ List.mem_cons_self)
    have X₀ : Stand p l e room_1 s m #[Value.ref b] below meth c s₁ [] 0 0 := Stand.of_body B
    have hh0 : s₁.heap = s.heap := by rw [B.state]; rfl
    have hsz : scr.slots.size = xs.length := by rw [← Array.length_toList, hlist, List.length_map]
    have hval : ∀ j : Nat, j < xs.length → scr.slots[j]? = some (.int (xs.getD j 0)) := fun j hj => by
      rw [← Array.getElem?_toList, hlist]
      simp [hj]
    have hbl : b < s.heap.size := (Array.getElem?_eq_some_iff.mp hcb).1
    have hX : va_X b xs.length (fun j => xs.getD j 0) s s.heap := ⟨scr, hcb, hof, hkn, hsz, hval⟩
    have K : W p l e room_1 s m #[Value.ref b] below meth c s₁.heap [] 0 0 (lw_Z below #[Value.ref b] s) (entryFrame m ([Value.ref b] : List Value).toArray 4) := by
      rw [hh0]
      exact whole_start l hbd ⟨B.exec, B.bytes, B.returns, hml, hown, hts, hX, hbl, B.notSynchronized, hgv⟩
    obtain ⟨t, a1, o, b1, b2, b3⟩ := K s₁ rfl X₀
    exact ⟨t, o, a1, b1, b2, b3⟩
theorem lw_pre_spec {args : Array Value} {s : State} (h : (Jvm.Cond.and given_1 narrow_1).before args s = true) (hr : rest_1_c.before args s = true) : ∃ (b : Addr) (xs : List Int32), lw_P b xs args s := by
  have hs := flat_of_before _ h
  have hq := flat_of_before _ hr
  have hc : (Cond.count 1).before args s = true := hs _ (by decide +kernel)
  have harr : (Cond.arrayOf (.arg 0) .int).before args s = true := hs _ (by decide +kernel)
  have hle : (Cond.le (.length (.arg 0)) (.int 256)).before args s = true := hs _ (by decide +kernel)
  have hlen : (Cond.isInt (.length (.arg 0))).before args s = true := hq _ (by decide +kernel)
  have hall : (Cond.all (.arg 0) (.isInt (.elem (.arg 0) (.index 0)))).before args s = true := hq _ (by decide +kernel)
  obtain ⟨b, xs, hb, hx⟩ := State.ints_of_pre rfl harr hlen hall
  have hsm : xs.length < 2 ^ 31 := hx.choose_spec.2.2.2
  have hev : (Term.length (.arg 0)).eval args s none [] s = some (.int xs.length.toInt32) := hx.length_eval hb
  have hv := Cond.le_ints hev (show (Term.int 256).eval args s none [] s = some (.int 256) from rfl)
  have hd : xs.length.toInt32 ≤ 256 := by
    simpa [Cond.before, Cond.holds, hv] using hle
  have hN : xs.length ≤ 256 := (Int32.ofNat_le_ofNat hsm (by decide)).mp (show Int32.ofNat xs.length ≤ Int32.ofNat 256 from hd)
  exact ⟨b, xs, Cond.one_arg hc (show args[0]? = some (.ref b) from hb), hx, hN, h⟩
theorem lw_comes (l : Launch) : Comes l x (Jvm.Cond.code x code maxLocals ret :: tables_1) room_1 (fun tb e args s => Calls_1 tb e args s ∧ rest_1 tb e args s ∧ Pre_1 tb e args s)
    (fun _ _ args s o t => lw_Q args s o t) := by
  intro p e ha hc hk s m args below hf hfit hheap happ hpre
  obtain ⟨b, xs, hP⟩ := lw_pre_spec hpre.2.2 hpre.2.1
  obtain ⟨k, o, h1, h2, h3, hQ⟩ := lw_walk l b xs p e ha hc hk s m args below hf ((Spec.applies_iff_loose hf).mp happ).1 hP trivial
  exact ⟨k, o, h1, h2, h3, hQ⟩
theorem lw_frame {s t : State} {o : Outcome} {args : Array Value} (h : Framed s o t [] 600000 7290000) :
    Framed s o t (fieldLocs frame_1_writes args s ++ arrayLocs frame_1_arrays args s ++ staticLocs frame_1_statics s) 600000 7290000 := h
theorem lw_limb (L : Cond) (hL : ∀ (args : Array Value) (s t : State), L.after args s (.returned (some (.int 1))) t = true) :
    ArmFor flags0 classFile x code maxLocals ret World_1 tables_1 room_1 Calls_1 rest_1 Pre_1
      (fun tb e a s o t => postC L tb e a s o t ∧ Framed s o t (fieldLocs frame_1_writes a s ++ arrayLocs frame_1_arrays a s ++ staticLocs frame_1_statics s) 600000 7290000) := by
  intro l _ _ _ p e ha hc hk s m args below hf hfit hheap happ hpre
  obtain ⟨k, o, h1, h2, h3, rfl, hF⟩ := lw_comes l p e ha hc hk s m args below hf hfit hheap happ hpre
  exact ⟨k, _, h1, h2, h3, hL args s _, lw_frame hF⟩
theorem i_vc : Claimed_1_1 ∧ Claimed_1_2 := ⟨lw_limb limb_1_1 (fun args s t => by simp [limb_1_1, Cond.after, Cond.holds, Cond.value]), lw_limb limb_1_2 (fun args s t => Cond.after_iff.mpr (by
  first | (rw [show limb_1_2 = Cond.eq .result (.int 1) from rfl, Cond.eq_ints (x := 1) (y := 1) rfl rfl]; simp; done) | (simp [limb_1_2, Cond.value, Term.eval]; done)))⟩
end
