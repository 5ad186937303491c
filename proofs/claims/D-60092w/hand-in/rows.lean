section
section
-- ===== PART A: goes FIRST, ahead of the names: the tables' words, and 'selects' of the private methods out of them =====
/-- a private method of a class that the tables say can be made, by its rows of tables_1 -/
def lw_okq (q : MethodName × Nat) : Prop := (q.1.cls ≠ "java/lang/invoke/MethodHandle" ∧ q.1.cls ≠ "java/lang/invoke/VarHandle") ∧ Cond.instantiable q.1.cls q.2 ∈ tables_1 ∧ Cond.privateMethod q.1 ∈ tables_1 ∧ Cond.instanceMethod q.1 ∈ tables_1
set_option maxRecDepth 100000
theorem lw_t1 {w : Cond} (h : w ∈ tables_1_1) : w ∈ tables_1 := List.mem_append_left _ h
theorem lw_t2 {w : Cond} (h : w ∈ tables_1_2) : w ∈ tables_1 := List.mem_append_right _ h
theorem lw_p0 : lw_okq (⟨"FlowTimeDesk", "has", "(I)Z"⟩, 18) := ⟨⟨by decide +kernel, by decide +kernel⟩, lw_t1 (List.mem_of_getElem? (i := 4) rfl), lw_t1 (List.mem_of_getElem? (i := 77) rfl), lw_t1 (List.mem_of_getElem? (i := 78) rfl)⟩
theorem lw_p1 : lw_okq (⟨"FlowTimeDesk", "isMachine", "(I)Z"⟩, 18) := ⟨⟨by decide +kernel, by decide +kernel⟩, lw_t1 (List.mem_of_getElem? (i := 4) rfl), lw_t1 (List.mem_of_getElem? (i := 89) rfl), lw_t1 (List.mem_of_getElem? (i := 90) rfl)⟩
theorem lw_p2 : lw_okq (⟨"FlowTimeDesk", "able", "(I)I"⟩, 18) := ⟨⟨by decide +kernel, by decide +kernel⟩, lw_t1 (List.mem_of_getElem? (i := 4) rfl), lw_t1 (List.mem_of_getElem? (i := 93) rfl), lw_t1 (List.mem_of_getElem? (i := 94) rfl)⟩
theorem lw_p3 : lw_okq (⟨"FlowTimeDesk", "learn", "()V"⟩, 18) := ⟨⟨by decide +kernel, by decide +kernel⟩, lw_t1 (List.mem_of_getElem? (i := 4) rfl), lw_t1 (List.mem_of_getElem? (i := 109) rfl), lw_t1 (List.mem_of_getElem? (i := 110) rfl)⟩
theorem lw_p4 : lw_okq (⟨"FlowTimeDesk", "askPlainly", "()V"⟩, 18) := ⟨⟨by decide +kernel, by decide +kernel⟩, lw_t1 (List.mem_of_getElem? (i := 4) rfl), lw_t1 (List.mem_of_getElem? (i := 113) rfl), lw_t1 (List.mem_of_getElem? (i := 114) rfl)⟩
theorem lw_p5 : lw_okq (⟨"FlowTimeDesk", "totalOf", "(I)I"⟩, 18) := ⟨⟨by decide +kernel, by decide +kernel⟩, lw_t1 (List.mem_of_getElem? (i := 4) rfl), lw_t1 (List.mem_of_getElem? (i := 117) rfl), lw_t1 (List.mem_of_getElem? (i := 118) rfl)⟩
theorem lw_p6 : lw_okq (⟨"FlowTimeDesk", "match", "(I)I"⟩, 18) := ⟨⟨by decide +kernel, by decide +kernel⟩, lw_t1 (List.mem_of_getElem? (i := 4) rfl), lw_t1 (List.mem_of_getElem? (i := 121) rfl), lw_t1 (List.mem_of_getElem? (i := 122) rfl)⟩
theorem lw_p7 : lw_okq (⟨"FlowTimeDesk", "insert", "(I)V"⟩, 18) := ⟨⟨by decide +kernel, by decide +kernel⟩, lw_t1 (List.mem_of_getElem? (i := 4) rfl), lw_t1 (List.mem_of_getElem? (i := 125) rfl), lw_t1 (List.mem_of_getElem? (i := 126) rfl)⟩
theorem lw_p8 : lw_okq (⟨"FlowTimeDesk", "advance", "(I)I"⟩, 18) := ⟨⟨by decide +kernel, by decide +kernel⟩, lw_t1 (List.mem_of_getElem? (i := 4) rfl), lw_t1 (List.mem_of_getElem? (i := 130) rfl), lw_t1 (List.mem_of_getElem? (i := 131) rfl)⟩
theorem lw_p9 : lw_okq (⟨"FlowTimeDesk", "costOf", "(II)I"⟩, 18) := ⟨⟨by decide +kernel, by decide +kernel⟩, lw_t1 (List.mem_of_getElem? (i := 4) rfl), lw_t1 (List.mem_of_getElem? (i := 134) rfl), lw_t1 (List.mem_of_getElem? (i := 135) rfl)⟩
theorem lw_p10 : lw_okq (⟨"FlowTimeDesk", "machineAt", "(I)I"⟩, 18) := ⟨⟨by decide +kernel, by decide +kernel⟩, lw_t1 (List.mem_of_getElem? (i := 4) rfl), lw_t1 (List.mem_of_getElem? (i := 138) rfl), lw_t1 (List.mem_of_getElem? (i := 139) rfl)⟩
theorem lw_p11 : lw_okq (⟨"FlowTimeDesk", "firstMachine", "(I)I"⟩, 18) := ⟨⟨by decide +kernel, by decide +kernel⟩, lw_t1 (List.mem_of_getElem? (i := 4) rfl), lw_t1 (List.mem_of_getElem? (i := 143) rfl), lw_t1 (List.mem_of_getElem? (i := 144) rfl)⟩
theorem lw_p12 : lw_okq (⟨"FlowTimeDeskModel", "is", "(I)Z"⟩, 7) := ⟨⟨by decide +kernel, by decide +kernel⟩, lw_t1 (List.mem_of_getElem? (i := 178) rfl), lw_t1 (List.mem_of_getElem? (i := 214) rfl), lw_t1 (List.mem_of_getElem? (i := 215) rfl)⟩
theorem lw_p13 : lw_okq (⟨"FlowTimeDeskModel", "machine", "(I)Z"⟩, 7) := ⟨⟨by decide +kernel, by decide +kernel⟩, lw_t1 (List.mem_of_getElem? (i := 178) rfl), lw_t1 (List.mem_of_getElem? (i := 222) rfl), lw_t1 (List.mem_of_getElem? (i := 223) rfl)⟩
theorem lw_p14 : lw_okq (⟨"FlowTimeDeskModel", "all", "()I"⟩, 7) := ⟨⟨by decide +kernel, by decide +kernel⟩, lw_t1 (List.mem_of_getElem? (i := 178) rfl), lw_t1 (List.mem_of_getElem? (i := 238) rfl), lw_t1 (List.mem_of_getElem? (i := 239) rfl)⟩
theorem lw_p15 : lw_okq (⟨"FlowTimeDeskModel", "leastOf", "(III)I"⟩, 7) := ⟨⟨by decide +kernel, by decide +kernel⟩, lw_t1 (List.mem_of_getElem? (i := 178) rfl), lw_t2 (List.mem_of_getElem? (i := 2) rfl), lw_t2 (List.mem_of_getElem? (i := 3) rfl)⟩
def lw_privs_1 : List (MethodName × Nat) := [(⟨"FlowTimeDesk", "has", "(I)Z"⟩, 18), (⟨"FlowTimeDesk", "isMachine", "(I)Z"⟩, 18), (⟨"FlowTimeDesk", "able", "(I)I"⟩, 18), (⟨"FlowTimeDesk", "learn", "()V"⟩, 18), (⟨"FlowTimeDesk", "askPlainly", "()V"⟩, 18), (⟨"FlowTimeDesk", "totalOf", "(I)I"⟩, 18), (⟨"FlowTimeDesk", "match", "(I)I"⟩, 18), (⟨"FlowTimeDesk", "insert", "(I)V"⟩, 18), (⟨"FlowTimeDesk", "advance", "(I)I"⟩, 18), (⟨"FlowTimeDesk", "costOf", "(II)I"⟩, 18), (⟨"FlowTimeDesk", "machineAt", "(I)I"⟩, 18), (⟨"FlowTimeDesk", "firstMachine", "(I)I"⟩, 18), (⟨"FlowTimeDeskModel", "is", "(I)Z"⟩, 7), (⟨"FlowTimeDeskModel", "machine", "(I)Z"⟩, 7), (⟨"FlowTimeDeskModel", "all", "()I"⟩, 7), (⟨"FlowTimeDeskModel", "leastOf", "(III)I"⟩, 7)]
theorem lw_r1 : ∀ q ∈ lw_privs_1, lw_okq q := List.forall_mem_cons.mpr ⟨lw_p0, List.forall_mem_cons.mpr ⟨lw_p1, List.forall_mem_cons.mpr ⟨lw_p2, List.forall_mem_cons.mpr ⟨lw_p3, List.forall_mem_cons.mpr ⟨lw_p4, List.forall_mem_cons.mpr ⟨lw_p5, List.forall_mem_cons.mpr ⟨lw_p6, List.forall_mem_cons.mpr ⟨lw_p7, List.forall_mem_cons.mpr ⟨lw_p8, List.forall_mem_cons.mpr ⟨lw_p9, List.forall_mem_cons.mpr ⟨lw_p10, List.forall_mem_cons.mpr ⟨lw_p11, List.forall_mem_cons.mpr ⟨lw_p12, List.forall_mem_cons.mpr ⟨lw_p13, List.forall_mem_cons.mpr ⟨lw_p14, List.forall_mem_cons.mpr ⟨lw_p15, fun _ h => absurd h List.not_mem_nil⟩⟩⟩⟩⟩⟩⟩⟩⟩⟩⟩⟩⟩⟩⟩⟩
theorem lw_p16 : lw_okq (⟨"FlowTimeDeskModel", "way", "(I)Z"⟩, 7) := ⟨⟨by decide +kernel, by decide +kernel⟩, lw_t1 (List.mem_of_getElem? (i := 178) rfl), lw_t2 (List.mem_of_getElem? (i := 6) rfl), lw_t2 (List.mem_of_getElem? (i := 7) rfl)⟩
theorem lw_p17 : lw_okq (⟨"FlowTimeDeskModel", "sum", "()I"⟩, 7) := ⟨⟨by decide +kernel, by decide +kernel⟩, lw_t1 (List.mem_of_getElem? (i := 178) rfl), lw_t2 (List.mem_of_getElem? (i := 10) rfl), lw_t2 (List.mem_of_getElem? (i := 11) rfl)⟩
theorem lw_p18 : lw_okq (⟨"FlowTimeDeskModel", "finish", "(I)I"⟩, 7) := ⟨⟨by decide +kernel, by decide +kernel⟩, lw_t1 (List.mem_of_getElem? (i := 178) rfl), lw_t2 (List.mem_of_getElem? (i := 14) rfl), lw_t2 (List.mem_of_getElem? (i := 15) rfl)⟩
theorem lw_p19 : lw_okq (⟨"FlowTimeDeskModel", "plan", "()V"⟩, 7) := ⟨⟨by decide +kernel, by decide +kernel⟩, lw_t1 (List.mem_of_getElem? (i := 178) rfl), lw_t2 (List.mem_of_getElem? (i := 22) rfl), lw_t2 (List.mem_of_getElem? (i := 23) rfl)⟩
def lw_privs_2 : List (MethodName × Nat) := [(⟨"FlowTimeDeskModel", "way", "(I)Z"⟩, 7), (⟨"FlowTimeDeskModel", "sum", "()I"⟩, 7), (⟨"FlowTimeDeskModel", "finish", "(I)I"⟩, 7), (⟨"FlowTimeDeskModel", "plan", "()V"⟩, 7)]
theorem lw_r2 : ∀ q ∈ lw_privs_2, lw_okq q := List.forall_mem_cons.mpr ⟨lw_p16, List.forall_mem_cons.mpr ⟨lw_p17, List.forall_mem_cons.mpr ⟨lw_p18, List.forall_mem_cons.mpr ⟨lw_p19, fun _ h => absurd h List.not_mem_nil⟩⟩⟩⟩
def lw_privs : List (MethodName × Nat) := lw_privs_1 ++ (lw_privs_2)
def lw_tbl : List Cond := k2_sels lw_privs ++ tables_1
theorem lw_privs_ok : ∀ q ∈ lw_privs, lw_okq q := by
  show ∀ q ∈ lw_privs_1 ++ (lw_privs_2), lw_okq q
  exact List.forall_mem_append.mpr ⟨lw_r1, lw_r2⟩
-- ===== ONE list of words for every method: the tables' words that hold all through a run =====
def lw_all : List Cond := lw_tbl.filter goodWord
/-- a word of the tables by its place: claim/WORDS.tsv -/
theorem lw_w {w : Cond} (i : Nat) (h : lw_tbl[i]? = some w) (g : goodWord w = true) : w ∈ lw_all := List.mem_filter.mpr ⟨List.mem_of_getElem? h, g⟩
theorem lw_all_tbl {w : Cond} (h : w ∈ lw_all) : w ∈ lw_tbl := (List.mem_filter.mp h).1
theorem lw_self : GoodIn lw_all lw_all := fun w h => ⟨h, good_of_word (List.mem_filter.mp h).2⟩
/-- a class's field words, by their places -/
theorem lw_in (ws : List Cond) (ps : List Nat) (hp : ws = ps.filterMap (fun i => lw_tbl[i]?)) (hg : ws.all goodWord = true) : ∀ w ∈ ws, w ∈ lw_all := by
  intro w h
  have h1 := List.all_eq_true.mp hg w h
  rw [hp] at h
  obtain ⟨i, -, hi⟩ := List.mem_filterMap.mp h
  exact lw_w i hi h1
/-- the words of a contract for the method y with code b, L locals, answer r -/
abbrev ws_ (y : MethodName) (b : ByteArray) (L : Nat) (r : Option FieldType) : List Cond := Cond.code y b L r :: lw_all
theorem lw_meth {y : MethodName} {b : ByteArray} {L : Nat} {r : Option FieldType} (h : Cond.code y b L r ∈ lw_all) : GoodIn lw_all (ws_ y b L r) := by
  intro w hw
  rcases List.mem_cons.mp hw with e | e
  · rw [e]
    exact lw_self _ h
  · exact lw_self _ e
theorem lw_app {a c : List Cond} (ha : ∀ w ∈ a, w ∈ lw_all) (hc : GoodIn lw_all c) : GoodIn lw_all (a ++ c) := by
  intro w hw
  rcases List.mem_append.mp hw with e | e
  · exact lw_self w (ha w e)
  · exact hc w e
/-- what a call through an object asks: cwV n hts (lw_V ..) -/
theorem lw_V {own : String} {idx : Nat} {C : String} {y : MethodName} {b : ByteArray} {L : Nat} {r : Option FieldType} (h1 : Cond.methodLink own idx y ∈ lw_all) (h2 : Cond.instanceMethod y ∈ lw_all) (h3 : Cond.selects C y y ∈ lw_all) (h4 : Cond.initialized C ∈ lw_all) (h5 : Cond.code y b L r ∈ lw_all) : GoodIn lw_all (wsV own idx C y (ws_ y b L r)) := by
  refine lw_app ?_ (lw_meth h5)
  intro w hw
  simp only [List.mem_cons, List.not_mem_nil, or_false] at hw
  rcases hw with e | e | e | e
  · rw [e]; exact h1
  · rw [e]; exact h2
  · rw [e]; exact h3
  · rw [e]; exact h4
/-- what a static call asks: va_cwS n hts (lw_S ..) -/
theorem lw_S {own : String} {idx : Nat} {y : MethodName} {b : ByteArray} {L : Nat} {r : Option FieldType} (h1 : Cond.methodLink own idx y ∈ lw_all) (h2 : Cond.static y ∈ lw_all) (h3 : Cond.initialized y.cls ∈ lw_all) (h4 : Cond.code y b L r ∈ lw_all) : GoodIn lw_all (va_wsS own idx y (ws_ y b L r)) := by
  refine lw_app ?_ (lw_meth h4)
  intro w hw
  simp only [List.mem_cons, List.not_mem_nil, or_false] at hw
  rcases hw with e | e | e
  · rw [e]; exact h1
  · rw [e]; exact h2
  · rw [e]; exact h3
/-- the words of a contract for a method WITH HANDLERS (hh: its table) -/
abbrev wsW_ (y : MethodName) (b : ByteArray) (L : Nat) (r : Option FieldType) (hh : List (Nat × Nat × Nat × Nat)) : List Cond := Cond.codeWith y b L r hh :: lw_all
theorem lw_methW {y : MethodName} {b : ByteArray} {L : Nat} {r : Option FieldType} {hh : List (Nat × Nat × Nat × Nat)} (h : Cond.codeWith y b L r hh ∈ lw_all) : GoodIn lw_all (wsW_ y b L r hh) := by
  intro w hw
  rcases List.mem_cons.mp hw with e | e
  · rw [e]
    exact lw_self _ h
  · exact lw_self _ e
/-- any list of words by their places (lw_in), good -/
theorem lw_good {ws : List Cond} (h : ∀ w ∈ ws, w ∈ lw_all) : GoodIn lw_all ws := fun w hw => lw_self w (h w hw)
/-- what a call of a method with handlers asks: vx_cwVW n hts (lw_VW ..), vx_cwSW n hts (lw_SW ..) -/
theorem lw_VW {own : String} {idx : Nat} {C : String} {y : MethodName} {b : ByteArray} {L : Nat} {r : Option FieldType} {hh : List (Nat × Nat × Nat × Nat)} (h1 : Cond.methodLink own idx y ∈ lw_all) (h2 : Cond.instanceMethod y ∈ lw_all) (h3 : Cond.selects C y y ∈ lw_all) (h4 : Cond.initialized C ∈ lw_all) (h5 : Cond.codeWith y b L r hh ∈ lw_all) : GoodIn lw_all (wsV own idx C y (wsW_ y b L r hh)) := by
  refine lw_app ?_ (lw_methW h5)
  intro w hw
  simp only [List.mem_cons, List.not_mem_nil, or_false] at hw
  rcases hw with e | e | e | e
  · rw [e]; exact h1
  · rw [e]; exact h2
  · rw [e]; exact h3
  · rw [e]; exact h4
theorem lw_SW {own : String} {idx : Nat} {y : MethodName} {b : ByteArray} {L : Nat} {r : Option FieldType} {hh : List (Nat × Nat × Nat × Nat)} (h1 : Cond.methodLink own idx y ∈ lw_all) (h2 : Cond.static y ∈ lw_all) (h3 : Cond.initialized y.cls ∈ lw_all) (h4 : Cond.codeWith y b L r hh ∈ lw_all) : GoodIn lw_all (va_wsS own idx y (wsW_ y b L r hh)) := by
  refine lw_app ?_ (lw_methW h4)
  intro w hw
  simp only [List.mem_cons, List.not_mem_nil, or_false] at hw
  rcases hw with e | e | e
  · rw [e]; exact h1
  · rw [e]; exact h2
  · rw [e]; exact h3
/-- a word by its place in its run of the tables -/
theorem lw_at {r : List Cond} (hr : ∀ w ∈ r, w ∈ lw_tbl) {w : Cond} (i : Nat) (h : r[i]? = some w) : w ∈ lw_tbl := hr w (List.mem_of_getElem? h)
theorem lw_g {w : Cond} (h : w ∈ lw_tbl) (g : goodWord w = true) : w ∈ lw_all := List.mem_filter.mpr ⟨h, g⟩
theorem lw_ms : ∀ w ∈ k2_sels lw_privs, w ∈ lw_tbl := fun w h => show w ∈ k2_sels lw_privs ++ tables_1 from List.mem_append_left _ h
theorem lw_m1 : ∀ w ∈ tables_1_1, w ∈ lw_tbl := fun w h => show w ∈ k2_sels lw_privs ++ tables_1 from List.mem_append_right (k2_sels lw_privs) (show w ∈ tables_1 from List.mem_append_left _ h)
theorem lw_m2 : ∀ w ∈ tables_1_2, w ∈ lw_tbl := fun w h => show w ∈ k2_sels lw_privs ++ tables_1 from List.mem_append_right (k2_sels lw_privs) (show w ∈ tables_1 from List.mem_append_right _ h)
theorem qs0 : (Cond.selects "FlowTimeDesk" ⟨"FlowTimeDesk", "has", "(I)Z"⟩ ⟨"FlowTimeDesk", "has", "(I)Z"⟩) ∈ lw_all := lw_g (lw_at lw_ms 0 rfl) rfl
theorem qs1 : (Cond.selects "FlowTimeDesk" ⟨"FlowTimeDesk", "isMachine", "(I)Z"⟩ ⟨"FlowTimeDesk", "isMachine", "(I)Z"⟩) ∈ lw_all := lw_g (lw_at lw_ms 1 rfl) rfl
theorem qs2 : (Cond.selects "FlowTimeDesk" ⟨"FlowTimeDesk", "able", "(I)I"⟩ ⟨"FlowTimeDesk", "able", "(I)I"⟩) ∈ lw_all := lw_g (lw_at lw_ms 2 rfl) rfl
theorem qs3 : (Cond.selects "FlowTimeDesk" ⟨"FlowTimeDesk", "learn", "()V"⟩ ⟨"FlowTimeDesk", "learn", "()V"⟩) ∈ lw_all := lw_g (lw_at lw_ms 3 rfl) rfl
theorem qs4 : (Cond.selects "FlowTimeDesk" ⟨"FlowTimeDesk", "askPlainly", "()V"⟩ ⟨"FlowTimeDesk", "askPlainly", "()V"⟩) ∈ lw_all := lw_g (lw_at lw_ms 4 rfl) rfl
theorem qs5 : (Cond.selects "FlowTimeDesk" ⟨"FlowTimeDesk", "totalOf", "(I)I"⟩ ⟨"FlowTimeDesk", "totalOf", "(I)I"⟩) ∈ lw_all := lw_g (lw_at lw_ms 5 rfl) rfl
theorem qs6 : (Cond.selects "FlowTimeDesk" ⟨"FlowTimeDesk", "match", "(I)I"⟩ ⟨"FlowTimeDesk", "match", "(I)I"⟩) ∈ lw_all := lw_g (lw_at lw_ms 6 rfl) rfl
theorem qs7 : (Cond.selects "FlowTimeDesk" ⟨"FlowTimeDesk", "insert", "(I)V"⟩ ⟨"FlowTimeDesk", "insert", "(I)V"⟩) ∈ lw_all := lw_g (lw_at lw_ms 7 rfl) rfl
theorem qs8 : (Cond.selects "FlowTimeDesk" ⟨"FlowTimeDesk", "advance", "(I)I"⟩ ⟨"FlowTimeDesk", "advance", "(I)I"⟩) ∈ lw_all := lw_g (lw_at lw_ms 8 rfl) rfl
theorem qs9 : (Cond.selects "FlowTimeDesk" ⟨"FlowTimeDesk", "costOf", "(II)I"⟩ ⟨"FlowTimeDesk", "costOf", "(II)I"⟩) ∈ lw_all := lw_g (lw_at lw_ms 9 rfl) rfl
theorem qs10 : (Cond.selects "FlowTimeDesk" ⟨"FlowTimeDesk", "machineAt", "(I)I"⟩ ⟨"FlowTimeDesk", "machineAt", "(I)I"⟩) ∈ lw_all := lw_g (lw_at lw_ms 10 rfl) rfl
theorem qs11 : (Cond.selects "FlowTimeDesk" ⟨"FlowTimeDesk", "firstMachine", "(I)I"⟩ ⟨"FlowTimeDesk", "firstMachine", "(I)I"⟩) ∈ lw_all := lw_g (lw_at lw_ms 11 rfl) rfl
theorem qs12 : (Cond.selects "FlowTimeDeskModel" ⟨"FlowTimeDeskModel", "is", "(I)Z"⟩ ⟨"FlowTimeDeskModel", "is", "(I)Z"⟩) ∈ lw_all := lw_g (lw_at lw_ms 12 rfl) rfl
theorem qs13 : (Cond.selects "FlowTimeDeskModel" ⟨"FlowTimeDeskModel", "machine", "(I)Z"⟩ ⟨"FlowTimeDeskModel", "machine", "(I)Z"⟩) ∈ lw_all := lw_g (lw_at lw_ms 13 rfl) rfl
theorem qs14 : (Cond.selects "FlowTimeDeskModel" ⟨"FlowTimeDeskModel", "all", "()I"⟩ ⟨"FlowTimeDeskModel", "all", "()I"⟩) ∈ lw_all := lw_g (lw_at lw_ms 14 rfl) rfl
theorem qs15 : (Cond.selects "FlowTimeDeskModel" ⟨"FlowTimeDeskModel", "leastOf", "(III)I"⟩ ⟨"FlowTimeDeskModel", "leastOf", "(III)I"⟩) ∈ lw_all := lw_g (lw_at lw_ms 15 rfl) rfl
theorem qs16 : (Cond.selects "FlowTimeDeskModel" ⟨"FlowTimeDeskModel", "way", "(I)Z"⟩ ⟨"FlowTimeDeskModel", "way", "(I)Z"⟩) ∈ lw_all := lw_g (lw_at lw_ms 16 rfl) rfl
theorem qs17 : (Cond.selects "FlowTimeDeskModel" ⟨"FlowTimeDeskModel", "sum", "()I"⟩ ⟨"FlowTimeDeskModel", "sum", "()I"⟩) ∈ lw_all := lw_g (lw_at lw_ms 17 rfl) rfl
theorem qs18 : (Cond.selects "FlowTimeDeskModel" ⟨"FlowTimeDeskModel", "finish", "(I)I"⟩ ⟨"FlowTimeDeskModel", "finish", "(I)I"⟩) ∈ lw_all := lw_g (lw_at lw_ms 18 rfl) rfl
theorem qs19 : (Cond.selects "FlowTimeDeskModel" ⟨"FlowTimeDeskModel", "plan", "()V"⟩ ⟨"FlowTimeDeskModel", "plan", "()V"⟩) ∈ lw_all := lw_g (lw_at lw_ms 19 rfl) rfl
end
end
section
section
set_option maxRecDepth 100000
/-! java/lang/Object -/
def RJ0 : String := "java/lang/Object"
abbrev cJ0_init : ByteArray := object_method_1_code
def yJ0_init : MethodName := ⟨RJ0, "<init>", "()V"⟩
theorem q29 : (Jvm.Cond.instanceMethod ({ cls := "java/lang/Object", name := "<init>", desc := "()V" } : Jvm.MethodName)) ∈ lw_all := lw_g (lw_at lw_m1 9 rfl) rfl
theorem q30 : (Jvm.Cond.code ({ cls := "java/lang/Object", name := "<init>", desc := "()V" } : Jvm.MethodName) object_method_1_code (1 : Nat) (Option.none : Option Jvm.ClassFile.FieldType)) ∈ lw_all := lw_g (lw_at lw_m1 10 rfl) rfl
theorem q86 : (Jvm.Cond.arrayClass Jvm.ClassFile.FieldType.byte) ∈ lw_all := lw_g (lw_at lw_m1 66 rfl) rfl
theorem q87 : (Jvm.Cond.arrayClass Jvm.ClassFile.FieldType.int) ∈ lw_all := lw_g (lw_at lw_m1 67 rfl) rfl
theorem q88 : (Jvm.Cond.arrayClass Jvm.ClassFile.FieldType.boolean) ∈ lw_all := lw_g (lw_at lw_m1 68 rfl) rfl
/-! FlowTimeDeskLaw -/
def RX0 : String := "FlowTimeDeskLaw"
abbrev cX0_cell : ByteArray := method_2_code
def yX0_cell : MethodName := ⟨RX0, "cell", "([II)I"⟩
theorem q20 : (Jvm.Cond.initialized "FlowTimeDeskLaw") ∈ lw_all := lw_g (lw_at lw_m1 0 rfl) rfl
theorem q23 : (Jvm.Cond.classLink "FlowTimeDeskLaw" (7 : Nat) "FlowTimeDesk") ∈ lw_all := lw_g (lw_at lw_m1 3 rfl) rfl
theorem q25 : (Jvm.Cond.methodLink "FlowTimeDeskLaw" (15 : Nat) ({ cls := "FlowTimeDesk", name := "<init>", desc := "(I)V" } : Jvm.MethodName)) ∈ lw_all := lw_g (lw_at lw_m1 5 rfl) rfl
theorem q89 : (Jvm.Cond.methodLink "FlowTimeDeskLaw" (21 : Nat) ({ cls := "FlowTimeDesk", name := "add", desc := "(III)I" } : Jvm.MethodName)) ∈ lw_all := lw_g (lw_at lw_m1 69 rfl) rfl
theorem q100 : (Jvm.Cond.methodLink "FlowTimeDeskLaw" (26 : Nat) ({ cls := "FlowTimeDesk", name := "remove", desc := "(I)Z" } : Jvm.MethodName)) ∈ lw_all := lw_g (lw_at lw_m1 80 rfl) rfl
theorem q104 : (Jvm.Cond.methodLink "FlowTimeDeskLaw" (31 : Nat) ({ cls := "FlowTimeDesk", name := "setTime", desc := "(III)Z" } : Jvm.MethodName)) ∈ lw_all := lw_g (lw_at lw_m1 84 rfl) rfl
theorem q116 : (Jvm.Cond.methodLink "FlowTimeDeskLaw" (36 : Nat) ({ cls := "FlowTimeDesk", name := "jobs", desc := "()I" } : Jvm.MethodName)) ∈ lw_all := lw_g (lw_at lw_m1 96 rfl) rfl
theorem q120 : (Jvm.Cond.methodLink "FlowTimeDeskLaw" (41 : Nat) ({ cls := "FlowTimeDesk", name := "time", desc := "(II)I" } : Jvm.MethodName)) ∈ lw_all := lw_g (lw_at lw_m1 100 rfl) rfl
theorem q124 : (Jvm.Cond.methodLink "FlowTimeDeskLaw" (46 : Nat) ({ cls := "FlowTimeDesk", name := "least", desc := "()I" } : Jvm.MethodName)) ∈ lw_all := lw_g (lw_at lw_m1 104 rfl) rfl
theorem q166 : (Jvm.Cond.methodLink "FlowTimeDeskLaw" (50 : Nat) ({ cls := "FlowTimeDesk", name := "machineOf", desc := "(I)I" } : Jvm.MethodName)) ∈ lw_all := lw_g (lw_at lw_m1 146 rfl) rfl
theorem q170 : (Jvm.Cond.methodLink "FlowTimeDeskLaw" (55 : Nat) ({ cls := "FlowTimeDesk", name := "finishOf", desc := "(I)I" } : Jvm.MethodName)) ∈ lw_all := lw_g (lw_at lw_m1 150 rfl) rfl
theorem q174 : (Jvm.Cond.methodLink "FlowTimeDeskLaw" (59 : Nat) ({ cls := "FlowTimeDesk", name := "leastWith", desc := "(II)I" } : Jvm.MethodName)) ∈ lw_all := lw_g (lw_at lw_m1 154 rfl) rfl
theorem q178 : (Jvm.Cond.methodLink "FlowTimeDeskLaw" (63 : Nat) ({ cls := "FlowTimeDesk", name := "leastWithout", desc := "(I)I" } : Jvm.MethodName)) ∈ lw_all := lw_g (lw_at lw_m1 158 rfl) rfl
theorem q182 : (Jvm.Cond.methodLink "FlowTimeDeskLaw" (67 : Nat) ({ cls := "FlowTimeDesk", name := "leastDoubled", desc := "(I)I" } : Jvm.MethodName)) ∈ lw_all := lw_g (lw_at lw_m1 162 rfl) rfl
theorem q186 : (Jvm.Cond.methodLink "FlowTimeDeskLaw" (71 : Nat) ({ cls := "FlowTimeDesk", name := "leastIdle", desc := "(I)I" } : Jvm.MethodName)) ∈ lw_all := lw_g (lw_at lw_m1 166 rfl) rfl
theorem q190 : (Jvm.Cond.methodLink "FlowTimeDeskLaw" (75 : Nat) ({ cls := "FlowTimeDesk", name := "mostJobs", desc := "(I)I" } : Jvm.MethodName)) ∈ lw_all := lw_g (lw_at lw_m1 170 rfl) rfl
theorem q194 : (Jvm.Cond.methodLink "FlowTimeDeskLaw" (9 : Nat) ({ cls := "FlowTimeDeskLaw", name := "cell", desc := "([II)I" } : Jvm.MethodName)) ∈ lw_all := lw_g (lw_at lw_m1 174 rfl) rfl
theorem q195 : (Jvm.Cond.static ({ cls := "FlowTimeDeskLaw", name := "cell", desc := "([II)I" } : Jvm.MethodName)) ∈ lw_all := lw_g (lw_at lw_m1 175 rfl) rfl
theorem q196 : (Jvm.Cond.code ({ cls := "FlowTimeDeskLaw", name := "cell", desc := "([II)I" } : Jvm.MethodName) method_2_code (2 : Nat) (Option.some Jvm.ClassFile.FieldType.int)) ∈ lw_all := lw_g (lw_at lw_m1 176 rfl) rfl
theorem q197 : (Jvm.Cond.classLink "FlowTimeDeskLaw" (18 : Nat) "FlowTimeDeskModel") ∈ lw_all := lw_g (lw_at lw_m1 177 rfl) rfl
theorem q199 : (Jvm.Cond.methodLink "FlowTimeDeskLaw" (20 : Nat) ({ cls := "FlowTimeDeskModel", name := "<init>", desc := "(I)V" } : Jvm.MethodName)) ∈ lw_all := lw_g (lw_at lw_m1 179 rfl) rfl
theorem q225 : (Jvm.Cond.methodLink "FlowTimeDeskLaw" (25 : Nat) ({ cls := "FlowTimeDeskModel", name := "add", desc := "(III)I" } : Jvm.MethodName)) ∈ lw_all := lw_g (lw_at lw_m1 205 rfl) rfl
theorem q229 : (Jvm.Cond.methodLink "FlowTimeDeskLaw" (30 : Nat) ({ cls := "FlowTimeDeskModel", name := "remove", desc := "(I)Z" } : Jvm.MethodName)) ∈ lw_all := lw_g (lw_at lw_m1 209 rfl) rfl
theorem q237 : (Jvm.Cond.methodLink "FlowTimeDeskLaw" (35 : Nat) ({ cls := "FlowTimeDeskModel", name := "setTime", desc := "(III)Z" } : Jvm.MethodName)) ∈ lw_all := lw_g (lw_at lw_m1 217 rfl) rfl
theorem q245 : (Jvm.Cond.methodLink "FlowTimeDeskLaw" (40 : Nat) ({ cls := "FlowTimeDeskModel", name := "jobs", desc := "()I" } : Jvm.MethodName)) ∈ lw_all := lw_g (lw_at lw_m1 225 rfl) rfl
theorem q249 : (Jvm.Cond.methodLink "FlowTimeDeskLaw" (45 : Nat) ({ cls := "FlowTimeDeskModel", name := "time", desc := "(II)I" } : Jvm.MethodName)) ∈ lw_all := lw_g (lw_at lw_m1 229 rfl) rfl
theorem q253 : (Jvm.Cond.methodLink "FlowTimeDeskLaw" (49 : Nat) ({ cls := "FlowTimeDeskModel", name := "least", desc := "()I" } : Jvm.MethodName)) ∈ lw_all := lw_g (lw_at lw_m1 233 rfl) rfl
theorem q277 : (Jvm.Cond.methodLink "FlowTimeDeskLaw" (54 : Nat) ({ cls := "FlowTimeDeskModel", name := "machineOf", desc := "(I)I" } : Jvm.MethodName)) ∈ lw_all := lw_g (lw_at lw_m2 17 rfl) rfl
theorem q285 : (Jvm.Cond.methodLink "FlowTimeDeskLaw" (58 : Nat) ({ cls := "FlowTimeDeskModel", name := "finishOf", desc := "(I)I" } : Jvm.MethodName)) ∈ lw_all := lw_g (lw_at lw_m2 25 rfl) rfl
theorem q289 : (Jvm.Cond.methodLink "FlowTimeDeskLaw" (62 : Nat) ({ cls := "FlowTimeDeskModel", name := "leastWith", desc := "(II)I" } : Jvm.MethodName)) ∈ lw_all := lw_g (lw_at lw_m2 29 rfl) rfl
theorem q293 : (Jvm.Cond.methodLink "FlowTimeDeskLaw" (66 : Nat) ({ cls := "FlowTimeDeskModel", name := "leastWithout", desc := "(I)I" } : Jvm.MethodName)) ∈ lw_all := lw_g (lw_at lw_m2 33 rfl) rfl
theorem q297 : (Jvm.Cond.methodLink "FlowTimeDeskLaw" (70 : Nat) ({ cls := "FlowTimeDeskModel", name := "leastDoubled", desc := "(I)I" } : Jvm.MethodName)) ∈ lw_all := lw_g (lw_at lw_m2 37 rfl) rfl
theorem q301 : (Jvm.Cond.methodLink "FlowTimeDeskLaw" (74 : Nat) ({ cls := "FlowTimeDeskModel", name := "leastIdle", desc := "(I)I" } : Jvm.MethodName)) ∈ lw_all := lw_g (lw_at lw_m2 41 rfl) rfl
theorem q305 : (Jvm.Cond.methodLink "FlowTimeDeskLaw" (78 : Nat) ({ cls := "FlowTimeDeskModel", name := "mostJobs", desc := "(I)I" } : Jvm.MethodName)) ∈ lw_all := lw_g (lw_at lw_m2 45 rfl) rfl
/-! FlowTimeDesk -/
def RX1 : String := "FlowTimeDesk"
def TX1 : u_T := fun k => match k with
  | 0 => ("FlowTimeDesk", "machines", "I", true)
  | 1 => ("FlowTimeDesk", "present", "I", false)
  | 2 => ("FlowTimeDesk", "times", "[B", true)
  | 3 => ("FlowTimeDesk", "open", "[B", true)
  | 4 => ("FlowTimeDesk", "doubled", "I", false)
  | 5 => ("FlowTimeDesk", "liked", "I", false)
  | 6 => ("FlowTimeDesk", "rows", "I", false)
  | 7 => ("FlowTimeDesk", "columns", "I", false)
  | 8 => ("FlowTimeDesk", "rowJob", "[B", true)
  | 9 => ("FlowTimeDesk", "rowPrice", "[I", true)
  | 10 => ("FlowTimeDesk", "columnPrice", "[I", true)
  | 11 => ("FlowTimeDesk", "rowOf", "[B", true)
  | 12 => ("FlowTimeDesk", "cameFrom", "[B", true)
  | 13 => ("FlowTimeDesk", "slack", "[I", true)
  | 14 => ("FlowTimeDesk", "reached", "[Z", true)
  | 15 => ("FlowTimeDesk", "known", "Z", false)
  | 16 => ("FlowTimeDesk", "leastTotal", "I", false)
  | _ => ("FlowTimeDesk", "bestMachine", "[B", true)
def tyX1 : Nat → FieldType := fun k => match k with
  | 0 => .int
  | 1 => .int
  | 2 => .array .byte
  | 3 => .array .byte
  | 4 => .int
  | 5 => .int
  | 6 => .int
  | 7 => .int
  | 8 => .array .byte
  | 9 => .array .int
  | 10 => .array .int
  | 11 => .array .byte
  | 12 => .array .byte
  | 13 => .array .int
  | 14 => .array .boolean
  | 15 => .boolean
  | 16 => .int
  | _ => .array .byte
abbrev wsX10 : List Cond := u_ws RX1 TX1 18
set_option maxRecDepth 100000 in
theorem nmX1 : ∀ a, a < 18 → ∀ b, b < 18 → a ≠ b → (TX1 a).2.1 ≠ (TX1 b).2.1 := by decide +kernel
set_option maxRecDepth 100000 in
theorem tyX1_ok : ∀ k, k < 18 → parseFieldDescriptor (TX1 k).2.2.1 = some (tyX1 k) := by decide +kernel
abbrev cX1_init : ByteArray := prog_1_method_1_code
def yX1_init : MethodName := ⟨RX1, "<init>", "(I)V"⟩
abbrev cX1_add : ByteArray := prog_1_method_5_code
def yX1_add : MethodName := ⟨RX1, "add", "(III)I"⟩
abbrev cX1_isTime : ByteArray := prog_1_method_4_code
def yX1_isTime : MethodName := ⟨RX1, "isTime", "(I)Z"⟩
abbrev cX1_has : ByteArray := prog_1_method_2_code
def yX1_has : MethodName := ⟨RX1, "has", "(I)Z"⟩
abbrev cX1_remove : ByteArray := prog_1_method_6_code
def yX1_remove : MethodName := ⟨RX1, "remove", "(I)Z"⟩
abbrev cX1_setTime : ByteArray := prog_1_method_7_code
def yX1_setTime : MethodName := ⟨RX1, "setTime", "(III)Z"⟩
abbrev cX1_isMachine : ByteArray := prog_1_method_3_code
def yX1_isMachine : MethodName := ⟨RX1, "isMachine", "(I)Z"⟩
abbrev cX1_able : ByteArray := prog_1_method_8_code
def yX1_able : MethodName := ⟨RX1, "able", "(I)I"⟩
abbrev cX1_jobs : ByteArray := prog_1_method_9_code
def yX1_jobs : MethodName := ⟨RX1, "jobs", "()I"⟩
abbrev cX1_time : ByteArray := prog_1_method_10_code
def yX1_time : MethodName := ⟨RX1, "time", "(II)I"⟩
abbrev cX1_least : ByteArray := prog_1_method_20_code
def yX1_least : MethodName := ⟨RX1, "least", "()I"⟩
abbrev cX1_learn : ByteArray := prog_1_method_18_code
def yX1_learn : MethodName := ⟨RX1, "learn", "()V"⟩
abbrev cX1_askPlainly : ByteArray := prog_1_method_11_code
def yX1_askPlainly : MethodName := ⟨RX1, "askPlainly", "()V"⟩
abbrev cX1_totalOf : ByteArray := prog_1_method_17_code
def yX1_totalOf : MethodName := ⟨RX1, "totalOf", "(I)I"⟩
abbrev cX1_match : ByteArray := prog_1_method_14_code
def yX1_match : MethodName := ⟨RX1, "match", "(I)I"⟩
abbrev cX1_insert : ByteArray := prog_1_method_15_code
def yX1_insert : MethodName := ⟨RX1, "insert", "(I)V"⟩
abbrev cX1_advance : ByteArray := prog_1_method_16_code
def yX1_advance : MethodName := ⟨RX1, "advance", "(I)I"⟩
abbrev cX1_costOf : ByteArray := prog_1_method_13_code
def yX1_costOf : MethodName := ⟨RX1, "costOf", "(II)I"⟩
abbrev cX1_machineAt : ByteArray := prog_1_method_12_code
def yX1_machineAt : MethodName := ⟨RX1, "machineAt", "(I)I"⟩
abbrev cX1_firstMachine : ByteArray := prog_1_method_19_code
def yX1_firstMachine : MethodName := ⟨RX1, "firstMachine", "(I)I"⟩
abbrev cX1_machineOf : ByteArray := prog_1_method_21_code
def yX1_machineOf : MethodName := ⟨RX1, "machineOf", "(I)I"⟩
abbrev cX1_finishOf : ByteArray := prog_1_method_22_code
def yX1_finishOf : MethodName := ⟨RX1, "finishOf", "(I)I"⟩
abbrev cX1_leastWith : ByteArray := prog_1_method_23_code
def yX1_leastWith : MethodName := ⟨RX1, "leastWith", "(II)I"⟩
abbrev cX1_leastWithout : ByteArray := prog_1_method_24_code
def yX1_leastWithout : MethodName := ⟨RX1, "leastWithout", "(I)I"⟩
abbrev cX1_leastDoubled : ByteArray := prog_1_method_25_code
def yX1_leastDoubled : MethodName := ⟨RX1, "leastDoubled", "(I)I"⟩
abbrev cX1_leastIdle : ByteArray := prog_1_method_26_code
def yX1_leastIdle : MethodName := ⟨RX1, "leastIdle", "(I)I"⟩
abbrev cX1_mostJobs : ByteArray := prog_1_method_27_code
def yX1_mostJobs : MethodName := ⟨RX1, "mostJobs", "(I)I"⟩
theorem q21 : (Jvm.Cond.initialized "FlowTimeDesk") ∈ lw_all := lw_g (lw_at lw_m1 1 rfl) rfl
theorem q24 : (Jvm.Cond.instantiable "FlowTimeDesk" (18 : Nat)) ∈ lw_all := lw_g (lw_at lw_m1 4 rfl) rfl
theorem q26 : (Jvm.Cond.instanceMethod ({ cls := "FlowTimeDesk", name := "<init>", desc := "(I)V" } : Jvm.MethodName)) ∈ lw_all := lw_g (lw_at lw_m1 6 rfl) rfl
theorem q27 : (Jvm.Cond.code ({ cls := "FlowTimeDesk", name := "<init>", desc := "(I)V" } : Jvm.MethodName) prog_1_method_1_code (2 : Nat) (Option.none : Option Jvm.ClassFile.FieldType)) ∈ lw_all := lw_g (lw_at lw_m1 7 rfl) rfl
theorem q28 : (Jvm.Cond.methodLink "FlowTimeDesk" (1 : Nat) ({ cls := "java/lang/Object", name := "<init>", desc := "()V" } : Jvm.MethodName)) ∈ lw_all := lw_g (lw_at lw_m1 8 rfl) rfl
theorem q31 : (Jvm.Cond.fieldLink "FlowTimeDesk" (42 : Nat) "FlowTimeDesk" "machines" "I") ∈ lw_all := lw_g (lw_at lw_m1 11 rfl) rfl
theorem q32 : (Jvm.Cond.fieldLink "FlowTimeDesk" (46 : Nat) "FlowTimeDesk" "present" "I") ∈ lw_all := lw_g (lw_at lw_m1 12 rfl) rfl
theorem q33 : (Jvm.Cond.fieldLink "FlowTimeDesk" (7 : Nat) "FlowTimeDesk" "times" "[B") ∈ lw_all := lw_g (lw_at lw_m1 13 rfl) rfl
theorem q34 : (Jvm.Cond.fieldLink "FlowTimeDesk" (13 : Nat) "FlowTimeDesk" "open" "[B") ∈ lw_all := lw_g (lw_at lw_m1 14 rfl) rfl
theorem q35 : (Jvm.Cond.fieldLink "FlowTimeDesk" (67 : Nat) "FlowTimeDesk" "doubled" "I") ∈ lw_all := lw_g (lw_at lw_m1 15 rfl) rfl
theorem q36 : (Jvm.Cond.fieldLink "FlowTimeDesk" (70 : Nat) "FlowTimeDesk" "liked" "I") ∈ lw_all := lw_g (lw_at lw_m1 16 rfl) rfl
theorem q37 : (Jvm.Cond.fieldLink "FlowTimeDesk" (77 : Nat) "FlowTimeDesk" "rows" "I") ∈ lw_all := lw_g (lw_at lw_m1 17 rfl) rfl
theorem q38 : (Jvm.Cond.fieldLink "FlowTimeDesk" (80 : Nat) "FlowTimeDesk" "columns" "I") ∈ lw_all := lw_g (lw_at lw_m1 18 rfl) rfl
theorem q39 : (Jvm.Cond.fieldLink "FlowTimeDesk" (16 : Nat) "FlowTimeDesk" "rowJob" "[B") ∈ lw_all := lw_g (lw_at lw_m1 19 rfl) rfl
theorem q40 : (Jvm.Cond.fieldLink "FlowTimeDesk" (19 : Nat) "FlowTimeDesk" "rowPrice" "[I") ∈ lw_all := lw_g (lw_at lw_m1 20 rfl) rfl
theorem q41 : (Jvm.Cond.fieldLink "FlowTimeDesk" (23 : Nat) "FlowTimeDesk" "columnPrice" "[I") ∈ lw_all := lw_g (lw_at lw_m1 21 rfl) rfl
theorem q42 : (Jvm.Cond.fieldLink "FlowTimeDesk" (26 : Nat) "FlowTimeDesk" "rowOf" "[B") ∈ lw_all := lw_g (lw_at lw_m1 22 rfl) rfl
theorem q43 : (Jvm.Cond.fieldLink "FlowTimeDesk" (29 : Nat) "FlowTimeDesk" "cameFrom" "[B") ∈ lw_all := lw_g (lw_at lw_m1 23 rfl) rfl
theorem q44 : (Jvm.Cond.fieldLink "FlowTimeDesk" (32 : Nat) "FlowTimeDesk" "slack" "[I") ∈ lw_all := lw_g (lw_at lw_m1 24 rfl) rfl
theorem q45 : (Jvm.Cond.fieldLink "FlowTimeDesk" (35 : Nat) "FlowTimeDesk" "reached" "[Z") ∈ lw_all := lw_g (lw_at lw_m1 25 rfl) rfl
theorem q46 : (Jvm.Cond.fieldLink "FlowTimeDesk" (56 : Nat) "FlowTimeDesk" "known" "Z") ∈ lw_all := lw_g (lw_at lw_m1 26 rfl) rfl
theorem q47 : (Jvm.Cond.fieldLink "FlowTimeDesk" (104 : Nat) "FlowTimeDesk" "leastTotal" "I") ∈ lw_all := lw_g (lw_at lw_m1 27 rfl) rfl
theorem q48 : (Jvm.Cond.fieldLink "FlowTimeDesk" (39 : Nat) "FlowTimeDesk" "bestMachine" "[B") ∈ lw_all := lw_g (lw_at lw_m1 28 rfl) rfl
theorem q49 : (Jvm.Cond.laysFinal "FlowTimeDesk" "FlowTimeDesk" "machines" "I") ∈ lw_all := lw_g (lw_at lw_m1 29 rfl) rfl
theorem q50 : (Jvm.Cond.soleField "FlowTimeDesk" "machines") ∈ lw_all := lw_g (lw_at lw_m1 30 rfl) rfl
theorem q51 : (Jvm.Cond.lays "FlowTimeDesk" "FlowTimeDesk" "present" "I") ∈ lw_all := lw_g (lw_at lw_m1 31 rfl) rfl
theorem q52 : (Jvm.Cond.soleField "FlowTimeDesk" "present") ∈ lw_all := lw_g (lw_at lw_m1 32 rfl) rfl
theorem q53 : (Jvm.Cond.laysFinal "FlowTimeDesk" "FlowTimeDesk" "times" "[B") ∈ lw_all := lw_g (lw_at lw_m1 33 rfl) rfl
theorem q54 : (Jvm.Cond.soleField "FlowTimeDesk" "times") ∈ lw_all := lw_g (lw_at lw_m1 34 rfl) rfl
theorem q55 : (Jvm.Cond.laysFinal "FlowTimeDesk" "FlowTimeDesk" "open" "[B") ∈ lw_all := lw_g (lw_at lw_m1 35 rfl) rfl
theorem q56 : (Jvm.Cond.soleField "FlowTimeDesk" "open") ∈ lw_all := lw_g (lw_at lw_m1 36 rfl) rfl
theorem q57 : (Jvm.Cond.lays "FlowTimeDesk" "FlowTimeDesk" "doubled" "I") ∈ lw_all := lw_g (lw_at lw_m1 37 rfl) rfl
theorem q58 : (Jvm.Cond.soleField "FlowTimeDesk" "doubled") ∈ lw_all := lw_g (lw_at lw_m1 38 rfl) rfl
theorem q59 : (Jvm.Cond.lays "FlowTimeDesk" "FlowTimeDesk" "liked" "I") ∈ lw_all := lw_g (lw_at lw_m1 39 rfl) rfl
theorem q60 : (Jvm.Cond.soleField "FlowTimeDesk" "liked") ∈ lw_all := lw_g (lw_at lw_m1 40 rfl) rfl
theorem q61 : (Jvm.Cond.lays "FlowTimeDesk" "FlowTimeDesk" "rows" "I") ∈ lw_all := lw_g (lw_at lw_m1 41 rfl) rfl
theorem q62 : (Jvm.Cond.soleField "FlowTimeDesk" "rows") ∈ lw_all := lw_g (lw_at lw_m1 42 rfl) rfl
theorem q63 : (Jvm.Cond.lays "FlowTimeDesk" "FlowTimeDesk" "columns" "I") ∈ lw_all := lw_g (lw_at lw_m1 43 rfl) rfl
theorem q64 : (Jvm.Cond.soleField "FlowTimeDesk" "columns") ∈ lw_all := lw_g (lw_at lw_m1 44 rfl) rfl
theorem q65 : (Jvm.Cond.laysFinal "FlowTimeDesk" "FlowTimeDesk" "rowJob" "[B") ∈ lw_all := lw_g (lw_at lw_m1 45 rfl) rfl
theorem q66 : (Jvm.Cond.soleField "FlowTimeDesk" "rowJob") ∈ lw_all := lw_g (lw_at lw_m1 46 rfl) rfl
theorem q67 : (Jvm.Cond.laysFinal "FlowTimeDesk" "FlowTimeDesk" "rowPrice" "[I") ∈ lw_all := lw_g (lw_at lw_m1 47 rfl) rfl
theorem q68 : (Jvm.Cond.soleField "FlowTimeDesk" "rowPrice") ∈ lw_all := lw_g (lw_at lw_m1 48 rfl) rfl
theorem q69 : (Jvm.Cond.laysFinal "FlowTimeDesk" "FlowTimeDesk" "columnPrice" "[I") ∈ lw_all := lw_g (lw_at lw_m1 49 rfl) rfl
theorem q70 : (Jvm.Cond.soleField "FlowTimeDesk" "columnPrice") ∈ lw_all := lw_g (lw_at lw_m1 50 rfl) rfl
theorem q71 : (Jvm.Cond.laysFinal "FlowTimeDesk" "FlowTimeDesk" "rowOf" "[B") ∈ lw_all := lw_g (lw_at lw_m1 51 rfl) rfl
theorem q72 : (Jvm.Cond.soleField "FlowTimeDesk" "rowOf") ∈ lw_all := lw_g (lw_at lw_m1 52 rfl) rfl
theorem q73 : (Jvm.Cond.laysFinal "FlowTimeDesk" "FlowTimeDesk" "cameFrom" "[B") ∈ lw_all := lw_g (lw_at lw_m1 53 rfl) rfl
theorem q74 : (Jvm.Cond.soleField "FlowTimeDesk" "cameFrom") ∈ lw_all := lw_g (lw_at lw_m1 54 rfl) rfl
theorem q75 : (Jvm.Cond.laysFinal "FlowTimeDesk" "FlowTimeDesk" "slack" "[I") ∈ lw_all := lw_g (lw_at lw_m1 55 rfl) rfl
theorem q76 : (Jvm.Cond.soleField "FlowTimeDesk" "slack") ∈ lw_all := lw_g (lw_at lw_m1 56 rfl) rfl
theorem q77 : (Jvm.Cond.laysFinal "FlowTimeDesk" "FlowTimeDesk" "reached" "[Z") ∈ lw_all := lw_g (lw_at lw_m1 57 rfl) rfl
theorem q78 : (Jvm.Cond.soleField "FlowTimeDesk" "reached") ∈ lw_all := lw_g (lw_at lw_m1 58 rfl) rfl
theorem q79 : (Jvm.Cond.lays "FlowTimeDesk" "FlowTimeDesk" "known" "Z") ∈ lw_all := lw_g (lw_at lw_m1 59 rfl) rfl
theorem q80 : (Jvm.Cond.soleField "FlowTimeDesk" "known") ∈ lw_all := lw_g (lw_at lw_m1 60 rfl) rfl
theorem q81 : (Jvm.Cond.lays "FlowTimeDesk" "FlowTimeDesk" "leastTotal" "I") ∈ lw_all := lw_g (lw_at lw_m1 61 rfl) rfl
theorem q82 : (Jvm.Cond.soleField "FlowTimeDesk" "leastTotal") ∈ lw_all := lw_g (lw_at lw_m1 62 rfl) rfl
theorem q83 : (Jvm.Cond.laysFinal "FlowTimeDesk" "FlowTimeDesk" "bestMachine" "[B") ∈ lw_all := lw_g (lw_at lw_m1 63 rfl) rfl
theorem q84 : (Jvm.Cond.soleField "FlowTimeDesk" "bestMachine") ∈ lw_all := lw_g (lw_at lw_m1 64 rfl) rfl
theorem q85 : (Jvm.Cond.superclass "FlowTimeDesk" "java/lang/Object") ∈ lw_all := lw_g (lw_at lw_m1 65 rfl) rfl
theorem q90 : (Jvm.Cond.instanceMethod ({ cls := "FlowTimeDesk", name := "add", desc := "(III)I" } : Jvm.MethodName)) ∈ lw_all := lw_g (lw_at lw_m1 70 rfl) rfl
theorem q91 : (Jvm.Cond.selects "FlowTimeDesk" ({ cls := "FlowTimeDesk", name := "add", desc := "(III)I" } : Jvm.MethodName) ({ cls := "FlowTimeDesk", name := "add", desc := "(III)I" } : Jvm.MethodName)) ∈ lw_all := lw_g (lw_at lw_m1 71 rfl) rfl
theorem q92 : (Jvm.Cond.code ({ cls := "FlowTimeDesk", name := "add", desc := "(III)I" } : Jvm.MethodName) prog_1_method_5_code (7 : Nat) (Option.some Jvm.ClassFile.FieldType.int)) ∈ lw_all := lw_g (lw_at lw_m1 72 rfl) rfl
theorem q93 : (Jvm.Cond.methodLink "FlowTimeDesk" (49 : Nat) ({ cls := "FlowTimeDesk", name := "isTime", desc := "(I)Z" } : Jvm.MethodName)) ∈ lw_all := lw_g (lw_at lw_m1 73 rfl) rfl
theorem q94 : (Jvm.Cond.static ({ cls := "FlowTimeDesk", name := "isTime", desc := "(I)Z" } : Jvm.MethodName)) ∈ lw_all := lw_g (lw_at lw_m1 74 rfl) rfl
theorem q95 : (Jvm.Cond.code ({ cls := "FlowTimeDesk", name := "isTime", desc := "(I)Z" } : Jvm.MethodName) prog_1_method_4_code (1 : Nat) (Option.some Jvm.ClassFile.FieldType.boolean)) ∈ lw_all := lw_g (lw_at lw_m1 75 rfl) rfl
theorem q96 : (Jvm.Cond.methodLink "FlowTimeDesk" (53 : Nat) ({ cls := "FlowTimeDesk", name := "has", desc := "(I)Z" } : Jvm.MethodName)) ∈ lw_all := lw_g (lw_at lw_m1 76 rfl) rfl
theorem q97 : (Jvm.Cond.privateMethod ({ cls := "FlowTimeDesk", name := "has", desc := "(I)Z" } : Jvm.MethodName)) ∈ lw_tbl := lw_at lw_m1 77 rfl
theorem q98 : (Jvm.Cond.instanceMethod ({ cls := "FlowTimeDesk", name := "has", desc := "(I)Z" } : Jvm.MethodName)) ∈ lw_all := lw_g (lw_at lw_m1 78 rfl) rfl
theorem q99 : (Jvm.Cond.code ({ cls := "FlowTimeDesk", name := "has", desc := "(I)Z" } : Jvm.MethodName) prog_1_method_2_code (2 : Nat) (Option.some Jvm.ClassFile.FieldType.boolean)) ∈ lw_all := lw_g (lw_at lw_m1 79 rfl) rfl
theorem q101 : (Jvm.Cond.instanceMethod ({ cls := "FlowTimeDesk", name := "remove", desc := "(I)Z" } : Jvm.MethodName)) ∈ lw_all := lw_g (lw_at lw_m1 81 rfl) rfl
theorem q102 : (Jvm.Cond.selects "FlowTimeDesk" ({ cls := "FlowTimeDesk", name := "remove", desc := "(I)Z" } : Jvm.MethodName) ({ cls := "FlowTimeDesk", name := "remove", desc := "(I)Z" } : Jvm.MethodName)) ∈ lw_all := lw_g (lw_at lw_m1 82 rfl) rfl
theorem q103 : (Jvm.Cond.code ({ cls := "FlowTimeDesk", name := "remove", desc := "(I)Z" } : Jvm.MethodName) prog_1_method_6_code (2 : Nat) (Option.some Jvm.ClassFile.FieldType.boolean)) ∈ lw_all := lw_g (lw_at lw_m1 83 rfl) rfl
theorem q105 : (Jvm.Cond.instanceMethod ({ cls := "FlowTimeDesk", name := "setTime", desc := "(III)Z" } : Jvm.MethodName)) ∈ lw_all := lw_g (lw_at lw_m1 85 rfl) rfl
theorem q106 : (Jvm.Cond.selects "FlowTimeDesk" ({ cls := "FlowTimeDesk", name := "setTime", desc := "(III)Z" } : Jvm.MethodName) ({ cls := "FlowTimeDesk", name := "setTime", desc := "(III)Z" } : Jvm.MethodName)) ∈ lw_all := lw_g (lw_at lw_m1 86 rfl) rfl
theorem q107 : (Jvm.Cond.code ({ cls := "FlowTimeDesk", name := "setTime", desc := "(III)Z" } : Jvm.MethodName) prog_1_method_7_code (5 : Nat) (Option.some Jvm.ClassFile.FieldType.boolean)) ∈ lw_all := lw_g (lw_at lw_m1 87 rfl) rfl
theorem q108 : (Jvm.Cond.methodLink "FlowTimeDesk" (60 : Nat) ({ cls := "FlowTimeDesk", name := "isMachine", desc := "(I)Z" } : Jvm.MethodName)) ∈ lw_all := lw_g (lw_at lw_m1 88 rfl) rfl
theorem q109 : (Jvm.Cond.privateMethod ({ cls := "FlowTimeDesk", name := "isMachine", desc := "(I)Z" } : Jvm.MethodName)) ∈ lw_tbl := lw_at lw_m1 89 rfl
theorem q110 : (Jvm.Cond.instanceMethod ({ cls := "FlowTimeDesk", name := "isMachine", desc := "(I)Z" } : Jvm.MethodName)) ∈ lw_all := lw_g (lw_at lw_m1 90 rfl) rfl
theorem q111 : (Jvm.Cond.code ({ cls := "FlowTimeDesk", name := "isMachine", desc := "(I)Z" } : Jvm.MethodName) prog_1_method_3_code (2 : Nat) (Option.some Jvm.ClassFile.FieldType.boolean)) ∈ lw_all := lw_g (lw_at lw_m1 91 rfl) rfl
theorem q112 : (Jvm.Cond.methodLink "FlowTimeDesk" (63 : Nat) ({ cls := "FlowTimeDesk", name := "able", desc := "(I)I" } : Jvm.MethodName)) ∈ lw_all := lw_g (lw_at lw_m1 92 rfl) rfl
theorem q113 : (Jvm.Cond.privateMethod ({ cls := "FlowTimeDesk", name := "able", desc := "(I)I" } : Jvm.MethodName)) ∈ lw_tbl := lw_at lw_m1 93 rfl
theorem q114 : (Jvm.Cond.instanceMethod ({ cls := "FlowTimeDesk", name := "able", desc := "(I)I" } : Jvm.MethodName)) ∈ lw_all := lw_g (lw_at lw_m1 94 rfl) rfl
theorem q115 : (Jvm.Cond.code ({ cls := "FlowTimeDesk", name := "able", desc := "(I)I" } : Jvm.MethodName) prog_1_method_8_code (4 : Nat) (Option.some Jvm.ClassFile.FieldType.int)) ∈ lw_all := lw_g (lw_at lw_m1 95 rfl) rfl
theorem q117 : (Jvm.Cond.instanceMethod ({ cls := "FlowTimeDesk", name := "jobs", desc := "()I" } : Jvm.MethodName)) ∈ lw_all := lw_g (lw_at lw_m1 97 rfl) rfl
theorem q118 : (Jvm.Cond.selects "FlowTimeDesk" ({ cls := "FlowTimeDesk", name := "jobs", desc := "()I" } : Jvm.MethodName) ({ cls := "FlowTimeDesk", name := "jobs", desc := "()I" } : Jvm.MethodName)) ∈ lw_all := lw_g (lw_at lw_m1 98 rfl) rfl
theorem q119 : (Jvm.Cond.code ({ cls := "FlowTimeDesk", name := "jobs", desc := "()I" } : Jvm.MethodName) prog_1_method_9_code (1 : Nat) (Option.some Jvm.ClassFile.FieldType.int)) ∈ lw_all := lw_g (lw_at lw_m1 99 rfl) rfl
theorem q121 : (Jvm.Cond.instanceMethod ({ cls := "FlowTimeDesk", name := "time", desc := "(II)I" } : Jvm.MethodName)) ∈ lw_all := lw_g (lw_at lw_m1 101 rfl) rfl
theorem q122 : (Jvm.Cond.selects "FlowTimeDesk" ({ cls := "FlowTimeDesk", name := "time", desc := "(II)I" } : Jvm.MethodName) ({ cls := "FlowTimeDesk", name := "time", desc := "(II)I" } : Jvm.MethodName)) ∈ lw_all := lw_g (lw_at lw_m1 102 rfl) rfl
theorem q123 : (Jvm.Cond.code ({ cls := "FlowTimeDesk", name := "time", desc := "(II)I" } : Jvm.MethodName) prog_1_method_10_code (3 : Nat) (Option.some Jvm.ClassFile.FieldType.int)) ∈ lw_all := lw_g (lw_at lw_m1 103 rfl) rfl
theorem q125 : (Jvm.Cond.instanceMethod ({ cls := "FlowTimeDesk", name := "least", desc := "()I" } : Jvm.MethodName)) ∈ lw_all := lw_g (lw_at lw_m1 105 rfl) rfl
theorem q126 : (Jvm.Cond.selects "FlowTimeDesk" ({ cls := "FlowTimeDesk", name := "least", desc := "()I" } : Jvm.MethodName) ({ cls := "FlowTimeDesk", name := "least", desc := "()I" } : Jvm.MethodName)) ∈ lw_all := lw_g (lw_at lw_m1 106 rfl) rfl
theorem q127 : (Jvm.Cond.code ({ cls := "FlowTimeDesk", name := "least", desc := "()I" } : Jvm.MethodName) prog_1_method_20_code (1 : Nat) (Option.some Jvm.ClassFile.FieldType.int)) ∈ lw_all := lw_g (lw_at lw_m1 107 rfl) rfl
theorem q128 : (Jvm.Cond.methodLink "FlowTimeDesk" (110 : Nat) ({ cls := "FlowTimeDesk", name := "learn", desc := "()V" } : Jvm.MethodName)) ∈ lw_all := lw_g (lw_at lw_m1 108 rfl) rfl
theorem q129 : (Jvm.Cond.privateMethod ({ cls := "FlowTimeDesk", name := "learn", desc := "()V" } : Jvm.MethodName)) ∈ lw_tbl := lw_at lw_m1 109 rfl
theorem q130 : (Jvm.Cond.instanceMethod ({ cls := "FlowTimeDesk", name := "learn", desc := "()V" } : Jvm.MethodName)) ∈ lw_all := lw_g (lw_at lw_m1 110 rfl) rfl
theorem q131 : (Jvm.Cond.code ({ cls := "FlowTimeDesk", name := "learn", desc := "()V" } : Jvm.MethodName) prog_1_method_18_code (2 : Nat) (Option.none : Option Jvm.ClassFile.FieldType)) ∈ lw_all := lw_g (lw_at lw_m1 111 rfl) rfl
theorem q132 : (Jvm.Cond.methodLink "FlowTimeDesk" (98 : Nat) ({ cls := "FlowTimeDesk", name := "askPlainly", desc := "()V" } : Jvm.MethodName)) ∈ lw_all := lw_g (lw_at lw_m1 112 rfl) rfl
theorem q133 : (Jvm.Cond.privateMethod ({ cls := "FlowTimeDesk", name := "askPlainly", desc := "()V" } : Jvm.MethodName)) ∈ lw_tbl := lw_at lw_m1 113 rfl
theorem q134 : (Jvm.Cond.instanceMethod ({ cls := "FlowTimeDesk", name := "askPlainly", desc := "()V" } : Jvm.MethodName)) ∈ lw_all := lw_g (lw_at lw_m1 114 rfl) rfl
theorem q135 : (Jvm.Cond.code ({ cls := "FlowTimeDesk", name := "askPlainly", desc := "()V" } : Jvm.MethodName) prog_1_method_11_code (2 : Nat) (Option.none : Option Jvm.ClassFile.FieldType)) ∈ lw_all := lw_g (lw_at lw_m1 115 rfl) rfl
theorem q136 : (Jvm.Cond.methodLink "FlowTimeDesk" (101 : Nat) ({ cls := "FlowTimeDesk", name := "totalOf", desc := "(I)I" } : Jvm.MethodName)) ∈ lw_all := lw_g (lw_at lw_m1 116 rfl) rfl
theorem q137 : (Jvm.Cond.privateMethod ({ cls := "FlowTimeDesk", name := "totalOf", desc := "(I)I" } : Jvm.MethodName)) ∈ lw_tbl := lw_at lw_m1 117 rfl
theorem q138 : (Jvm.Cond.instanceMethod ({ cls := "FlowTimeDesk", name := "totalOf", desc := "(I)I" } : Jvm.MethodName)) ∈ lw_all := lw_g (lw_at lw_m1 118 rfl) rfl
theorem q139 : (Jvm.Cond.code ({ cls := "FlowTimeDesk", name := "totalOf", desc := "(I)I" } : Jvm.MethodName) prog_1_method_17_code (3 : Nat) (Option.some Jvm.ClassFile.FieldType.int)) ∈ lw_all := lw_g (lw_at lw_m1 119 rfl) rfl
theorem q140 : (Jvm.Cond.methodLink "FlowTimeDesk" (95 : Nat) ({ cls := "FlowTimeDesk", name := "match", desc := "(I)I" } : Jvm.MethodName)) ∈ lw_all := lw_g (lw_at lw_m1 120 rfl) rfl
theorem q141 : (Jvm.Cond.privateMethod ({ cls := "FlowTimeDesk", name := "match", desc := "(I)I" } : Jvm.MethodName)) ∈ lw_tbl := lw_at lw_m1 121 rfl
theorem q142 : (Jvm.Cond.instanceMethod ({ cls := "FlowTimeDesk", name := "match", desc := "(I)I" } : Jvm.MethodName)) ∈ lw_all := lw_g (lw_at lw_m1 122 rfl) rfl
theorem q143 : (Jvm.Cond.code ({ cls := "FlowTimeDesk", name := "match", desc := "(I)I" } : Jvm.MethodName) prog_1_method_14_code (4 : Nat) (Option.some Jvm.ClassFile.FieldType.int)) ∈ lw_all := lw_g (lw_at lw_m1 123 rfl) rfl
theorem q144 : (Jvm.Cond.methodLink "FlowTimeDesk" (83 : Nat) ({ cls := "FlowTimeDesk", name := "insert", desc := "(I)V" } : Jvm.MethodName)) ∈ lw_all := lw_g (lw_at lw_m1 124 rfl) rfl
theorem q145 : (Jvm.Cond.privateMethod ({ cls := "FlowTimeDesk", name := "insert", desc := "(I)V" } : Jvm.MethodName)) ∈ lw_tbl := lw_at lw_m1 125 rfl
theorem q146 : (Jvm.Cond.instanceMethod ({ cls := "FlowTimeDesk", name := "insert", desc := "(I)V" } : Jvm.MethodName)) ∈ lw_all := lw_g (lw_at lw_m1 126 rfl) rfl
theorem q147 : (Jvm.Cond.code ({ cls := "FlowTimeDesk", name := "insert", desc := "(I)V" } : Jvm.MethodName) prog_1_method_15_code (5 : Nat) (Option.none : Option Jvm.ClassFile.FieldType)) ∈ lw_all := lw_g (lw_at lw_m1 127 rfl) rfl
theorem q148 : (Jvm.Cond.constant "FlowTimeDesk" (91 : Nat) (268435456 : Int32)) ∈ lw_all := lw_g (lw_at lw_m1 128 rfl) rfl
theorem q149 : (Jvm.Cond.methodLink "FlowTimeDesk" (92 : Nat) ({ cls := "FlowTimeDesk", name := "advance", desc := "(I)I" } : Jvm.MethodName)) ∈ lw_all := lw_g (lw_at lw_m1 129 rfl) rfl
theorem q150 : (Jvm.Cond.privateMethod ({ cls := "FlowTimeDesk", name := "advance", desc := "(I)I" } : Jvm.MethodName)) ∈ lw_tbl := lw_at lw_m1 130 rfl
theorem q151 : (Jvm.Cond.instanceMethod ({ cls := "FlowTimeDesk", name := "advance", desc := "(I)I" } : Jvm.MethodName)) ∈ lw_all := lw_g (lw_at lw_m1 131 rfl) rfl
theorem q152 : (Jvm.Cond.code ({ cls := "FlowTimeDesk", name := "advance", desc := "(I)I" } : Jvm.MethodName) prog_1_method_16_code (7 : Nat) (Option.some Jvm.ClassFile.FieldType.int)) ∈ lw_all := lw_g (lw_at lw_m1 132 rfl) rfl
theorem q153 : (Jvm.Cond.methodLink "FlowTimeDesk" (87 : Nat) ({ cls := "FlowTimeDesk", name := "costOf", desc := "(II)I" } : Jvm.MethodName)) ∈ lw_all := lw_g (lw_at lw_m1 133 rfl) rfl
theorem q154 : (Jvm.Cond.privateMethod ({ cls := "FlowTimeDesk", name := "costOf", desc := "(II)I" } : Jvm.MethodName)) ∈ lw_tbl := lw_at lw_m1 134 rfl
theorem q155 : (Jvm.Cond.instanceMethod ({ cls := "FlowTimeDesk", name := "costOf", desc := "(II)I" } : Jvm.MethodName)) ∈ lw_all := lw_g (lw_at lw_m1 135 rfl) rfl
theorem q156 : (Jvm.Cond.code ({ cls := "FlowTimeDesk", name := "costOf", desc := "(II)I" } : Jvm.MethodName) prog_1_method_13_code (7 : Nat) (Option.some Jvm.ClassFile.FieldType.int)) ∈ lw_all := lw_g (lw_at lw_m1 136 rfl) rfl
theorem q157 : (Jvm.Cond.methodLink "FlowTimeDesk" (73 : Nat) ({ cls := "FlowTimeDesk", name := "machineAt", desc := "(I)I" } : Jvm.MethodName)) ∈ lw_all := lw_g (lw_at lw_m1 137 rfl) rfl
theorem q158 : (Jvm.Cond.privateMethod ({ cls := "FlowTimeDesk", name := "machineAt", desc := "(I)I" } : Jvm.MethodName)) ∈ lw_tbl := lw_at lw_m1 138 rfl
theorem q159 : (Jvm.Cond.instanceMethod ({ cls := "FlowTimeDesk", name := "machineAt", desc := "(I)I" } : Jvm.MethodName)) ∈ lw_all := lw_g (lw_at lw_m1 139 rfl) rfl
theorem q160 : (Jvm.Cond.code ({ cls := "FlowTimeDesk", name := "machineAt", desc := "(I)I" } : Jvm.MethodName) prog_1_method_12_code (3 : Nat) (Option.some Jvm.ClassFile.FieldType.int)) ∈ lw_all := lw_g (lw_at lw_m1 140 rfl) rfl
theorem q161 : (Jvm.Cond.constant "FlowTimeDesk" (76 : Nat) (100000 : Int32)) ∈ lw_all := lw_g (lw_at lw_m1 141 rfl) rfl
theorem q162 : (Jvm.Cond.methodLink "FlowTimeDesk" (107 : Nat) ({ cls := "FlowTimeDesk", name := "firstMachine", desc := "(I)I" } : Jvm.MethodName)) ∈ lw_all := lw_g (lw_at lw_m1 142 rfl) rfl
theorem q163 : (Jvm.Cond.privateMethod ({ cls := "FlowTimeDesk", name := "firstMachine", desc := "(I)I" } : Jvm.MethodName)) ∈ lw_tbl := lw_at lw_m1 143 rfl
theorem q164 : (Jvm.Cond.instanceMethod ({ cls := "FlowTimeDesk", name := "firstMachine", desc := "(I)I" } : Jvm.MethodName)) ∈ lw_all := lw_g (lw_at lw_m1 144 rfl) rfl
theorem q165 : (Jvm.Cond.code ({ cls := "FlowTimeDesk", name := "firstMachine", desc := "(I)I" } : Jvm.MethodName) prog_1_method_19_code (5 : Nat) (Option.some Jvm.ClassFile.FieldType.int)) ∈ lw_all := lw_g (lw_at lw_m1 145 rfl) rfl
theorem q167 : (Jvm.Cond.instanceMethod ({ cls := "FlowTimeDesk", name := "machineOf", desc := "(I)I" } : Jvm.MethodName)) ∈ lw_all := lw_g (lw_at lw_m1 147 rfl) rfl
theorem q168 : (Jvm.Cond.selects "FlowTimeDesk" ({ cls := "FlowTimeDesk", name := "machineOf", desc := "(I)I" } : Jvm.MethodName) ({ cls := "FlowTimeDesk", name := "machineOf", desc := "(I)I" } : Jvm.MethodName)) ∈ lw_all := lw_g (lw_at lw_m1 148 rfl) rfl
theorem q169 : (Jvm.Cond.code ({ cls := "FlowTimeDesk", name := "machineOf", desc := "(I)I" } : Jvm.MethodName) prog_1_method_21_code (2 : Nat) (Option.some Jvm.ClassFile.FieldType.int)) ∈ lw_all := lw_g (lw_at lw_m1 149 rfl) rfl
theorem q171 : (Jvm.Cond.instanceMethod ({ cls := "FlowTimeDesk", name := "finishOf", desc := "(I)I" } : Jvm.MethodName)) ∈ lw_all := lw_g (lw_at lw_m1 151 rfl) rfl
theorem q172 : (Jvm.Cond.selects "FlowTimeDesk" ({ cls := "FlowTimeDesk", name := "finishOf", desc := "(I)I" } : Jvm.MethodName) ({ cls := "FlowTimeDesk", name := "finishOf", desc := "(I)I" } : Jvm.MethodName)) ∈ lw_all := lw_g (lw_at lw_m1 152 rfl) rfl
theorem q173 : (Jvm.Cond.code ({ cls := "FlowTimeDesk", name := "finishOf", desc := "(I)I" } : Jvm.MethodName) prog_1_method_22_code (8 : Nat) (Option.some Jvm.ClassFile.FieldType.int)) ∈ lw_all := lw_g (lw_at lw_m1 153 rfl) rfl
theorem q175 : (Jvm.Cond.instanceMethod ({ cls := "FlowTimeDesk", name := "leastWith", desc := "(II)I" } : Jvm.MethodName)) ∈ lw_all := lw_g (lw_at lw_m1 155 rfl) rfl
theorem q176 : (Jvm.Cond.selects "FlowTimeDesk" ({ cls := "FlowTimeDesk", name := "leastWith", desc := "(II)I" } : Jvm.MethodName) ({ cls := "FlowTimeDesk", name := "leastWith", desc := "(II)I" } : Jvm.MethodName)) ∈ lw_all := lw_g (lw_at lw_m1 156 rfl) rfl
theorem q177 : (Jvm.Cond.code ({ cls := "FlowTimeDesk", name := "leastWith", desc := "(II)I" } : Jvm.MethodName) prog_1_method_23_code (3 : Nat) (Option.some Jvm.ClassFile.FieldType.int)) ∈ lw_all := lw_g (lw_at lw_m1 157 rfl) rfl
theorem q179 : (Jvm.Cond.instanceMethod ({ cls := "FlowTimeDesk", name := "leastWithout", desc := "(I)I" } : Jvm.MethodName)) ∈ lw_all := lw_g (lw_at lw_m1 159 rfl) rfl
theorem q180 : (Jvm.Cond.selects "FlowTimeDesk" ({ cls := "FlowTimeDesk", name := "leastWithout", desc := "(I)I" } : Jvm.MethodName) ({ cls := "FlowTimeDesk", name := "leastWithout", desc := "(I)I" } : Jvm.MethodName)) ∈ lw_all := lw_g (lw_at lw_m1 160 rfl) rfl
theorem q181 : (Jvm.Cond.code ({ cls := "FlowTimeDesk", name := "leastWithout", desc := "(I)I" } : Jvm.MethodName) prog_1_method_24_code (2 : Nat) (Option.some Jvm.ClassFile.FieldType.int)) ∈ lw_all := lw_g (lw_at lw_m1 161 rfl) rfl
theorem q183 : (Jvm.Cond.instanceMethod ({ cls := "FlowTimeDesk", name := "leastDoubled", desc := "(I)I" } : Jvm.MethodName)) ∈ lw_all := lw_g (lw_at lw_m1 163 rfl) rfl
theorem q184 : (Jvm.Cond.selects "FlowTimeDesk" ({ cls := "FlowTimeDesk", name := "leastDoubled", desc := "(I)I" } : Jvm.MethodName) ({ cls := "FlowTimeDesk", name := "leastDoubled", desc := "(I)I" } : Jvm.MethodName)) ∈ lw_all := lw_g (lw_at lw_m1 164 rfl) rfl
theorem q185 : (Jvm.Cond.code ({ cls := "FlowTimeDesk", name := "leastDoubled", desc := "(I)I" } : Jvm.MethodName) prog_1_method_25_code (2 : Nat) (Option.some Jvm.ClassFile.FieldType.int)) ∈ lw_all := lw_g (lw_at lw_m1 165 rfl) rfl
theorem q187 : (Jvm.Cond.instanceMethod ({ cls := "FlowTimeDesk", name := "leastIdle", desc := "(I)I" } : Jvm.MethodName)) ∈ lw_all := lw_g (lw_at lw_m1 167 rfl) rfl
theorem q188 : (Jvm.Cond.selects "FlowTimeDesk" ({ cls := "FlowTimeDesk", name := "leastIdle", desc := "(I)I" } : Jvm.MethodName) ({ cls := "FlowTimeDesk", name := "leastIdle", desc := "(I)I" } : Jvm.MethodName)) ∈ lw_all := lw_g (lw_at lw_m1 168 rfl) rfl
theorem q189 : (Jvm.Cond.code ({ cls := "FlowTimeDesk", name := "leastIdle", desc := "(I)I" } : Jvm.MethodName) prog_1_method_26_code (3 : Nat) (Option.some Jvm.ClassFile.FieldType.int)) ∈ lw_all := lw_g (lw_at lw_m1 169 rfl) rfl
theorem q191 : (Jvm.Cond.instanceMethod ({ cls := "FlowTimeDesk", name := "mostJobs", desc := "(I)I" } : Jvm.MethodName)) ∈ lw_all := lw_g (lw_at lw_m1 171 rfl) rfl
theorem q192 : (Jvm.Cond.selects "FlowTimeDesk" ({ cls := "FlowTimeDesk", name := "mostJobs", desc := "(I)I" } : Jvm.MethodName) ({ cls := "FlowTimeDesk", name := "mostJobs", desc := "(I)I" } : Jvm.MethodName)) ∈ lw_all := lw_g (lw_at lw_m1 172 rfl) rfl
theorem q193 : (Jvm.Cond.code ({ cls := "FlowTimeDesk", name := "mostJobs", desc := "(I)I" } : Jvm.MethodName) prog_1_method_27_code (3 : Nat) (Option.some Jvm.ClassFile.FieldType.int)) ∈ lw_all := lw_g (lw_at lw_m1 173 rfl) rfl
theorem in_X1 : ∀ w ∈ wsX10, w ∈ lw_all := lw_in wsX10 [49, 51, 53, 55, 57, 59, 61, 63, 65, 67, 69, 71, 73, 75, 77, 79, 81, 83] (by decide +kernel) (by decide +kernel)
/-! FlowTimeDeskModel -/
def RX2 : String := "FlowTimeDeskModel"
def TX2 : u_T := fun k => match k with
  | 0 => ("FlowTimeDeskModel", "crew", "I", false)
  | 1 => ("FlowTimeDeskModel", "there", "[Z", false)
  | 2 => ("FlowTimeDeskModel", "times", "[I", false)
  | 3 => ("FlowTimeDeskModel", "on", "[I", false)
  | 4 => ("FlowTimeDeskModel", "allowed", "I", false)
  | 5 => ("FlowTimeDeskModel", "must", "I", false)
  | _ => ("FlowTimeDeskModel", "mustBe", "I", false)
def tyX2 : Nat → FieldType := fun k => match k with
  | 0 => .int
  | 1 => .array .boolean
  | 2 => .array .int
  | 3 => .array .int
  | 4 => .int
  | 5 => .int
  | _ => .int
abbrev wsX20 : List Cond := u_ws RX2 TX2 7
theorem nmX2 : ∀ a, a < 7 → ∀ b, b < 7 → a ≠ b → (TX2 a).2.1 ≠ (TX2 b).2.1 := by decide +kernel
theorem tyX2_ok : ∀ k, k < 7 → parseFieldDescriptor (TX2 k).2.2.1 = some (tyX2 k) := by decide +kernel
abbrev cX2_init : ByteArray := prog_3_method_1_code
def yX2_init : MethodName := ⟨RX2, "<init>", "(I)V"⟩
abbrev cX2_add : ByteArray := prog_3_method_4_code
def yX2_add : MethodName := ⟨RX2, "add", "(III)I"⟩
abbrev cX2_remove : ByteArray := prog_3_method_5_code
def yX2_remove : MethodName := ⟨RX2, "remove", "(I)Z"⟩
abbrev cX2_is : ByteArray := prog_3_method_2_code
def yX2_is : MethodName := ⟨RX2, "is", "(I)Z"⟩
abbrev cX2_setTime : ByteArray := prog_3_method_6_code
def yX2_setTime : MethodName := ⟨RX2, "setTime", "(III)Z"⟩
abbrev cX2_machine : ByteArray := prog_3_method_3_code
def yX2_machine : MethodName := ⟨RX2, "machine", "(I)Z"⟩
abbrev cX2_jobs : ByteArray := prog_3_method_7_code
def yX2_jobs : MethodName := ⟨RX2, "jobs", "()I"⟩
abbrev cX2_time : ByteArray := prog_3_method_8_code
def yX2_time : MethodName := ⟨RX2, "time", "(II)I"⟩
abbrev cX2_least : ByteArray := prog_3_method_14_code
def yX2_least : MethodName := ⟨RX2, "least", "()I"⟩
abbrev cX2_all : ByteArray := prog_3_method_13_code
def yX2_all : MethodName := ⟨RX2, "all", "()I"⟩
abbrev cX2_leastOf : ByteArray := prog_3_method_12_code
def yX2_leastOf : MethodName := ⟨RX2, "leastOf", "(III)I"⟩
abbrev cX2_way : ByteArray := prog_3_method_9_code
def yX2_way : MethodName := ⟨RX2, "way", "(I)Z"⟩
abbrev cX2_sum : ByteArray := prog_3_method_11_code
def yX2_sum : MethodName := ⟨RX2, "sum", "()I"⟩
abbrev cX2_finish : ByteArray := prog_3_method_10_code
def yX2_finish : MethodName := ⟨RX2, "finish", "(I)I"⟩
abbrev cX2_machineOf : ByteArray := prog_3_method_16_code
def yX2_machineOf : MethodName := ⟨RX2, "machineOf", "(I)I"⟩
abbrev cX2_plan : ByteArray := prog_3_method_15_code
def yX2_plan : MethodName := ⟨RX2, "plan", "()V"⟩
abbrev cX2_finishOf : ByteArray := prog_3_method_17_code
def yX2_finishOf : MethodName := ⟨RX2, "finishOf", "(I)I"⟩
abbrev cX2_leastWith : ByteArray := prog_3_method_18_code
def yX2_leastWith : MethodName := ⟨RX2, "leastWith", "(II)I"⟩
abbrev cX2_leastWithout : ByteArray := prog_3_method_19_code
def yX2_leastWithout : MethodName := ⟨RX2, "leastWithout", "(I)I"⟩
abbrev cX2_leastDoubled : ByteArray := prog_3_method_20_code
def yX2_leastDoubled : MethodName := ⟨RX2, "leastDoubled", "(I)I"⟩
abbrev cX2_leastIdle : ByteArray := prog_3_method_21_code
def yX2_leastIdle : MethodName := ⟨RX2, "leastIdle", "(I)I"⟩
abbrev cX2_mostJobs : ByteArray := prog_3_method_22_code
def yX2_mostJobs : MethodName := ⟨RX2, "mostJobs", "(I)I"⟩
theorem q22 : (Jvm.Cond.initialized "FlowTimeDeskModel") ∈ lw_all := lw_g (lw_at lw_m1 2 rfl) rfl
theorem q198 : (Jvm.Cond.instantiable "FlowTimeDeskModel" (7 : Nat)) ∈ lw_all := lw_g (lw_at lw_m1 178 rfl) rfl
theorem q200 : (Jvm.Cond.instanceMethod ({ cls := "FlowTimeDeskModel", name := "<init>", desc := "(I)V" } : Jvm.MethodName)) ∈ lw_all := lw_g (lw_at lw_m1 180 rfl) rfl
theorem q201 : (Jvm.Cond.code ({ cls := "FlowTimeDeskModel", name := "<init>", desc := "(I)V" } : Jvm.MethodName) prog_3_method_1_code (2 : Nat) (Option.none : Option Jvm.ClassFile.FieldType)) ∈ lw_all := lw_g (lw_at lw_m1 181 rfl) rfl
theorem q202 : (Jvm.Cond.methodLink "FlowTimeDeskModel" (1 : Nat) ({ cls := "java/lang/Object", name := "<init>", desc := "()V" } : Jvm.MethodName)) ∈ lw_all := lw_g (lw_at lw_m1 182 rfl) rfl
theorem q203 : (Jvm.Cond.fieldLink "FlowTimeDeskModel" (20 : Nat) "FlowTimeDeskModel" "crew" "I") ∈ lw_all := lw_g (lw_at lw_m1 183 rfl) rfl
theorem q204 : (Jvm.Cond.fieldLink "FlowTimeDeskModel" (7 : Nat) "FlowTimeDeskModel" "there" "[Z") ∈ lw_all := lw_g (lw_at lw_m1 184 rfl) rfl
theorem q205 : (Jvm.Cond.fieldLink "FlowTimeDeskModel" (13 : Nat) "FlowTimeDeskModel" "times" "[I") ∈ lw_all := lw_g (lw_at lw_m1 185 rfl) rfl
theorem q206 : (Jvm.Cond.fieldLink "FlowTimeDeskModel" (17 : Nat) "FlowTimeDeskModel" "on" "[I") ∈ lw_all := lw_g (lw_at lw_m1 186 rfl) rfl
theorem q207 : (Jvm.Cond.fieldLink "FlowTimeDeskModel" (31 : Nat) "FlowTimeDeskModel" "allowed" "I") ∈ lw_all := lw_g (lw_at lw_m1 187 rfl) rfl
theorem q208 : (Jvm.Cond.fieldLink "FlowTimeDeskModel" (34 : Nat) "FlowTimeDeskModel" "must" "I") ∈ lw_all := lw_g (lw_at lw_m1 188 rfl) rfl
theorem q209 : (Jvm.Cond.fieldLink "FlowTimeDeskModel" (37 : Nat) "FlowTimeDeskModel" "mustBe" "I") ∈ lw_all := lw_g (lw_at lw_m1 189 rfl) rfl
theorem q210 : (Jvm.Cond.lays "FlowTimeDeskModel" "FlowTimeDeskModel" "crew" "I") ∈ lw_all := lw_g (lw_at lw_m1 190 rfl) rfl
theorem q211 : (Jvm.Cond.soleField "FlowTimeDeskModel" "crew") ∈ lw_all := lw_g (lw_at lw_m1 191 rfl) rfl
theorem q212 : (Jvm.Cond.lays "FlowTimeDeskModel" "FlowTimeDeskModel" "there" "[Z") ∈ lw_all := lw_g (lw_at lw_m1 192 rfl) rfl
theorem q213 : (Jvm.Cond.soleField "FlowTimeDeskModel" "there") ∈ lw_all := lw_g (lw_at lw_m1 193 rfl) rfl
theorem q214 : (Jvm.Cond.lays "FlowTimeDeskModel" "FlowTimeDeskModel" "times" "[I") ∈ lw_all := lw_g (lw_at lw_m1 194 rfl) rfl
theorem q215 : (Jvm.Cond.soleField "FlowTimeDeskModel" "times") ∈ lw_all := lw_g (lw_at lw_m1 195 rfl) rfl
theorem q216 : (Jvm.Cond.lays "FlowTimeDeskModel" "FlowTimeDeskModel" "on" "[I") ∈ lw_all := lw_g (lw_at lw_m1 196 rfl) rfl
theorem q217 : (Jvm.Cond.soleField "FlowTimeDeskModel" "on") ∈ lw_all := lw_g (lw_at lw_m1 197 rfl) rfl
theorem q218 : (Jvm.Cond.lays "FlowTimeDeskModel" "FlowTimeDeskModel" "allowed" "I") ∈ lw_all := lw_g (lw_at lw_m1 198 rfl) rfl
theorem q219 : (Jvm.Cond.soleField "FlowTimeDeskModel" "allowed") ∈ lw_all := lw_g (lw_at lw_m1 199 rfl) rfl
theorem q220 : (Jvm.Cond.lays "FlowTimeDeskModel" "FlowTimeDeskModel" "must" "I") ∈ lw_all := lw_g (lw_at lw_m1 200 rfl) rfl
theorem q221 : (Jvm.Cond.soleField "FlowTimeDeskModel" "must") ∈ lw_all := lw_g (lw_at lw_m1 201 rfl) rfl
theorem q222 : (Jvm.Cond.lays "FlowTimeDeskModel" "FlowTimeDeskModel" "mustBe" "I") ∈ lw_all := lw_g (lw_at lw_m1 202 rfl) rfl
theorem q223 : (Jvm.Cond.soleField "FlowTimeDeskModel" "mustBe") ∈ lw_all := lw_g (lw_at lw_m1 203 rfl) rfl
theorem q224 : (Jvm.Cond.superclass "FlowTimeDeskModel" "java/lang/Object") ∈ lw_all := lw_g (lw_at lw_m1 204 rfl) rfl
theorem q226 : (Jvm.Cond.instanceMethod ({ cls := "FlowTimeDeskModel", name := "add", desc := "(III)I" } : Jvm.MethodName)) ∈ lw_all := lw_g (lw_at lw_m1 206 rfl) rfl
theorem q227 : (Jvm.Cond.selects "FlowTimeDeskModel" ({ cls := "FlowTimeDeskModel", name := "add", desc := "(III)I" } : Jvm.MethodName) ({ cls := "FlowTimeDeskModel", name := "add", desc := "(III)I" } : Jvm.MethodName)) ∈ lw_all := lw_g (lw_at lw_m1 207 rfl) rfl
theorem q228 : (Jvm.Cond.code ({ cls := "FlowTimeDeskModel", name := "add", desc := "(III)I" } : Jvm.MethodName) prog_3_method_4_code (8 : Nat) (Option.some Jvm.ClassFile.FieldType.int)) ∈ lw_all := lw_g (lw_at lw_m1 208 rfl) rfl
theorem q230 : (Jvm.Cond.instanceMethod ({ cls := "FlowTimeDeskModel", name := "remove", desc := "(I)Z" } : Jvm.MethodName)) ∈ lw_all := lw_g (lw_at lw_m1 210 rfl) rfl
theorem q231 : (Jvm.Cond.selects "FlowTimeDeskModel" ({ cls := "FlowTimeDeskModel", name := "remove", desc := "(I)Z" } : Jvm.MethodName) ({ cls := "FlowTimeDeskModel", name := "remove", desc := "(I)Z" } : Jvm.MethodName)) ∈ lw_all := lw_g (lw_at lw_m1 211 rfl) rfl
theorem q232 : (Jvm.Cond.code ({ cls := "FlowTimeDeskModel", name := "remove", desc := "(I)Z" } : Jvm.MethodName) prog_3_method_5_code (2 : Nat) (Option.some Jvm.ClassFile.FieldType.boolean)) ∈ lw_all := lw_g (lw_at lw_m1 212 rfl) rfl
theorem q233 : (Jvm.Cond.methodLink "FlowTimeDeskModel" (24 : Nat) ({ cls := "FlowTimeDeskModel", name := "is", desc := "(I)Z" } : Jvm.MethodName)) ∈ lw_all := lw_g (lw_at lw_m1 213 rfl) rfl
theorem q234 : (Jvm.Cond.privateMethod ({ cls := "FlowTimeDeskModel", name := "is", desc := "(I)Z" } : Jvm.MethodName)) ∈ lw_tbl := lw_at lw_m1 214 rfl
theorem q235 : (Jvm.Cond.instanceMethod ({ cls := "FlowTimeDeskModel", name := "is", desc := "(I)Z" } : Jvm.MethodName)) ∈ lw_all := lw_g (lw_at lw_m1 215 rfl) rfl
theorem q236 : (Jvm.Cond.code ({ cls := "FlowTimeDeskModel", name := "is", desc := "(I)Z" } : Jvm.MethodName) prog_3_method_2_code (2 : Nat) (Option.some Jvm.ClassFile.FieldType.boolean)) ∈ lw_all := lw_g (lw_at lw_m1 216 rfl) rfl
theorem q238 : (Jvm.Cond.instanceMethod ({ cls := "FlowTimeDeskModel", name := "setTime", desc := "(III)Z" } : Jvm.MethodName)) ∈ lw_all := lw_g (lw_at lw_m1 218 rfl) rfl
theorem q239 : (Jvm.Cond.selects "FlowTimeDeskModel" ({ cls := "FlowTimeDeskModel", name := "setTime", desc := "(III)Z" } : Jvm.MethodName) ({ cls := "FlowTimeDeskModel", name := "setTime", desc := "(III)Z" } : Jvm.MethodName)) ∈ lw_all := lw_g (lw_at lw_m1 219 rfl) rfl
theorem q240 : (Jvm.Cond.code ({ cls := "FlowTimeDeskModel", name := "setTime", desc := "(III)Z" } : Jvm.MethodName) prog_3_method_6_code (5 : Nat) (Option.some Jvm.ClassFile.FieldType.boolean)) ∈ lw_all := lw_g (lw_at lw_m1 220 rfl) rfl
theorem q241 : (Jvm.Cond.methodLink "FlowTimeDeskModel" (28 : Nat) ({ cls := "FlowTimeDeskModel", name := "machine", desc := "(I)Z" } : Jvm.MethodName)) ∈ lw_all := lw_g (lw_at lw_m1 221 rfl) rfl
theorem q242 : (Jvm.Cond.privateMethod ({ cls := "FlowTimeDeskModel", name := "machine", desc := "(I)Z" } : Jvm.MethodName)) ∈ lw_tbl := lw_at lw_m1 222 rfl
theorem q243 : (Jvm.Cond.instanceMethod ({ cls := "FlowTimeDeskModel", name := "machine", desc := "(I)Z" } : Jvm.MethodName)) ∈ lw_all := lw_g (lw_at lw_m1 223 rfl) rfl
theorem q244 : (Jvm.Cond.code ({ cls := "FlowTimeDeskModel", name := "machine", desc := "(I)Z" } : Jvm.MethodName) prog_3_method_3_code (2 : Nat) (Option.some Jvm.ClassFile.FieldType.boolean)) ∈ lw_all := lw_g (lw_at lw_m1 224 rfl) rfl
theorem q246 : (Jvm.Cond.instanceMethod ({ cls := "FlowTimeDeskModel", name := "jobs", desc := "()I" } : Jvm.MethodName)) ∈ lw_all := lw_g (lw_at lw_m1 226 rfl) rfl
theorem q247 : (Jvm.Cond.selects "FlowTimeDeskModel" ({ cls := "FlowTimeDeskModel", name := "jobs", desc := "()I" } : Jvm.MethodName) ({ cls := "FlowTimeDeskModel", name := "jobs", desc := "()I" } : Jvm.MethodName)) ∈ lw_all := lw_g (lw_at lw_m1 227 rfl) rfl
theorem q248 : (Jvm.Cond.code ({ cls := "FlowTimeDeskModel", name := "jobs", desc := "()I" } : Jvm.MethodName) prog_3_method_7_code (3 : Nat) (Option.some Jvm.ClassFile.FieldType.int)) ∈ lw_all := lw_g (lw_at lw_m1 228 rfl) rfl
theorem q250 : (Jvm.Cond.instanceMethod ({ cls := "FlowTimeDeskModel", name := "time", desc := "(II)I" } : Jvm.MethodName)) ∈ lw_all := lw_g (lw_at lw_m1 230 rfl) rfl
theorem q251 : (Jvm.Cond.selects "FlowTimeDeskModel" ({ cls := "FlowTimeDeskModel", name := "time", desc := "(II)I" } : Jvm.MethodName) ({ cls := "FlowTimeDeskModel", name := "time", desc := "(II)I" } : Jvm.MethodName)) ∈ lw_all := lw_g (lw_at lw_m1 231 rfl) rfl
theorem q252 : (Jvm.Cond.code ({ cls := "FlowTimeDeskModel", name := "time", desc := "(II)I" } : Jvm.MethodName) prog_3_method_8_code (3 : Nat) (Option.some Jvm.ClassFile.FieldType.int)) ∈ lw_all := lw_g (lw_at lw_m1 232 rfl) rfl
theorem q254 : (Jvm.Cond.instanceMethod ({ cls := "FlowTimeDeskModel", name := "least", desc := "()I" } : Jvm.MethodName)) ∈ lw_all := lw_g (lw_at lw_m1 234 rfl) rfl
theorem q255 : (Jvm.Cond.selects "FlowTimeDeskModel" ({ cls := "FlowTimeDeskModel", name := "least", desc := "()I" } : Jvm.MethodName) ({ cls := "FlowTimeDeskModel", name := "least", desc := "()I" } : Jvm.MethodName)) ∈ lw_all := lw_g (lw_at lw_m1 235 rfl) rfl
theorem q256 : (Jvm.Cond.code ({ cls := "FlowTimeDeskModel", name := "least", desc := "()I" } : Jvm.MethodName) prog_3_method_14_code (1 : Nat) (Option.some Jvm.ClassFile.FieldType.int)) ∈ lw_all := lw_g (lw_at lw_m1 236 rfl) rfl
theorem q257 : (Jvm.Cond.methodLink "FlowTimeDeskModel" (51 : Nat) ({ cls := "FlowTimeDeskModel", name := "all", desc := "()I" } : Jvm.MethodName)) ∈ lw_all := lw_g (lw_at lw_m1 237 rfl) rfl
theorem q258 : (Jvm.Cond.privateMethod ({ cls := "FlowTimeDeskModel", name := "all", desc := "()I" } : Jvm.MethodName)) ∈ lw_tbl := lw_at lw_m1 238 rfl
theorem q259 : (Jvm.Cond.instanceMethod ({ cls := "FlowTimeDeskModel", name := "all", desc := "()I" } : Jvm.MethodName)) ∈ lw_all := lw_g (lw_at lw_m1 239 rfl) rfl
theorem q260 : (Jvm.Cond.code ({ cls := "FlowTimeDeskModel", name := "all", desc := "()I" } : Jvm.MethodName) prog_3_method_13_code (1 : Nat) (Option.some Jvm.ClassFile.FieldType.int)) ∈ lw_all := lw_g (lw_at lw_m2 0 rfl) rfl
theorem q261 : (Jvm.Cond.methodLink "FlowTimeDeskModel" (54 : Nat) ({ cls := "FlowTimeDeskModel", name := "leastOf", desc := "(III)I" } : Jvm.MethodName)) ∈ lw_all := lw_g (lw_at lw_m2 1 rfl) rfl
theorem q262 : (Jvm.Cond.privateMethod ({ cls := "FlowTimeDeskModel", name := "leastOf", desc := "(III)I" } : Jvm.MethodName)) ∈ lw_tbl := lw_at lw_m2 2 rfl
theorem q263 : (Jvm.Cond.instanceMethod ({ cls := "FlowTimeDeskModel", name := "leastOf", desc := "(III)I" } : Jvm.MethodName)) ∈ lw_all := lw_g (lw_at lw_m2 3 rfl) rfl
theorem q264 : (Jvm.Cond.code ({ cls := "FlowTimeDeskModel", name := "leastOf", desc := "(III)I" } : Jvm.MethodName) prog_3_method_12_code (7 : Nat) (Option.some Jvm.ClassFile.FieldType.int)) ∈ lw_all := lw_g (lw_at lw_m2 4 rfl) rfl
theorem q265 : (Jvm.Cond.methodLink "FlowTimeDeskModel" (44 : Nat) ({ cls := "FlowTimeDeskModel", name := "way", desc := "(I)Z" } : Jvm.MethodName)) ∈ lw_all := lw_g (lw_at lw_m2 5 rfl) rfl
theorem q266 : (Jvm.Cond.privateMethod ({ cls := "FlowTimeDeskModel", name := "way", desc := "(I)Z" } : Jvm.MethodName)) ∈ lw_tbl := lw_at lw_m2 6 rfl
theorem q267 : (Jvm.Cond.instanceMethod ({ cls := "FlowTimeDeskModel", name := "way", desc := "(I)Z" } : Jvm.MethodName)) ∈ lw_all := lw_g (lw_at lw_m2 7 rfl) rfl
theorem q268 : (Jvm.Cond.code ({ cls := "FlowTimeDeskModel", name := "way", desc := "(I)Z" } : Jvm.MethodName) prog_3_method_9_code (5 : Nat) (Option.some Jvm.ClassFile.FieldType.boolean)) ∈ lw_all := lw_g (lw_at lw_m2 8 rfl) rfl
theorem q269 : (Jvm.Cond.methodLink "FlowTimeDeskModel" (47 : Nat) ({ cls := "FlowTimeDeskModel", name := "sum", desc := "()I" } : Jvm.MethodName)) ∈ lw_all := lw_g (lw_at lw_m2 9 rfl) rfl
theorem q270 : (Jvm.Cond.privateMethod ({ cls := "FlowTimeDeskModel", name := "sum", desc := "()I" } : Jvm.MethodName)) ∈ lw_tbl := lw_at lw_m2 10 rfl
theorem q271 : (Jvm.Cond.instanceMethod ({ cls := "FlowTimeDeskModel", name := "sum", desc := "()I" } : Jvm.MethodName)) ∈ lw_all := lw_g (lw_at lw_m2 11 rfl) rfl
theorem q272 : (Jvm.Cond.code ({ cls := "FlowTimeDeskModel", name := "sum", desc := "()I" } : Jvm.MethodName) prog_3_method_11_code (3 : Nat) (Option.some Jvm.ClassFile.FieldType.int)) ∈ lw_all := lw_g (lw_at lw_m2 12 rfl) rfl
theorem q273 : (Jvm.Cond.methodLink "FlowTimeDeskModel" (40 : Nat) ({ cls := "FlowTimeDeskModel", name := "finish", desc := "(I)I" } : Jvm.MethodName)) ∈ lw_all := lw_g (lw_at lw_m2 13 rfl) rfl
theorem q274 : (Jvm.Cond.privateMethod ({ cls := "FlowTimeDeskModel", name := "finish", desc := "(I)I" } : Jvm.MethodName)) ∈ lw_tbl := lw_at lw_m2 14 rfl
theorem q275 : (Jvm.Cond.instanceMethod ({ cls := "FlowTimeDeskModel", name := "finish", desc := "(I)I" } : Jvm.MethodName)) ∈ lw_all := lw_g (lw_at lw_m2 15 rfl) rfl
theorem q276 : (Jvm.Cond.code ({ cls := "FlowTimeDeskModel", name := "finish", desc := "(I)I" } : Jvm.MethodName) prog_3_method_10_code (7 : Nat) (Option.some Jvm.ClassFile.FieldType.int)) ∈ lw_all := lw_g (lw_at lw_m2 16 rfl) rfl
theorem q278 : (Jvm.Cond.instanceMethod ({ cls := "FlowTimeDeskModel", name := "machineOf", desc := "(I)I" } : Jvm.MethodName)) ∈ lw_all := lw_g (lw_at lw_m2 18 rfl) rfl
theorem q279 : (Jvm.Cond.selects "FlowTimeDeskModel" ({ cls := "FlowTimeDeskModel", name := "machineOf", desc := "(I)I" } : Jvm.MethodName) ({ cls := "FlowTimeDeskModel", name := "machineOf", desc := "(I)I" } : Jvm.MethodName)) ∈ lw_all := lw_g (lw_at lw_m2 19 rfl) rfl
theorem q280 : (Jvm.Cond.code ({ cls := "FlowTimeDeskModel", name := "machineOf", desc := "(I)I" } : Jvm.MethodName) prog_3_method_16_code (2 : Nat) (Option.some Jvm.ClassFile.FieldType.int)) ∈ lw_all := lw_g (lw_at lw_m2 20 rfl) rfl
theorem q281 : (Jvm.Cond.methodLink "FlowTimeDeskModel" (58 : Nat) ({ cls := "FlowTimeDeskModel", name := "plan", desc := "()V" } : Jvm.MethodName)) ∈ lw_all := lw_g (lw_at lw_m2 21 rfl) rfl
theorem q282 : (Jvm.Cond.privateMethod ({ cls := "FlowTimeDeskModel", name := "plan", desc := "()V" } : Jvm.MethodName)) ∈ lw_tbl := lw_at lw_m2 22 rfl
theorem q283 : (Jvm.Cond.instanceMethod ({ cls := "FlowTimeDeskModel", name := "plan", desc := "()V" } : Jvm.MethodName)) ∈ lw_all := lw_g (lw_at lw_m2 23 rfl) rfl
theorem q284 : (Jvm.Cond.code ({ cls := "FlowTimeDeskModel", name := "plan", desc := "()V" } : Jvm.MethodName) prog_3_method_15_code (3 : Nat) (Option.none : Option Jvm.ClassFile.FieldType)) ∈ lw_all := lw_g (lw_at lw_m2 24 rfl) rfl
theorem q286 : (Jvm.Cond.instanceMethod ({ cls := "FlowTimeDeskModel", name := "finishOf", desc := "(I)I" } : Jvm.MethodName)) ∈ lw_all := lw_g (lw_at lw_m2 26 rfl) rfl
theorem q287 : (Jvm.Cond.selects "FlowTimeDeskModel" ({ cls := "FlowTimeDeskModel", name := "finishOf", desc := "(I)I" } : Jvm.MethodName) ({ cls := "FlowTimeDeskModel", name := "finishOf", desc := "(I)I" } : Jvm.MethodName)) ∈ lw_all := lw_g (lw_at lw_m2 27 rfl) rfl
theorem q288 : (Jvm.Cond.code ({ cls := "FlowTimeDeskModel", name := "finishOf", desc := "(I)I" } : Jvm.MethodName) prog_3_method_17_code (2 : Nat) (Option.some Jvm.ClassFile.FieldType.int)) ∈ lw_all := lw_g (lw_at lw_m2 28 rfl) rfl
theorem q290 : (Jvm.Cond.instanceMethod ({ cls := "FlowTimeDeskModel", name := "leastWith", desc := "(II)I" } : Jvm.MethodName)) ∈ lw_all := lw_g (lw_at lw_m2 30 rfl) rfl
theorem q291 : (Jvm.Cond.selects "FlowTimeDeskModel" ({ cls := "FlowTimeDeskModel", name := "leastWith", desc := "(II)I" } : Jvm.MethodName) ({ cls := "FlowTimeDeskModel", name := "leastWith", desc := "(II)I" } : Jvm.MethodName)) ∈ lw_all := lw_g (lw_at lw_m2 31 rfl) rfl
theorem q292 : (Jvm.Cond.code ({ cls := "FlowTimeDeskModel", name := "leastWith", desc := "(II)I" } : Jvm.MethodName) prog_3_method_18_code (3 : Nat) (Option.some Jvm.ClassFile.FieldType.int)) ∈ lw_all := lw_g (lw_at lw_m2 32 rfl) rfl
theorem q294 : (Jvm.Cond.instanceMethod ({ cls := "FlowTimeDeskModel", name := "leastWithout", desc := "(I)I" } : Jvm.MethodName)) ∈ lw_all := lw_g (lw_at lw_m2 34 rfl) rfl
theorem q295 : (Jvm.Cond.selects "FlowTimeDeskModel" ({ cls := "FlowTimeDeskModel", name := "leastWithout", desc := "(I)I" } : Jvm.MethodName) ({ cls := "FlowTimeDeskModel", name := "leastWithout", desc := "(I)I" } : Jvm.MethodName)) ∈ lw_all := lw_g (lw_at lw_m2 35 rfl) rfl
theorem q296 : (Jvm.Cond.code ({ cls := "FlowTimeDeskModel", name := "leastWithout", desc := "(I)I" } : Jvm.MethodName) prog_3_method_19_code (3 : Nat) (Option.some Jvm.ClassFile.FieldType.int)) ∈ lw_all := lw_g (lw_at lw_m2 36 rfl) rfl
theorem q298 : (Jvm.Cond.instanceMethod ({ cls := "FlowTimeDeskModel", name := "leastDoubled", desc := "(I)I" } : Jvm.MethodName)) ∈ lw_all := lw_g (lw_at lw_m2 38 rfl) rfl
theorem q299 : (Jvm.Cond.selects "FlowTimeDeskModel" ({ cls := "FlowTimeDeskModel", name := "leastDoubled", desc := "(I)I" } : Jvm.MethodName) ({ cls := "FlowTimeDeskModel", name := "leastDoubled", desc := "(I)I" } : Jvm.MethodName)) ∈ lw_all := lw_g (lw_at lw_m2 39 rfl) rfl
theorem q300 : (Jvm.Cond.code ({ cls := "FlowTimeDeskModel", name := "leastDoubled", desc := "(I)I" } : Jvm.MethodName) prog_3_method_20_code (3 : Nat) (Option.some Jvm.ClassFile.FieldType.int)) ∈ lw_all := lw_g (lw_at lw_m2 40 rfl) rfl
theorem q302 : (Jvm.Cond.instanceMethod ({ cls := "FlowTimeDeskModel", name := "leastIdle", desc := "(I)I" } : Jvm.MethodName)) ∈ lw_all := lw_g (lw_at lw_m2 42 rfl) rfl
theorem q303 : (Jvm.Cond.selects "FlowTimeDeskModel" ({ cls := "FlowTimeDeskModel", name := "leastIdle", desc := "(I)I" } : Jvm.MethodName) ({ cls := "FlowTimeDeskModel", name := "leastIdle", desc := "(I)I" } : Jvm.MethodName)) ∈ lw_all := lw_g (lw_at lw_m2 43 rfl) rfl
theorem q304 : (Jvm.Cond.code ({ cls := "FlowTimeDeskModel", name := "leastIdle", desc := "(I)I" } : Jvm.MethodName) prog_3_method_21_code (2 : Nat) (Option.some Jvm.ClassFile.FieldType.int)) ∈ lw_all := lw_g (lw_at lw_m2 44 rfl) rfl
theorem q306 : (Jvm.Cond.instanceMethod ({ cls := "FlowTimeDeskModel", name := "mostJobs", desc := "(I)I" } : Jvm.MethodName)) ∈ lw_all := lw_g (lw_at lw_m2 46 rfl) rfl
theorem q307 : (Jvm.Cond.selects "FlowTimeDeskModel" ({ cls := "FlowTimeDeskModel", name := "mostJobs", desc := "(I)I" } : Jvm.MethodName) ({ cls := "FlowTimeDeskModel", name := "mostJobs", desc := "(I)I" } : Jvm.MethodName)) ∈ lw_all := lw_g (lw_at lw_m2 47 rfl) rfl
theorem q308 : (Jvm.Cond.code ({ cls := "FlowTimeDeskModel", name := "mostJobs", desc := "(I)I" } : Jvm.MethodName) prog_3_method_22_code (7 : Nat) (Option.some Jvm.ClassFile.FieldType.int)) ∈ lw_all := lw_g (lw_at lw_m2 48 rfl) rfl
theorem in_X2 : ∀ w ∈ wsX20, w ∈ lw_all := lw_in wsX20 [210, 212, 214, 216, 218, 220, 222] (by decide +kernel) (by decide +kernel)
/-! the law's own entry -/
abbrev cL_law : ByteArray := code
abbrev vwCl : List vw_C := [(RX1, TX1, 18), (RX2, TX2, 7)]
end
end
section
section
set_option maxRecDepth 100000
theorem dJ0_init_0 : decode cJ0_init 0 = .ok (.return_, 1) := by decide +kernel
theorem dX0_cell_0 : decode cX0_cell 0 = .ok (.iload_n 1, 1) := by decide +kernel
theorem dX0_cell_1 : decode cX0_cell 1 = .ok (.aload_n 0, 1) := by decide +kernel
theorem dX0_cell_2 : decode cX0_cell 2 = .ok (.arraylength, 1) := by decide +kernel
theorem dX0_cell_3 : decode cX0_cell 3 = .ok (.if_icmp .ge 9, 3) := by decide +kernel
theorem dX0_cell_6 : decode cX0_cell 6 = .ok (.aload_n 0, 1) := by decide +kernel
theorem dX0_cell_7 : decode cX0_cell 7 = .ok (.iload_n 1, 1) := by decide +kernel
theorem dX0_cell_8 : decode cX0_cell 8 = .ok (.iaload, 1) := by decide +kernel
theorem dX0_cell_9 : decode cX0_cell 9 = .ok (.goto 4, 3) := by decide +kernel
theorem dX0_cell_12 : decode cX0_cell 12 = .ok (.iconst 0, 1) := by decide +kernel
theorem dX0_cell_13 : decode cX0_cell 13 = .ok (.ireturn, 1) := by decide +kernel
theorem dX1_init_0 : decode cX1_init 0 = .ok (.aload_n 0, 1) := by decide +kernel
theorem dX1_init_1 : decode cX1_init 1 = .ok (.invokespecial 1, 3) := by decide +kernel
theorem dX1_init_4 : decode cX1_init 4 = .ok (.aload_n 0, 1) := by decide +kernel
theorem dX1_init_5 : decode cX1_init 5 = .ok (.bipush 15, 2) := by decide +kernel
theorem dX1_init_7 : decode cX1_init 7 = .ok (.newarray .byte, 2) := by decide +kernel
theorem dX1_init_9 : decode cX1_init 9 = .ok (.putfield 7, 3) := by decide +kernel
theorem dX1_init_12 : decode cX1_init 12 = .ok (.aload_n 0, 1) := by decide +kernel
theorem dX1_init_13 : decode cX1_init 13 = .ok (.iconst 5, 1) := by decide +kernel
theorem dX1_init_14 : decode cX1_init 14 = .ok (.newarray .byte, 2) := by decide +kernel
theorem dX1_init_16 : decode cX1_init 16 = .ok (.putfield 13, 3) := by decide +kernel
theorem dX1_init_19 : decode cX1_init 19 = .ok (.aload_n 0, 1) := by decide +kernel
theorem dX1_init_20 : decode cX1_init 20 = .ok (.bipush 6, 2) := by decide +kernel
theorem dX1_init_22 : decode cX1_init 22 = .ok (.newarray .byte, 2) := by decide +kernel
theorem dX1_init_24 : decode cX1_init 24 = .ok (.putfield 16, 3) := by decide +kernel
theorem dX1_init_27 : decode cX1_init 27 = .ok (.aload_n 0, 1) := by decide +kernel
theorem dX1_init_28 : decode cX1_init 28 = .ok (.bipush 6, 2) := by decide +kernel
theorem dX1_init_30 : decode cX1_init 30 = .ok (.newarray .int, 2) := by decide +kernel
theorem dX1_init_32 : decode cX1_init 32 = .ok (.putfield 19, 3) := by decide +kernel
theorem dX1_init_35 : decode cX1_init 35 = .ok (.aload_n 0, 1) := by decide +kernel
theorem dX1_init_36 : decode cX1_init 36 = .ok (.bipush 24, 2) := by decide +kernel
theorem dX1_init_38 : decode cX1_init 38 = .ok (.newarray .int, 2) := by decide +kernel
theorem dX1_init_40 : decode cX1_init 40 = .ok (.putfield 23, 3) := by decide +kernel
theorem dX1_init_43 : decode cX1_init 43 = .ok (.aload_n 0, 1) := by decide +kernel
theorem dX1_init_44 : decode cX1_init 44 = .ok (.bipush 24, 2) := by decide +kernel
theorem dX1_init_46 : decode cX1_init 46 = .ok (.newarray .byte, 2) := by decide +kernel
theorem dX1_init_48 : decode cX1_init 48 = .ok (.putfield 26, 3) := by decide +kernel
theorem dX1_init_51 : decode cX1_init 51 = .ok (.aload_n 0, 1) := by decide +kernel
theorem dX1_init_52 : decode cX1_init 52 = .ok (.bipush 24, 2) := by decide +kernel
theorem dX1_init_54 : decode cX1_init 54 = .ok (.newarray .byte, 2) := by decide +kernel
theorem dX1_init_56 : decode cX1_init 56 = .ok (.putfield 29, 3) := by decide +kernel
theorem dX1_init_59 : decode cX1_init 59 = .ok (.aload_n 0, 1) := by decide +kernel
theorem dX1_init_60 : decode cX1_init 60 = .ok (.bipush 24, 2) := by decide +kernel
theorem dX1_init_62 : decode cX1_init 62 = .ok (.newarray .int, 2) := by decide +kernel
theorem dX1_init_64 : decode cX1_init 64 = .ok (.putfield 32, 3) := by decide +kernel
theorem dX1_init_67 : decode cX1_init 67 = .ok (.aload_n 0, 1) := by decide +kernel
theorem dX1_init_68 : decode cX1_init 68 = .ok (.bipush 24, 2) := by decide +kernel
theorem dX1_init_70 : decode cX1_init 70 = .ok (.newarray .boolean, 2) := by decide +kernel
theorem dX1_init_72 : decode cX1_init 72 = .ok (.putfield 35, 3) := by decide +kernel
theorem dX1_init_75 : decode cX1_init 75 = .ok (.aload_n 0, 1) := by decide +kernel
theorem dX1_init_76 : decode cX1_init 76 = .ok (.iconst 5, 1) := by decide +kernel
theorem dX1_init_77 : decode cX1_init 77 = .ok (.newarray .byte, 2) := by decide +kernel
theorem dX1_init_79 : decode cX1_init 79 = .ok (.putfield 39, 3) := by decide +kernel
theorem dX1_init_82 : decode cX1_init 82 = .ok (.aload_n 0, 1) := by decide +kernel
theorem dX1_init_83 : decode cX1_init 83 = .ok (.iload_n 1, 1) := by decide +kernel
theorem dX1_init_84 : decode cX1_init 84 = .ok (.iconst 1, 1) := by decide +kernel
theorem dX1_init_85 : decode cX1_init 85 = .ok (.if_icmp .ge 7, 3) := by decide +kernel
theorem dX1_init_88 : decode cX1_init 88 = .ok (.iconst 1, 1) := by decide +kernel
theorem dX1_init_89 : decode cX1_init 89 = .ok (.goto 13, 3) := by decide +kernel
theorem dX1_init_92 : decode cX1_init 92 = .ok (.iload_n 1, 1) := by decide +kernel
theorem dX1_init_93 : decode cX1_init 93 = .ok (.iconst 3, 1) := by decide +kernel
theorem dX1_init_94 : decode cX1_init 94 = .ok (.if_icmp .le 7, 3) := by decide +kernel
theorem dX1_init_97 : decode cX1_init 97 = .ok (.iconst 3, 1) := by decide +kernel
theorem dX1_init_98 : decode cX1_init 98 = .ok (.goto 4, 3) := by decide +kernel
theorem dX1_init_101 : decode cX1_init 101 = .ok (.iload_n 1, 1) := by decide +kernel
theorem dX1_init_102 : decode cX1_init 102 = .ok (.putfield 42, 3) := by decide +kernel
theorem dX1_init_105 : decode cX1_init 105 = .ok (.return_, 1) := by decide +kernel
theorem dX1_add_0 : decode cX1_add 0 = .ok (.aload_n 0, 1) := by decide +kernel
theorem dX1_add_1 : decode cX1_add 1 = .ok (.getfield 42, 3) := by decide +kernel
theorem dX1_add_4 : decode cX1_add 4 = .ok (.iconst 1, 1) := by decide +kernel
theorem dX1_add_5 : decode cX1_add 5 = .ok (.if_icmp .le 7, 3) := by decide +kernel
theorem dX1_add_8 : decode cX1_add 8 = .ok (.iload_n 2, 1) := by decide +kernel
theorem dX1_add_9 : decode cX1_add 9 = .ok (.goto 4, 3) := by decide +kernel
theorem dX1_add_12 : decode cX1_add 12 = .ok (.iconst 0, 1) := by decide +kernel
theorem dX1_add_13 : decode cX1_add 13 = .ok (.istore 4, 2) := by decide +kernel
theorem dX1_add_15 : decode cX1_add 15 = .ok (.aload_n 0, 1) := by decide +kernel
theorem dX1_add_16 : decode cX1_add 16 = .ok (.getfield 42, 3) := by decide +kernel
theorem dX1_add_19 : decode cX1_add 19 = .ok (.iconst 2, 1) := by decide +kernel
theorem dX1_add_20 : decode cX1_add 20 = .ok (.if_icmp .le 7, 3) := by decide +kernel
theorem dX1_add_23 : decode cX1_add 23 = .ok (.iload_n 3, 1) := by decide +kernel
theorem dX1_add_24 : decode cX1_add 24 = .ok (.goto 4, 3) := by decide +kernel
theorem dX1_add_27 : decode cX1_add 27 = .ok (.iconst 0, 1) := by decide +kernel
theorem dX1_add_28 : decode cX1_add 28 = .ok (.istore 5, 2) := by decide +kernel
theorem dX1_add_30 : decode cX1_add 30 = .ok (.iload_n 1, 1) := by decide +kernel
theorem dX1_add_31 : decode cX1_add 31 = .ok (.invokestatic 49, 3) := by decide +kernel
theorem dX1_add_34 : decode cX1_add 34 = .ok (.ifCond .eq 29, 3) := by decide +kernel
theorem dX1_add_37 : decode cX1_add 37 = .ok (.iload 4, 2) := by decide +kernel
theorem dX1_add_39 : decode cX1_add 39 = .ok (.invokestatic 49, 3) := by decide +kernel
theorem dX1_add_42 : decode cX1_add 42 = .ok (.ifCond .eq 21, 3) := by decide +kernel
theorem dX1_add_45 : decode cX1_add 45 = .ok (.iload 5, 2) := by decide +kernel
theorem dX1_add_47 : decode cX1_add 47 = .ok (.invokestatic 49, 3) := by decide +kernel
theorem dX1_add_50 : decode cX1_add 50 = .ok (.ifCond .eq 13, 3) := by decide +kernel
theorem dX1_add_53 : decode cX1_add 53 = .ok (.iload_n 1, 1) := by decide +kernel
theorem dX1_add_54 : decode cX1_add 54 = .ok (.iload 4, 2) := by decide +kernel
theorem dX1_add_56 : decode cX1_add 56 = .ok (.ior, 1) := by decide +kernel
theorem dX1_add_57 : decode cX1_add 57 = .ok (.iload 5, 2) := by decide +kernel
theorem dX1_add_59 : decode cX1_add 59 = .ok (.ior, 1) := by decide +kernel
theorem dX1_add_60 : decode cX1_add 60 = .ok (.ifCond .ne 5, 3) := by decide +kernel
theorem dX1_add_63 : decode cX1_add 63 = .ok (.iconst (-1), 1) := by decide +kernel
theorem dX1_add_64 : decode cX1_add 64 = .ok (.ireturn, 1) := by decide +kernel
theorem dX1_add_65 : decode cX1_add 65 = .ok (.iconst 0, 1) := by decide +kernel
theorem dX1_add_66 : decode cX1_add 66 = .ok (.istore 6, 2) := by decide +kernel
theorem dX1_add_68 : decode cX1_add 68 = .ok (.iload 6, 2) := by decide +kernel
theorem dX1_add_70 : decode cX1_add 70 = .ok (.iconst 5, 1) := by decide +kernel
theorem dX1_add_71 : decode cX1_add 71 = .ok (.if_icmp .ge 78, 3) := by decide +kernel
theorem dX1_add_74 : decode cX1_add 74 = .ok (.aload_n 0, 1) := by decide +kernel
theorem dX1_add_75 : decode cX1_add 75 = .ok (.iload 6, 2) := by decide +kernel
theorem dX1_add_77 : decode cX1_add 77 = .ok (.invokevirtual 53, 3) := by decide +kernel
theorem dX1_add_80 : decode cX1_add 80 = .ok (.ifCond .ne 63, 3) := by decide +kernel
theorem dX1_add_83 : decode cX1_add 83 = .ok (.aload_n 0, 1) := by decide +kernel
theorem dX1_add_84 : decode cX1_add 84 = .ok (.dup, 1) := by decide +kernel
theorem dX1_add_85 : decode cX1_add 85 = .ok (.getfield 46, 3) := by decide +kernel
theorem dX1_add_88 : decode cX1_add 88 = .ok (.iconst 1, 1) := by decide +kernel
theorem dX1_add_89 : decode cX1_add 89 = .ok (.iload 6, 2) := by decide +kernel
theorem dX1_add_91 : decode cX1_add 91 = .ok (.ishl, 1) := by decide +kernel
theorem dX1_add_92 : decode cX1_add 92 = .ok (.ior, 1) := by decide +kernel
theorem dX1_add_93 : decode cX1_add 93 = .ok (.putfield 46, 3) := by decide +kernel
theorem dX1_add_96 : decode cX1_add 96 = .ok (.aload_n 0, 1) := by decide +kernel
theorem dX1_add_97 : decode cX1_add 97 = .ok (.getfield 7, 3) := by decide +kernel
theorem dX1_add_100 : decode cX1_add 100 = .ok (.iload 6, 2) := by decide +kernel
theorem dX1_add_102 : decode cX1_add 102 = .ok (.iconst 3, 1) := by decide +kernel
theorem dX1_add_103 : decode cX1_add 103 = .ok (.imul, 1) := by decide +kernel
theorem dX1_add_104 : decode cX1_add 104 = .ok (.iload_n 1, 1) := by decide +kernel
theorem dX1_add_105 : decode cX1_add 105 = .ok (.i2b, 1) := by decide +kernel
theorem dX1_add_106 : decode cX1_add 106 = .ok (.bastore, 1) := by decide +kernel
theorem dX1_add_107 : decode cX1_add 107 = .ok (.aload_n 0, 1) := by decide +kernel
theorem dX1_add_108 : decode cX1_add 108 = .ok (.getfield 7, 3) := by decide +kernel
theorem dX1_add_111 : decode cX1_add 111 = .ok (.iload 6, 2) := by decide +kernel
theorem dX1_add_113 : decode cX1_add 113 = .ok (.iconst 3, 1) := by decide +kernel
theorem dX1_add_114 : decode cX1_add 114 = .ok (.imul, 1) := by decide +kernel
theorem dX1_add_115 : decode cX1_add 115 = .ok (.iconst 1, 1) := by decide +kernel
theorem dX1_add_116 : decode cX1_add 116 = .ok (.iadd, 1) := by decide +kernel
theorem dX1_add_117 : decode cX1_add 117 = .ok (.iload 4, 2) := by decide +kernel
theorem dX1_add_119 : decode cX1_add 119 = .ok (.i2b, 1) := by decide +kernel
theorem dX1_add_120 : decode cX1_add 120 = .ok (.bastore, 1) := by decide +kernel
theorem dX1_add_121 : decode cX1_add 121 = .ok (.aload_n 0, 1) := by decide +kernel
theorem dX1_add_122 : decode cX1_add 122 = .ok (.getfield 7, 3) := by decide +kernel
theorem dX1_add_125 : decode cX1_add 125 = .ok (.iload 6, 2) := by decide +kernel
theorem dX1_add_127 : decode cX1_add 127 = .ok (.iconst 3, 1) := by decide +kernel
theorem dX1_add_128 : decode cX1_add 128 = .ok (.imul, 1) := by decide +kernel
theorem dX1_add_129 : decode cX1_add 129 = .ok (.iconst 2, 1) := by decide +kernel
theorem dX1_add_130 : decode cX1_add 130 = .ok (.iadd, 1) := by decide +kernel
theorem dX1_add_131 : decode cX1_add 131 = .ok (.iload 5, 2) := by decide +kernel
theorem dX1_add_133 : decode cX1_add 133 = .ok (.i2b, 1) := by decide +kernel
theorem dX1_add_134 : decode cX1_add 134 = .ok (.bastore, 1) := by decide +kernel
theorem dX1_add_135 : decode cX1_add 135 = .ok (.aload_n 0, 1) := by decide +kernel
theorem dX1_add_136 : decode cX1_add 136 = .ok (.iconst 0, 1) := by decide +kernel
theorem dX1_add_137 : decode cX1_add 137 = .ok (.putfield 56, 3) := by decide +kernel
theorem dX1_add_140 : decode cX1_add 140 = .ok (.iload 6, 2) := by decide +kernel
theorem dX1_add_142 : decode cX1_add 142 = .ok (.ireturn, 1) := by decide +kernel
theorem dX1_add_143 : decode cX1_add 143 = .ok (.iinc 6 1, 3) := by decide +kernel
theorem dX1_add_146 : decode cX1_add 146 = .ok (.goto (-78), 3) := by decide +kernel
theorem dX1_add_149 : decode cX1_add 149 = .ok (.bipush (-2), 2) := by decide +kernel
theorem dX1_add_151 : decode cX1_add 151 = .ok (.ireturn, 1) := by decide +kernel
theorem dX1_isTime_0 : decode cX1_isTime 0 = .ok (.iload_n 0, 1) := by decide +kernel
theorem dX1_isTime_1 : decode cX1_isTime 1 = .ok (.ifCond .lt 13, 3) := by decide +kernel
theorem dX1_isTime_4 : decode cX1_isTime 4 = .ok (.iload_n 0, 1) := by decide +kernel
theorem dX1_isTime_5 : decode cX1_isTime 5 = .ok (.bipush 15, 2) := by decide +kernel
theorem dX1_isTime_7 : decode cX1_isTime 7 = .ok (.if_icmp .gt 7, 3) := by decide +kernel
theorem dX1_isTime_10 : decode cX1_isTime 10 = .ok (.iconst 1, 1) := by decide +kernel
theorem dX1_isTime_11 : decode cX1_isTime 11 = .ok (.goto 4, 3) := by decide +kernel
theorem dX1_isTime_14 : decode cX1_isTime 14 = .ok (.iconst 0, 1) := by decide +kernel
theorem dX1_isTime_15 : decode cX1_isTime 15 = .ok (.ireturn, 1) := by decide +kernel
theorem dX1_has_0 : decode cX1_has 0 = .ok (.iload_n 1, 1) := by decide +kernel
theorem dX1_has_1 : decode cX1_has 1 = .ok (.ifCond .lt 23, 3) := by decide +kernel
theorem dX1_has_4 : decode cX1_has 4 = .ok (.iload_n 1, 1) := by decide +kernel
theorem dX1_has_5 : decode cX1_has 5 = .ok (.iconst 5, 1) := by decide +kernel
theorem dX1_has_6 : decode cX1_has 6 = .ok (.if_icmp .ge 18, 3) := by decide +kernel
theorem dX1_has_9 : decode cX1_has 9 = .ok (.aload_n 0, 1) := by decide +kernel
theorem dX1_has_10 : decode cX1_has 10 = .ok (.getfield 46, 3) := by decide +kernel
theorem dX1_has_13 : decode cX1_has 13 = .ok (.iload_n 1, 1) := by decide +kernel
theorem dX1_has_14 : decode cX1_has 14 = .ok (.ishr, 1) := by decide +kernel
theorem dX1_has_15 : decode cX1_has 15 = .ok (.iconst 1, 1) := by decide +kernel
theorem dX1_has_16 : decode cX1_has 16 = .ok (.iand, 1) := by decide +kernel
theorem dX1_has_17 : decode cX1_has 17 = .ok (.ifCond .eq 7, 3) := by decide +kernel
theorem dX1_has_20 : decode cX1_has 20 = .ok (.iconst 1, 1) := by decide +kernel
theorem dX1_has_21 : decode cX1_has 21 = .ok (.goto 4, 3) := by decide +kernel
theorem dX1_has_24 : decode cX1_has 24 = .ok (.iconst 0, 1) := by decide +kernel
theorem dX1_has_25 : decode cX1_has 25 = .ok (.ireturn, 1) := by decide +kernel
theorem dX1_remove_0 : decode cX1_remove 0 = .ok (.aload_n 0, 1) := by decide +kernel
theorem dX1_remove_1 : decode cX1_remove 1 = .ok (.iload_n 1, 1) := by decide +kernel
theorem dX1_remove_2 : decode cX1_remove 2 = .ok (.invokevirtual 53, 3) := by decide +kernel
theorem dX1_remove_5 : decode cX1_remove 5 = .ok (.ifCond .ne 5, 3) := by decide +kernel
theorem dX1_remove_8 : decode cX1_remove 8 = .ok (.iconst 0, 1) := by decide +kernel
theorem dX1_remove_9 : decode cX1_remove 9 = .ok (.ireturn, 1) := by decide +kernel
theorem dX1_remove_10 : decode cX1_remove 10 = .ok (.aload_n 0, 1) := by decide +kernel
theorem dX1_remove_11 : decode cX1_remove 11 = .ok (.dup, 1) := by decide +kernel
theorem dX1_remove_12 : decode cX1_remove 12 = .ok (.getfield 46, 3) := by decide +kernel
theorem dX1_remove_15 : decode cX1_remove 15 = .ok (.iconst 1, 1) := by decide +kernel
theorem dX1_remove_16 : decode cX1_remove 16 = .ok (.iload_n 1, 1) := by decide +kernel
theorem dX1_remove_17 : decode cX1_remove 17 = .ok (.ishl, 1) := by decide +kernel
theorem dX1_remove_18 : decode cX1_remove 18 = .ok (.iconst (-1), 1) := by decide +kernel
theorem dX1_remove_19 : decode cX1_remove 19 = .ok (.ixor, 1) := by decide +kernel
theorem dX1_remove_20 : decode cX1_remove 20 = .ok (.iand, 1) := by decide +kernel
theorem dX1_remove_21 : decode cX1_remove 21 = .ok (.putfield 46, 3) := by decide +kernel
theorem dX1_remove_24 : decode cX1_remove 24 = .ok (.aload_n 0, 1) := by decide +kernel
theorem dX1_remove_25 : decode cX1_remove 25 = .ok (.iconst 0, 1) := by decide +kernel
theorem dX1_remove_26 : decode cX1_remove 26 = .ok (.putfield 56, 3) := by decide +kernel
theorem dX1_remove_29 : decode cX1_remove 29 = .ok (.iconst 1, 1) := by decide +kernel
theorem dX1_remove_30 : decode cX1_remove 30 = .ok (.ireturn, 1) := by decide +kernel
theorem dX1_setTime_0 : decode cX1_setTime 0 = .ok (.aload_n 0, 1) := by decide +kernel
theorem dX1_setTime_1 : decode cX1_setTime 1 = .ok (.iload_n 1, 1) := by decide +kernel
theorem dX1_setTime_2 : decode cX1_setTime 2 = .ok (.invokevirtual 53, 3) := by decide +kernel
theorem dX1_setTime_5 : decode cX1_setTime 5 = .ok (.ifCond .eq 18, 3) := by decide +kernel
theorem dX1_setTime_8 : decode cX1_setTime 8 = .ok (.aload_n 0, 1) := by decide +kernel
theorem dX1_setTime_9 : decode cX1_setTime 9 = .ok (.iload_n 2, 1) := by decide +kernel
theorem dX1_setTime_10 : decode cX1_setTime 10 = .ok (.invokevirtual 60, 3) := by decide +kernel
theorem dX1_setTime_13 : decode cX1_setTime 13 = .ok (.ifCond .eq 10, 3) := by decide +kernel
theorem dX1_setTime_16 : decode cX1_setTime 16 = .ok (.iload_n 3, 1) := by decide +kernel
theorem dX1_setTime_17 : decode cX1_setTime 17 = .ok (.invokestatic 49, 3) := by decide +kernel
theorem dX1_setTime_20 : decode cX1_setTime 20 = .ok (.ifCond .ne 5, 3) := by decide +kernel
theorem dX1_setTime_23 : decode cX1_setTime 23 = .ok (.iconst 0, 1) := by decide +kernel
theorem dX1_setTime_24 : decode cX1_setTime 24 = .ok (.ireturn, 1) := by decide +kernel
theorem dX1_setTime_25 : decode cX1_setTime 25 = .ok (.aload_n 0, 1) := by decide +kernel
theorem dX1_setTime_26 : decode cX1_setTime 26 = .ok (.getfield 7, 3) := by decide +kernel
theorem dX1_setTime_29 : decode cX1_setTime 29 = .ok (.iload_n 1, 1) := by decide +kernel
theorem dX1_setTime_30 : decode cX1_setTime 30 = .ok (.iconst 3, 1) := by decide +kernel
theorem dX1_setTime_31 : decode cX1_setTime 31 = .ok (.imul, 1) := by decide +kernel
theorem dX1_setTime_32 : decode cX1_setTime 32 = .ok (.iload_n 2, 1) := by decide +kernel
theorem dX1_setTime_33 : decode cX1_setTime 33 = .ok (.iadd, 1) := by decide +kernel
theorem dX1_setTime_34 : decode cX1_setTime 34 = .ok (.baload, 1) := by decide +kernel
theorem dX1_setTime_35 : decode cX1_setTime 35 = .ok (.istore 4, 2) := by decide +kernel
theorem dX1_setTime_37 : decode cX1_setTime 37 = .ok (.aload_n 0, 1) := by decide +kernel
theorem dX1_setTime_38 : decode cX1_setTime 38 = .ok (.getfield 7, 3) := by decide +kernel
theorem dX1_setTime_41 : decode cX1_setTime 41 = .ok (.iload_n 1, 1) := by decide +kernel
theorem dX1_setTime_42 : decode cX1_setTime 42 = .ok (.iconst 3, 1) := by decide +kernel
theorem dX1_setTime_43 : decode cX1_setTime 43 = .ok (.imul, 1) := by decide +kernel
theorem dX1_setTime_44 : decode cX1_setTime 44 = .ok (.iload_n 2, 1) := by decide +kernel
theorem dX1_setTime_45 : decode cX1_setTime 45 = .ok (.iadd, 1) := by decide +kernel
theorem dX1_setTime_46 : decode cX1_setTime 46 = .ok (.iload_n 3, 1) := by decide +kernel
theorem dX1_setTime_47 : decode cX1_setTime 47 = .ok (.i2b, 1) := by decide +kernel
theorem dX1_setTime_48 : decode cX1_setTime 48 = .ok (.bastore, 1) := by decide +kernel
theorem dX1_setTime_49 : decode cX1_setTime 49 = .ok (.aload_n 0, 1) := by decide +kernel
theorem dX1_setTime_50 : decode cX1_setTime 50 = .ok (.iload_n 1, 1) := by decide +kernel
theorem dX1_setTime_51 : decode cX1_setTime 51 = .ok (.invokevirtual 63, 3) := by decide +kernel
theorem dX1_setTime_54 : decode cX1_setTime 54 = .ok (.ifCond .ne 18, 3) := by decide +kernel
theorem dX1_setTime_57 : decode cX1_setTime 57 = .ok (.aload_n 0, 1) := by decide +kernel
theorem dX1_setTime_58 : decode cX1_setTime 58 = .ok (.getfield 7, 3) := by decide +kernel
theorem dX1_setTime_61 : decode cX1_setTime 61 = .ok (.iload_n 1, 1) := by decide +kernel
theorem dX1_setTime_62 : decode cX1_setTime 62 = .ok (.iconst 3, 1) := by decide +kernel
theorem dX1_setTime_63 : decode cX1_setTime 63 = .ok (.imul, 1) := by decide +kernel
theorem dX1_setTime_64 : decode cX1_setTime 64 = .ok (.iload_n 2, 1) := by decide +kernel
theorem dX1_setTime_65 : decode cX1_setTime 65 = .ok (.iadd, 1) := by decide +kernel
theorem dX1_setTime_66 : decode cX1_setTime 66 = .ok (.iload 4, 2) := by decide +kernel
theorem dX1_setTime_68 : decode cX1_setTime 68 = .ok (.i2b, 1) := by decide +kernel
theorem dX1_setTime_69 : decode cX1_setTime 69 = .ok (.bastore, 1) := by decide +kernel
theorem dX1_setTime_70 : decode cX1_setTime 70 = .ok (.iconst 0, 1) := by decide +kernel
theorem dX1_setTime_71 : decode cX1_setTime 71 = .ok (.ireturn, 1) := by decide +kernel
theorem dX1_setTime_72 : decode cX1_setTime 72 = .ok (.aload_n 0, 1) := by decide +kernel
theorem dX1_setTime_73 : decode cX1_setTime 73 = .ok (.iconst 0, 1) := by decide +kernel
theorem dX1_setTime_74 : decode cX1_setTime 74 = .ok (.putfield 56, 3) := by decide +kernel
theorem dX1_setTime_77 : decode cX1_setTime 77 = .ok (.iconst 1, 1) := by decide +kernel
theorem dX1_setTime_78 : decode cX1_setTime 78 = .ok (.ireturn, 1) := by decide +kernel
theorem dX1_isMachine_0 : decode cX1_isMachine 0 = .ok (.iload_n 1, 1) := by decide +kernel
theorem dX1_isMachine_1 : decode cX1_isMachine 1 = .ok (.ifCond .lt 15, 3) := by decide +kernel
theorem dX1_isMachine_4 : decode cX1_isMachine 4 = .ok (.iload_n 1, 1) := by decide +kernel
theorem dX1_isMachine_5 : decode cX1_isMachine 5 = .ok (.aload_n 0, 1) := by decide +kernel
theorem dX1_isMachine_6 : decode cX1_isMachine 6 = .ok (.getfield 42, 3) := by decide +kernel
theorem dX1_isMachine_9 : decode cX1_isMachine 9 = .ok (.if_icmp .ge 7, 3) := by decide +kernel
theorem dX1_isMachine_12 : decode cX1_isMachine 12 = .ok (.iconst 1, 1) := by decide +kernel
theorem dX1_isMachine_13 : decode cX1_isMachine 13 = .ok (.goto 4, 3) := by decide +kernel
theorem dX1_isMachine_16 : decode cX1_isMachine 16 = .ok (.iconst 0, 1) := by decide +kernel
theorem dX1_isMachine_17 : decode cX1_isMachine 17 = .ok (.ireturn, 1) := by decide +kernel
theorem dX1_able_0 : decode cX1_able 0 = .ok (.iconst 0, 1) := by decide +kernel
theorem dX1_able_1 : decode cX1_able 1 = .ok (.istore_n 2, 1) := by decide +kernel
theorem dX1_able_2 : decode cX1_able 2 = .ok (.iconst 0, 1) := by decide +kernel
theorem dX1_able_3 : decode cX1_able 3 = .ok (.istore_n 3, 1) := by decide +kernel
theorem dX1_able_4 : decode cX1_able 4 = .ok (.iload_n 3, 1) := by decide +kernel
theorem dX1_able_5 : decode cX1_able 5 = .ok (.aload_n 0, 1) := by decide +kernel
theorem dX1_able_6 : decode cX1_able 6 = .ok (.getfield 42, 3) := by decide +kernel
theorem dX1_able_9 : decode cX1_able 9 = .ok (.if_icmp .ge 28, 3) := by decide +kernel
theorem dX1_able_12 : decode cX1_able 12 = .ok (.aload_n 0, 1) := by decide +kernel
theorem dX1_able_13 : decode cX1_able 13 = .ok (.getfield 7, 3) := by decide +kernel
theorem dX1_able_16 : decode cX1_able 16 = .ok (.iload_n 1, 1) := by decide +kernel
theorem dX1_able_17 : decode cX1_able 17 = .ok (.iconst 3, 1) := by decide +kernel
theorem dX1_able_18 : decode cX1_able 18 = .ok (.imul, 1) := by decide +kernel
theorem dX1_able_19 : decode cX1_able 19 = .ok (.iload_n 3, 1) := by decide +kernel
theorem dX1_able_20 : decode cX1_able 20 = .ok (.iadd, 1) := by decide +kernel
theorem dX1_able_21 : decode cX1_able 21 = .ok (.baload, 1) := by decide +kernel
theorem dX1_able_22 : decode cX1_able 22 = .ok (.ifCond .le 9, 3) := by decide +kernel
theorem dX1_able_25 : decode cX1_able 25 = .ok (.iload_n 2, 1) := by decide +kernel
theorem dX1_able_26 : decode cX1_able 26 = .ok (.iconst 1, 1) := by decide +kernel
theorem dX1_able_27 : decode cX1_able 27 = .ok (.iload_n 3, 1) := by decide +kernel
theorem dX1_able_28 : decode cX1_able 28 = .ok (.ishl, 1) := by decide +kernel
theorem dX1_able_29 : decode cX1_able 29 = .ok (.ior, 1) := by decide +kernel
theorem dX1_able_30 : decode cX1_able 30 = .ok (.istore_n 2, 1) := by decide +kernel
theorem dX1_able_31 : decode cX1_able 31 = .ok (.iinc 3 1, 3) := by decide +kernel
theorem dX1_able_34 : decode cX1_able 34 = .ok (.goto (-30), 3) := by decide +kernel
theorem dX1_able_37 : decode cX1_able 37 = .ok (.iload_n 2, 1) := by decide +kernel
theorem dX1_able_38 : decode cX1_able 38 = .ok (.ireturn, 1) := by decide +kernel
theorem dX1_jobs_0 : decode cX1_jobs 0 = .ok (.aload_n 0, 1) := by decide +kernel
theorem dX1_jobs_1 : decode cX1_jobs 1 = .ok (.getfield 46, 3) := by decide +kernel
theorem dX1_jobs_4 : decode cX1_jobs 4 = .ok (.ireturn, 1) := by decide +kernel
theorem dX1_time_0 : decode cX1_time 0 = .ok (.aload_n 0, 1) := by decide +kernel
theorem dX1_time_1 : decode cX1_time 1 = .ok (.iload_n 1, 1) := by decide +kernel
theorem dX1_time_2 : decode cX1_time 2 = .ok (.invokevirtual 53, 3) := by decide +kernel
theorem dX1_time_5 : decode cX1_time 5 = .ok (.ifCond .eq 24, 3) := by decide +kernel
theorem dX1_time_8 : decode cX1_time 8 = .ok (.aload_n 0, 1) := by decide +kernel
theorem dX1_time_9 : decode cX1_time 9 = .ok (.iload_n 2, 1) := by decide +kernel
theorem dX1_time_10 : decode cX1_time 10 = .ok (.invokevirtual 60, 3) := by decide +kernel
theorem dX1_time_13 : decode cX1_time 13 = .ok (.ifCond .eq 16, 3) := by decide +kernel
theorem dX1_time_16 : decode cX1_time 16 = .ok (.aload_n 0, 1) := by decide +kernel
theorem dX1_time_17 : decode cX1_time 17 = .ok (.getfield 7, 3) := by decide +kernel
theorem dX1_time_20 : decode cX1_time 20 = .ok (.iload_n 1, 1) := by decide +kernel
theorem dX1_time_21 : decode cX1_time 21 = .ok (.iconst 3, 1) := by decide +kernel
theorem dX1_time_22 : decode cX1_time 22 = .ok (.imul, 1) := by decide +kernel
theorem dX1_time_23 : decode cX1_time 23 = .ok (.iload_n 2, 1) := by decide +kernel
theorem dX1_time_24 : decode cX1_time 24 = .ok (.iadd, 1) := by decide +kernel
theorem dX1_time_25 : decode cX1_time 25 = .ok (.baload, 1) := by decide +kernel
theorem dX1_time_26 : decode cX1_time 26 = .ok (.goto 4, 3) := by decide +kernel
theorem dX1_time_29 : decode cX1_time 29 = .ok (.iconst (-1), 1) := by decide +kernel
theorem dX1_time_30 : decode cX1_time 30 = .ok (.ireturn, 1) := by decide +kernel
theorem dX1_least_0 : decode cX1_least 0 = .ok (.aload_n 0, 1) := by decide +kernel
theorem dX1_least_1 : decode cX1_least 1 = .ok (.invokevirtual 110, 3) := by decide +kernel
theorem dX1_least_4 : decode cX1_least 4 = .ok (.aload_n 0, 1) := by decide +kernel
theorem dX1_least_5 : decode cX1_least 5 = .ok (.getfield 104, 3) := by decide +kernel
theorem dX1_least_8 : decode cX1_least 8 = .ok (.ireturn, 1) := by decide +kernel
theorem dX1_learn_0 : decode cX1_learn 0 = .ok (.aload_n 0, 1) := by decide +kernel
theorem dX1_learn_1 : decode cX1_learn 1 = .ok (.getfield 56, 3) := by decide +kernel
theorem dX1_learn_4 : decode cX1_learn 4 = .ok (.ifCond .eq 4, 3) := by decide +kernel
theorem dX1_learn_7 : decode cX1_learn 7 = .ok (.return_, 1) := by decide +kernel
theorem dX1_learn_8 : decode cX1_learn 8 = .ok (.aload_n 0, 1) := by decide +kernel
theorem dX1_learn_9 : decode cX1_learn 9 = .ok (.iconst 1, 1) := by decide +kernel
theorem dX1_learn_10 : decode cX1_learn 10 = .ok (.putfield 56, 3) := by decide +kernel
theorem dX1_learn_13 : decode cX1_learn 13 = .ok (.aload_n 0, 1) := by decide +kernel
theorem dX1_learn_14 : decode cX1_learn 14 = .ok (.invokevirtual 98, 3) := by decide +kernel
theorem dX1_learn_17 : decode cX1_learn 17 = .ok (.aload_n 0, 1) := by decide +kernel
theorem dX1_learn_18 : decode cX1_learn 18 = .ok (.aload_n 0, 1) := by decide +kernel
theorem dX1_learn_19 : decode cX1_learn 19 = .ok (.aload_n 0, 1) := by decide +kernel
theorem dX1_learn_20 : decode cX1_learn 20 = .ok (.getfield 46, 3) := by decide +kernel
theorem dX1_learn_23 : decode cX1_learn 23 = .ok (.invokevirtual 101, 3) := by decide +kernel
theorem dX1_learn_26 : decode cX1_learn 26 = .ok (.putfield 104, 3) := by decide +kernel
theorem dX1_learn_29 : decode cX1_learn 29 = .ok (.iconst 0, 1) := by decide +kernel
theorem dX1_learn_30 : decode cX1_learn 30 = .ok (.istore_n 1, 1) := by decide +kernel
theorem dX1_learn_31 : decode cX1_learn 31 = .ok (.iload_n 1, 1) := by decide +kernel
theorem dX1_learn_32 : decode cX1_learn 32 = .ok (.iconst 5, 1) := by decide +kernel
theorem dX1_learn_33 : decode cX1_learn 33 = .ok (.if_icmp .ge 44, 3) := by decide +kernel
theorem dX1_learn_36 : decode cX1_learn 36 = .ok (.aload_n 0, 1) := by decide +kernel
theorem dX1_learn_37 : decode cX1_learn 37 = .ok (.iload_n 1, 1) := by decide +kernel
theorem dX1_learn_38 : decode cX1_learn 38 = .ok (.invokevirtual 53, 3) := by decide +kernel
theorem dX1_learn_41 : decode cX1_learn 41 = .ok (.ifCond .eq 30, 3) := by decide +kernel
theorem dX1_learn_44 : decode cX1_learn 44 = .ok (.aload_n 0, 1) := by decide +kernel
theorem dX1_learn_45 : decode cX1_learn 45 = .ok (.getfield 39, 3) := by decide +kernel
theorem dX1_learn_48 : decode cX1_learn 48 = .ok (.iload_n 1, 1) := by decide +kernel
theorem dX1_learn_49 : decode cX1_learn 49 = .ok (.aload_n 0, 1) := by decide +kernel
theorem dX1_learn_50 : decode cX1_learn 50 = .ok (.iload_n 1, 1) := by decide +kernel
theorem dX1_learn_51 : decode cX1_learn 51 = .ok (.invokevirtual 107, 3) := by decide +kernel
theorem dX1_learn_54 : decode cX1_learn 54 = .ok (.i2b, 1) := by decide +kernel
theorem dX1_learn_55 : decode cX1_learn 55 = .ok (.bastore, 1) := by decide +kernel
theorem dX1_learn_56 : decode cX1_learn 56 = .ok (.aload_n 0, 1) := by decide +kernel
theorem dX1_learn_57 : decode cX1_learn 57 = .ok (.getfield 13, 3) := by decide +kernel
theorem dX1_learn_60 : decode cX1_learn 60 = .ok (.iload_n 1, 1) := by decide +kernel
theorem dX1_learn_61 : decode cX1_learn 61 = .ok (.iconst 1, 1) := by decide +kernel
theorem dX1_learn_62 : decode cX1_learn 62 = .ok (.aload_n 0, 1) := by decide +kernel
theorem dX1_learn_63 : decode cX1_learn 63 = .ok (.getfield 39, 3) := by decide +kernel
theorem dX1_learn_66 : decode cX1_learn 66 = .ok (.iload_n 1, 1) := by decide +kernel
theorem dX1_learn_67 : decode cX1_learn 67 = .ok (.baload, 1) := by decide +kernel
theorem dX1_learn_68 : decode cX1_learn 68 = .ok (.ishl, 1) := by decide +kernel
theorem dX1_learn_69 : decode cX1_learn 69 = .ok (.i2b, 1) := by decide +kernel
theorem dX1_learn_70 : decode cX1_learn 70 = .ok (.bastore, 1) := by decide +kernel
theorem dX1_learn_71 : decode cX1_learn 71 = .ok (.iinc 1 1, 3) := by decide +kernel
theorem dX1_learn_74 : decode cX1_learn 74 = .ok (.goto (-43), 3) := by decide +kernel
theorem dX1_learn_77 : decode cX1_learn 77 = .ok (.return_, 1) := by decide +kernel
theorem dX1_askPlainly_0 : decode cX1_askPlainly 0 = .ok (.iconst 0, 1) := by decide +kernel
theorem dX1_askPlainly_1 : decode cX1_askPlainly 1 = .ok (.istore_n 1, 1) := by decide +kernel
theorem dX1_askPlainly_2 : decode cX1_askPlainly 2 = .ok (.iload_n 1, 1) := by decide +kernel
theorem dX1_askPlainly_3 : decode cX1_askPlainly 3 = .ok (.iconst 5, 1) := by decide +kernel
theorem dX1_askPlainly_4 : decode cX1_askPlainly 4 = .ok (.if_icmp .ge 21, 3) := by decide +kernel
theorem dX1_askPlainly_7 : decode cX1_askPlainly 7 = .ok (.aload_n 0, 1) := by decide +kernel
theorem dX1_askPlainly_8 : decode cX1_askPlainly 8 = .ok (.getfield 13, 3) := by decide +kernel
theorem dX1_askPlainly_11 : decode cX1_askPlainly 11 = .ok (.iload_n 1, 1) := by decide +kernel
theorem dX1_askPlainly_12 : decode cX1_askPlainly 12 = .ok (.aload_n 0, 1) := by decide +kernel
theorem dX1_askPlainly_13 : decode cX1_askPlainly 13 = .ok (.iload_n 1, 1) := by decide +kernel
theorem dX1_askPlainly_14 : decode cX1_askPlainly 14 = .ok (.invokevirtual 63, 3) := by decide +kernel
theorem dX1_askPlainly_17 : decode cX1_askPlainly 17 = .ok (.i2b, 1) := by decide +kernel
theorem dX1_askPlainly_18 : decode cX1_askPlainly 18 = .ok (.bastore, 1) := by decide +kernel
theorem dX1_askPlainly_19 : decode cX1_askPlainly 19 = .ok (.iinc 1 1, 3) := by decide +kernel
theorem dX1_askPlainly_22 : decode cX1_askPlainly 22 = .ok (.goto (-20), 3) := by decide +kernel
theorem dX1_askPlainly_25 : decode cX1_askPlainly 25 = .ok (.aload_n 0, 1) := by decide +kernel
theorem dX1_askPlainly_26 : decode cX1_askPlainly 26 = .ok (.iconst (-1), 1) := by decide +kernel
theorem dX1_askPlainly_27 : decode cX1_askPlainly 27 = .ok (.putfield 67, 3) := by decide +kernel
theorem dX1_askPlainly_30 : decode cX1_askPlainly 30 = .ok (.aload_n 0, 1) := by decide +kernel
theorem dX1_askPlainly_31 : decode cX1_askPlainly 31 = .ok (.iconst (-1), 1) := by decide +kernel
theorem dX1_askPlainly_32 : decode cX1_askPlainly 32 = .ok (.putfield 70, 3) := by decide +kernel
theorem dX1_askPlainly_35 : decode cX1_askPlainly 35 = .ok (.return_, 1) := by decide +kernel
theorem dX1_totalOf_0 : decode cX1_totalOf 0 = .ok (.aload_n 0, 1) := by decide +kernel
theorem dX1_totalOf_1 : decode cX1_totalOf 1 = .ok (.iload_n 1, 1) := by decide +kernel
theorem dX1_totalOf_2 : decode cX1_totalOf 2 = .ok (.invokevirtual 95, 3) := by decide +kernel
theorem dX1_totalOf_5 : decode cX1_totalOf 5 = .ok (.istore_n 2, 1) := by decide +kernel
theorem dX1_totalOf_6 : decode cX1_totalOf 6 = .ok (.iload_n 2, 1) := by decide +kernel
theorem dX1_totalOf_7 : decode cX1_totalOf 7 = .ok (.ldc 76, 2) := by decide +kernel
theorem dX1_totalOf_9 : decode cX1_totalOf 9 = .ok (.if_icmp .lt 7, 3) := by decide +kernel
theorem dX1_totalOf_12 : decode cX1_totalOf 12 = .ok (.iconst (-1), 1) := by decide +kernel
theorem dX1_totalOf_13 : decode cX1_totalOf 13 = .ok (.goto 9, 3) := by decide +kernel
theorem dX1_totalOf_16 : decode cX1_totalOf 16 = .ok (.iload_n 2, 1) := by decide +kernel
theorem dX1_totalOf_17 : decode cX1_totalOf 17 = .ok (.bipush 7, 2) := by decide +kernel
theorem dX1_totalOf_19 : decode cX1_totalOf 19 = .ok (.iadd, 1) := by decide +kernel
theorem dX1_totalOf_20 : decode cX1_totalOf 20 = .ok (.iconst 3, 1) := by decide +kernel
theorem dX1_totalOf_21 : decode cX1_totalOf 21 = .ok (.ishr, 1) := by decide +kernel
theorem dX1_totalOf_22 : decode cX1_totalOf 22 = .ok (.ireturn, 1) := by decide +kernel
theorem dX1_match_0 : decode cX1_match 0 = .ok (.aload_n 0, 1) := by decide +kernel
theorem dX1_match_1 : decode cX1_match 1 = .ok (.iconst 0, 1) := by decide +kernel
theorem dX1_match_2 : decode cX1_match 2 = .ok (.putfield 77, 3) := by decide +kernel
theorem dX1_match_5 : decode cX1_match 5 = .ok (.aload_n 0, 1) := by decide +kernel
theorem dX1_match_6 : decode cX1_match 6 = .ok (.aload_n 0, 1) := by decide +kernel
theorem dX1_match_7 : decode cX1_match 7 = .ok (.getfield 67, 3) := by decide +kernel
theorem dX1_match_10 : decode cX1_match 10 = .ok (.ifCond .lt 12, 3) := by decide +kernel
theorem dX1_match_13 : decode cX1_match 13 = .ok (.aload_n 0, 1) := by decide +kernel
theorem dX1_match_14 : decode cX1_match 14 = .ok (.getfield 42, 3) := by decide +kernel
theorem dX1_match_17 : decode cX1_match 17 = .ok (.iconst 1, 1) := by decide +kernel
theorem dX1_match_18 : decode cX1_match 18 = .ok (.iadd, 1) := by decide +kernel
theorem dX1_match_19 : decode cX1_match 19 = .ok (.goto 7, 3) := by decide +kernel
theorem dX1_match_22 : decode cX1_match 22 = .ok (.aload_n 0, 1) := by decide +kernel
theorem dX1_match_23 : decode cX1_match 23 = .ok (.getfield 42, 3) := by decide +kernel
theorem dX1_match_26 : decode cX1_match 26 = .ok (.iconst 5, 1) := by decide +kernel
theorem dX1_match_27 : decode cX1_match 27 = .ok (.imul, 1) := by decide +kernel
theorem dX1_match_28 : decode cX1_match 28 = .ok (.putfield 80, 3) := by decide +kernel
theorem dX1_match_31 : decode cX1_match 31 = .ok (.iconst 0, 1) := by decide +kernel
theorem dX1_match_32 : decode cX1_match 32 = .ok (.istore_n 2, 1) := by decide +kernel
theorem dX1_match_33 : decode cX1_match 33 = .ok (.iload_n 2, 1) := by decide +kernel
theorem dX1_match_34 : decode cX1_match 34 = .ok (.iconst 5, 1) := by decide +kernel
theorem dX1_match_35 : decode cX1_match 35 = .ok (.if_icmp .ge 38, 3) := by decide +kernel
theorem dX1_match_38 : decode cX1_match 38 = .ok (.iload_n 1, 1) := by decide +kernel
theorem dX1_match_39 : decode cX1_match 39 = .ok (.iload_n 2, 1) := by decide +kernel
theorem dX1_match_40 : decode cX1_match 40 = .ok (.ishr, 1) := by decide +kernel
theorem dX1_match_41 : decode cX1_match 41 = .ok (.iconst 1, 1) := by decide +kernel
theorem dX1_match_42 : decode cX1_match 42 = .ok (.iand, 1) := by decide +kernel
theorem dX1_match_43 : decode cX1_match 43 = .ok (.ifCond .eq 24, 3) := by decide +kernel
theorem dX1_match_46 : decode cX1_match 46 = .ok (.aload_n 0, 1) := by decide +kernel
theorem dX1_match_47 : decode cX1_match 47 = .ok (.dup, 1) := by decide +kernel
theorem dX1_match_48 : decode cX1_match 48 = .ok (.getfield 77, 3) := by decide +kernel
theorem dX1_match_51 : decode cX1_match 51 = .ok (.iconst 1, 1) := by decide +kernel
theorem dX1_match_52 : decode cX1_match 52 = .ok (.iadd, 1) := by decide +kernel
theorem dX1_match_53 : decode cX1_match 53 = .ok (.putfield 77, 3) := by decide +kernel
theorem dX1_match_56 : decode cX1_match 56 = .ok (.aload_n 0, 1) := by decide +kernel
theorem dX1_match_57 : decode cX1_match 57 = .ok (.getfield 16, 3) := by decide +kernel
theorem dX1_match_60 : decode cX1_match 60 = .ok (.aload_n 0, 1) := by decide +kernel
theorem dX1_match_61 : decode cX1_match 61 = .ok (.getfield 77, 3) := by decide +kernel
theorem dX1_match_64 : decode cX1_match 64 = .ok (.iload_n 2, 1) := by decide +kernel
theorem dX1_match_65 : decode cX1_match 65 = .ok (.i2b, 1) := by decide +kernel
theorem dX1_match_66 : decode cX1_match 66 = .ok (.bastore, 1) := by decide +kernel
theorem dX1_match_67 : decode cX1_match 67 = .ok (.iinc 2 1, 3) := by decide +kernel
theorem dX1_match_70 : decode cX1_match 70 = .ok (.goto (-37), 3) := by decide +kernel
theorem dX1_match_73 : decode cX1_match 73 = .ok (.iconst 0, 1) := by decide +kernel
theorem dX1_match_74 : decode cX1_match 74 = .ok (.istore_n 2, 1) := by decide +kernel
theorem dX1_match_75 : decode cX1_match 75 = .ok (.iload_n 2, 1) := by decide +kernel
theorem dX1_match_76 : decode cX1_match 76 = .ok (.aload_n 0, 1) := by decide +kernel
theorem dX1_match_77 : decode cX1_match 77 = .ok (.getfield 77, 3) := by decide +kernel
theorem dX1_match_80 : decode cX1_match 80 = .ok (.if_icmp .gt 16, 3) := by decide +kernel
theorem dX1_match_83 : decode cX1_match 83 = .ok (.aload_n 0, 1) := by decide +kernel
theorem dX1_match_84 : decode cX1_match 84 = .ok (.getfield 19, 3) := by decide +kernel
theorem dX1_match_87 : decode cX1_match 87 = .ok (.iload_n 2, 1) := by decide +kernel
theorem dX1_match_88 : decode cX1_match 88 = .ok (.iconst 0, 1) := by decide +kernel
theorem dX1_match_89 : decode cX1_match 89 = .ok (.iastore, 1) := by decide +kernel
theorem dX1_match_90 : decode cX1_match 90 = .ok (.iinc 2 1, 3) := by decide +kernel
theorem dX1_match_93 : decode cX1_match 93 = .ok (.goto (-18), 3) := by decide +kernel
theorem dX1_match_96 : decode cX1_match 96 = .ok (.iconst 0, 1) := by decide +kernel
theorem dX1_match_97 : decode cX1_match 97 = .ok (.istore_n 2, 1) := by decide +kernel
theorem dX1_match_98 : decode cX1_match 98 = .ok (.iload_n 2, 1) := by decide +kernel
theorem dX1_match_99 : decode cX1_match 99 = .ok (.aload_n 0, 1) := by decide +kernel
theorem dX1_match_100 : decode cX1_match 100 = .ok (.getfield 80, 3) := by decide +kernel
theorem dX1_match_103 : decode cX1_match 103 = .ok (.if_icmp .gt 23, 3) := by decide +kernel
theorem dX1_match_106 : decode cX1_match 106 = .ok (.aload_n 0, 1) := by decide +kernel
theorem dX1_match_107 : decode cX1_match 107 = .ok (.getfield 23, 3) := by decide +kernel
theorem dX1_match_110 : decode cX1_match 110 = .ok (.iload_n 2, 1) := by decide +kernel
theorem dX1_match_111 : decode cX1_match 111 = .ok (.iconst 0, 1) := by decide +kernel
theorem dX1_match_112 : decode cX1_match 112 = .ok (.iastore, 1) := by decide +kernel
theorem dX1_match_113 : decode cX1_match 113 = .ok (.aload_n 0, 1) := by decide +kernel
theorem dX1_match_114 : decode cX1_match 114 = .ok (.getfield 26, 3) := by decide +kernel
theorem dX1_match_117 : decode cX1_match 117 = .ok (.iload_n 2, 1) := by decide +kernel
theorem dX1_match_118 : decode cX1_match 118 = .ok (.iconst 0, 1) := by decide +kernel
theorem dX1_match_119 : decode cX1_match 119 = .ok (.bastore, 1) := by decide +kernel
theorem dX1_match_120 : decode cX1_match 120 = .ok (.iinc 2 1, 3) := by decide +kernel
theorem dX1_match_123 : decode cX1_match 123 = .ok (.goto (-25), 3) := by decide +kernel
theorem dX1_match_126 : decode cX1_match 126 = .ok (.iconst 1, 1) := by decide +kernel
theorem dX1_match_127 : decode cX1_match 127 = .ok (.istore_n 2, 1) := by decide +kernel
theorem dX1_match_128 : decode cX1_match 128 = .ok (.iload_n 2, 1) := by decide +kernel
theorem dX1_match_129 : decode cX1_match 129 = .ok (.aload_n 0, 1) := by decide +kernel
theorem dX1_match_130 : decode cX1_match 130 = .ok (.getfield 77, 3) := by decide +kernel
theorem dX1_match_133 : decode cX1_match 133 = .ok (.if_icmp .gt 14, 3) := by decide +kernel
theorem dX1_match_136 : decode cX1_match 136 = .ok (.aload_n 0, 1) := by decide +kernel
theorem dX1_match_137 : decode cX1_match 137 = .ok (.iload_n 2, 1) := by decide +kernel
theorem dX1_match_138 : decode cX1_match 138 = .ok (.invokevirtual 83, 3) := by decide +kernel
theorem dX1_match_141 : decode cX1_match 141 = .ok (.iinc 2 1, 3) := by decide +kernel
theorem dX1_match_144 : decode cX1_match 144 = .ok (.goto (-16), 3) := by decide +kernel
theorem dX1_match_147 : decode cX1_match 147 = .ok (.iconst 0, 1) := by decide +kernel
theorem dX1_match_148 : decode cX1_match 148 = .ok (.istore_n 2, 1) := by decide +kernel
theorem dX1_match_149 : decode cX1_match 149 = .ok (.iconst 1, 1) := by decide +kernel
theorem dX1_match_150 : decode cX1_match 150 = .ok (.istore_n 3, 1) := by decide +kernel
theorem dX1_match_151 : decode cX1_match 151 = .ok (.iload_n 3, 1) := by decide +kernel
theorem dX1_match_152 : decode cX1_match 152 = .ok (.aload_n 0, 1) := by decide +kernel
theorem dX1_match_153 : decode cX1_match 153 = .ok (.getfield 80, 3) := by decide +kernel
theorem dX1_match_156 : decode cX1_match 156 = .ok (.if_icmp .gt 32, 3) := by decide +kernel
theorem dX1_match_159 : decode cX1_match 159 = .ok (.aload_n 0, 1) := by decide +kernel
theorem dX1_match_160 : decode cX1_match 160 = .ok (.getfield 26, 3) := by decide +kernel
theorem dX1_match_163 : decode cX1_match 163 = .ok (.iload_n 3, 1) := by decide +kernel
theorem dX1_match_164 : decode cX1_match 164 = .ok (.baload, 1) := by decide +kernel
theorem dX1_match_165 : decode cX1_match 165 = .ok (.ifCond .le 17, 3) := by decide +kernel
theorem dX1_match_168 : decode cX1_match 168 = .ok (.iload_n 2, 1) := by decide +kernel
theorem dX1_match_169 : decode cX1_match 169 = .ok (.aload_n 0, 1) := by decide +kernel
theorem dX1_match_170 : decode cX1_match 170 = .ok (.aload_n 0, 1) := by decide +kernel
theorem dX1_match_171 : decode cX1_match 171 = .ok (.getfield 26, 3) := by decide +kernel
theorem dX1_match_174 : decode cX1_match 174 = .ok (.iload_n 3, 1) := by decide +kernel
theorem dX1_match_175 : decode cX1_match 175 = .ok (.baload, 1) := by decide +kernel
theorem dX1_match_176 : decode cX1_match 176 = .ok (.iload_n 3, 1) := by decide +kernel
theorem dX1_match_177 : decode cX1_match 177 = .ok (.invokevirtual 87, 3) := by decide +kernel
theorem dX1_match_180 : decode cX1_match 180 = .ok (.iadd, 1) := by decide +kernel
theorem dX1_match_181 : decode cX1_match 181 = .ok (.istore_n 2, 1) := by decide +kernel
theorem dX1_match_182 : decode cX1_match 182 = .ok (.iinc 3 1, 3) := by decide +kernel
theorem dX1_match_185 : decode cX1_match 185 = .ok (.goto (-34), 3) := by decide +kernel
theorem dX1_match_188 : decode cX1_match 188 = .ok (.iload_n 2, 1) := by decide +kernel
theorem dX1_match_189 : decode cX1_match 189 = .ok (.ireturn, 1) := by decide +kernel
theorem dX1_insert_0 : decode cX1_insert 0 = .ok (.aload_n 0, 1) := by decide +kernel
theorem dX1_insert_1 : decode cX1_insert 1 = .ok (.getfield 26, 3) := by decide +kernel
theorem dX1_insert_4 : decode cX1_insert 4 = .ok (.iconst 0, 1) := by decide +kernel
theorem dX1_insert_5 : decode cX1_insert 5 = .ok (.iload_n 1, 1) := by decide +kernel
theorem dX1_insert_6 : decode cX1_insert 6 = .ok (.i2b, 1) := by decide +kernel
theorem dX1_insert_7 : decode cX1_insert 7 = .ok (.bastore, 1) := by decide +kernel
end
end
section
section
set_option maxRecDepth 100000
theorem dX1_insert_8 : decode cX1_insert 8 = .ok (.iconst 0, 1) := by decide +kernel
theorem dX1_insert_9 : decode cX1_insert 9 = .ok (.istore_n 2, 1) := by decide +kernel
theorem dX1_insert_10 : decode cX1_insert 10 = .ok (.iload_n 2, 1) := by decide +kernel
theorem dX1_insert_11 : decode cX1_insert 11 = .ok (.aload_n 0, 1) := by decide +kernel
theorem dX1_insert_12 : decode cX1_insert 12 = .ok (.getfield 80, 3) := by decide +kernel
theorem dX1_insert_15 : decode cX1_insert 15 = .ok (.if_icmp .gt 31, 3) := by decide +kernel
theorem dX1_insert_18 : decode cX1_insert 18 = .ok (.aload_n 0, 1) := by decide +kernel
theorem dX1_insert_19 : decode cX1_insert 19 = .ok (.getfield 32, 3) := by decide +kernel
theorem dX1_insert_22 : decode cX1_insert 22 = .ok (.iload_n 2, 1) := by decide +kernel
theorem dX1_insert_23 : decode cX1_insert 23 = .ok (.ldc 91, 2) := by decide +kernel
theorem dX1_insert_25 : decode cX1_insert 25 = .ok (.iastore, 1) := by decide +kernel
theorem dX1_insert_26 : decode cX1_insert 26 = .ok (.aload_n 0, 1) := by decide +kernel
theorem dX1_insert_27 : decode cX1_insert 27 = .ok (.getfield 35, 3) := by decide +kernel
theorem dX1_insert_30 : decode cX1_insert 30 = .ok (.iload_n 2, 1) := by decide +kernel
theorem dX1_insert_31 : decode cX1_insert 31 = .ok (.iconst 0, 1) := by decide +kernel
theorem dX1_insert_32 : decode cX1_insert 32 = .ok (.bastore, 1) := by decide +kernel
theorem dX1_insert_33 : decode cX1_insert 33 = .ok (.aload_n 0, 1) := by decide +kernel
theorem dX1_insert_34 : decode cX1_insert 34 = .ok (.getfield 29, 3) := by decide +kernel
theorem dX1_insert_37 : decode cX1_insert 37 = .ok (.iload_n 2, 1) := by decide +kernel
theorem dX1_insert_38 : decode cX1_insert 38 = .ok (.iconst 0, 1) := by decide +kernel
theorem dX1_insert_39 : decode cX1_insert 39 = .ok (.bastore, 1) := by decide +kernel
theorem dX1_insert_40 : decode cX1_insert 40 = .ok (.iinc 2 1, 3) := by decide +kernel
theorem dX1_insert_43 : decode cX1_insert 43 = .ok (.goto (-33), 3) := by decide +kernel
theorem dX1_insert_46 : decode cX1_insert 46 = .ok (.iconst 0, 1) := by decide +kernel
theorem dX1_insert_47 : decode cX1_insert 47 = .ok (.istore_n 2, 1) := by decide +kernel
theorem dX1_insert_48 : decode cX1_insert 48 = .ok (.iconst 0, 1) := by decide +kernel
theorem dX1_insert_49 : decode cX1_insert 49 = .ok (.istore_n 3, 1) := by decide +kernel
theorem dX1_insert_50 : decode cX1_insert 50 = .ok (.iload_n 3, 1) := by decide +kernel
theorem dX1_insert_51 : decode cX1_insert 51 = .ok (.iconst 5, 1) := by decide +kernel
theorem dX1_insert_52 : decode cX1_insert 52 = .ok (.if_icmp .gt 35, 3) := by decide +kernel
theorem dX1_insert_55 : decode cX1_insert 55 = .ok (.iload_n 3, 1) := by decide +kernel
theorem dX1_insert_56 : decode cX1_insert 56 = .ok (.ifCond .eq 12, 3) := by decide +kernel
theorem dX1_insert_59 : decode cX1_insert 59 = .ok (.aload_n 0, 1) := by decide +kernel
theorem dX1_insert_60 : decode cX1_insert 60 = .ok (.getfield 26, 3) := by decide +kernel
theorem dX1_insert_63 : decode cX1_insert 63 = .ok (.iload_n 2, 1) := by decide +kernel
theorem dX1_insert_64 : decode cX1_insert 64 = .ok (.baload, 1) := by decide +kernel
theorem dX1_insert_65 : decode cX1_insert 65 = .ok (.ifCond .eq 22, 3) := by decide +kernel
theorem dX1_insert_68 : decode cX1_insert 68 = .ok (.aload_n 0, 1) := by decide +kernel
theorem dX1_insert_69 : decode cX1_insert 69 = .ok (.getfield 35, 3) := by decide +kernel
theorem dX1_insert_72 : decode cX1_insert 72 = .ok (.iload_n 2, 1) := by decide +kernel
theorem dX1_insert_73 : decode cX1_insert 73 = .ok (.iconst 1, 1) := by decide +kernel
theorem dX1_insert_74 : decode cX1_insert 74 = .ok (.bastore, 1) := by decide +kernel
theorem dX1_insert_75 : decode cX1_insert 75 = .ok (.aload_n 0, 1) := by decide +kernel
theorem dX1_insert_76 : decode cX1_insert 76 = .ok (.iload_n 2, 1) := by decide +kernel
theorem dX1_insert_77 : decode cX1_insert 77 = .ok (.invokevirtual 92, 3) := by decide +kernel
theorem dX1_insert_80 : decode cX1_insert 80 = .ok (.istore_n 2, 1) := by decide +kernel
theorem dX1_insert_81 : decode cX1_insert 81 = .ok (.iinc 3 1, 3) := by decide +kernel
theorem dX1_insert_84 : decode cX1_insert 84 = .ok (.goto (-34), 3) := by decide +kernel
theorem dX1_insert_87 : decode cX1_insert 87 = .ok (.iconst 0, 1) := by decide +kernel
theorem dX1_insert_88 : decode cX1_insert 88 = .ok (.istore_n 3, 1) := by decide +kernel
theorem dX1_insert_89 : decode cX1_insert 89 = .ok (.iload_n 3, 1) := by decide +kernel
theorem dX1_insert_90 : decode cX1_insert 90 = .ok (.iconst 5, 1) := by decide +kernel
theorem dX1_insert_91 : decode cX1_insert 91 = .ok (.if_icmp .gt 37, 3) := by decide +kernel
theorem dX1_insert_94 : decode cX1_insert 94 = .ok (.iload_n 2, 1) := by decide +kernel
theorem dX1_insert_95 : decode cX1_insert 95 = .ok (.ifCond .eq 33, 3) := by decide +kernel
theorem dX1_insert_98 : decode cX1_insert 98 = .ok (.aload_n 0, 1) := by decide +kernel
theorem dX1_insert_99 : decode cX1_insert 99 = .ok (.getfield 29, 3) := by decide +kernel
theorem dX1_insert_102 : decode cX1_insert 102 = .ok (.iload_n 2, 1) := by decide +kernel
theorem dX1_insert_103 : decode cX1_insert 103 = .ok (.baload, 1) := by decide +kernel
theorem dX1_insert_104 : decode cX1_insert 104 = .ok (.istore 4, 2) := by decide +kernel
theorem dX1_insert_106 : decode cX1_insert 106 = .ok (.aload_n 0, 1) := by decide +kernel
theorem dX1_insert_107 : decode cX1_insert 107 = .ok (.getfield 26, 3) := by decide +kernel
theorem dX1_insert_110 : decode cX1_insert 110 = .ok (.iload_n 2, 1) := by decide +kernel
theorem dX1_insert_111 : decode cX1_insert 111 = .ok (.aload_n 0, 1) := by decide +kernel
theorem dX1_insert_112 : decode cX1_insert 112 = .ok (.getfield 26, 3) := by decide +kernel
theorem dX1_insert_115 : decode cX1_insert 115 = .ok (.iload 4, 2) := by decide +kernel
theorem dX1_insert_117 : decode cX1_insert 117 = .ok (.baload, 1) := by decide +kernel
theorem dX1_insert_118 : decode cX1_insert 118 = .ok (.bastore, 1) := by decide +kernel
theorem dX1_insert_119 : decode cX1_insert 119 = .ok (.iload 4, 2) := by decide +kernel
theorem dX1_insert_121 : decode cX1_insert 121 = .ok (.istore_n 2, 1) := by decide +kernel
theorem dX1_insert_122 : decode cX1_insert 122 = .ok (.iinc 3 1, 3) := by decide +kernel
theorem dX1_insert_125 : decode cX1_insert 125 = .ok (.goto (-36), 3) := by decide +kernel
theorem dX1_insert_128 : decode cX1_insert 128 = .ok (.return_, 1) := by decide +kernel
theorem dX1_advance_0 : decode cX1_advance 0 = .ok (.aload_n 0, 1) := by decide +kernel
theorem dX1_advance_1 : decode cX1_advance 1 = .ok (.getfield 26, 3) := by decide +kernel
theorem dX1_advance_4 : decode cX1_advance 4 = .ok (.iload_n 1, 1) := by decide +kernel
theorem dX1_advance_5 : decode cX1_advance 5 = .ok (.baload, 1) := by decide +kernel
theorem dX1_advance_6 : decode cX1_advance 6 = .ok (.istore_n 2, 1) := by decide +kernel
theorem dX1_advance_7 : decode cX1_advance 7 = .ok (.ldc 91, 2) := by decide +kernel
theorem dX1_advance_9 : decode cX1_advance 9 = .ok (.istore_n 3, 1) := by decide +kernel
theorem dX1_advance_10 : decode cX1_advance 10 = .ok (.iconst 0, 1) := by decide +kernel
theorem dX1_advance_11 : decode cX1_advance 11 = .ok (.istore 4, 2) := by decide +kernel
theorem dX1_advance_13 : decode cX1_advance 13 = .ok (.iconst 1, 1) := by decide +kernel
theorem dX1_advance_14 : decode cX1_advance 14 = .ok (.istore 5, 2) := by decide +kernel
theorem dX1_advance_16 : decode cX1_advance 16 = .ok (.iload 5, 2) := by decide +kernel
theorem dX1_advance_18 : decode cX1_advance 18 = .ok (.aload_n 0, 1) := by decide +kernel
theorem dX1_advance_19 : decode cX1_advance 19 = .ok (.getfield 80, 3) := by decide +kernel
theorem dX1_advance_22 : decode cX1_advance 22 = .ok (.if_icmp .gt 96, 3) := by decide +kernel
theorem dX1_advance_25 : decode cX1_advance 25 = .ok (.aload_n 0, 1) := by decide +kernel
theorem dX1_advance_26 : decode cX1_advance 26 = .ok (.getfield 35, 3) := by decide +kernel
theorem dX1_advance_29 : decode cX1_advance 29 = .ok (.iload 5, 2) := by decide +kernel
theorem dX1_advance_31 : decode cX1_advance 31 = .ok (.baload, 1) := by decide +kernel
theorem dX1_advance_32 : decode cX1_advance 32 = .ok (.ifCond .ne 80, 3) := by decide +kernel
theorem dX1_advance_35 : decode cX1_advance 35 = .ok (.aload_n 0, 1) := by decide +kernel
theorem dX1_advance_36 : decode cX1_advance 36 = .ok (.iload_n 2, 1) := by decide +kernel
theorem dX1_advance_37 : decode cX1_advance 37 = .ok (.iload 5, 2) := by decide +kernel
theorem dX1_advance_39 : decode cX1_advance 39 = .ok (.invokevirtual 87, 3) := by decide +kernel
theorem dX1_advance_42 : decode cX1_advance 42 = .ok (.aload_n 0, 1) := by decide +kernel
theorem dX1_advance_43 : decode cX1_advance 43 = .ok (.getfield 19, 3) := by decide +kernel
theorem dX1_advance_46 : decode cX1_advance 46 = .ok (.iload_n 2, 1) := by decide +kernel
theorem dX1_advance_47 : decode cX1_advance 47 = .ok (.iaload, 1) := by decide +kernel
theorem dX1_advance_48 : decode cX1_advance 48 = .ok (.isub, 1) := by decide +kernel
theorem dX1_advance_49 : decode cX1_advance 49 = .ok (.aload_n 0, 1) := by decide +kernel
theorem dX1_advance_50 : decode cX1_advance 50 = .ok (.getfield 23, 3) := by decide +kernel
theorem dX1_advance_53 : decode cX1_advance 53 = .ok (.iload 5, 2) := by decide +kernel
theorem dX1_advance_55 : decode cX1_advance 55 = .ok (.iaload, 1) := by decide +kernel
theorem dX1_advance_56 : decode cX1_advance 56 = .ok (.isub, 1) := by decide +kernel
theorem dX1_advance_57 : decode cX1_advance 57 = .ok (.istore 6, 2) := by decide +kernel
theorem dX1_advance_59 : decode cX1_advance 59 = .ok (.iload 6, 2) := by decide +kernel
theorem dX1_advance_61 : decode cX1_advance 61 = .ok (.aload_n 0, 1) := by decide +kernel
theorem dX1_advance_62 : decode cX1_advance 62 = .ok (.getfield 32, 3) := by decide +kernel
theorem dX1_advance_65 : decode cX1_advance 65 = .ok (.iload 5, 2) := by decide +kernel
theorem dX1_advance_67 : decode cX1_advance 67 = .ok (.iaload, 1) := by decide +kernel
theorem dX1_advance_68 : decode cX1_advance 68 = .ok (.if_icmp .ge 21, 3) := by decide +kernel
theorem dX1_advance_71 : decode cX1_advance 71 = .ok (.aload_n 0, 1) := by decide +kernel
theorem dX1_advance_72 : decode cX1_advance 72 = .ok (.getfield 32, 3) := by decide +kernel
theorem dX1_advance_75 : decode cX1_advance 75 = .ok (.iload 5, 2) := by decide +kernel
theorem dX1_advance_77 : decode cX1_advance 77 = .ok (.iload 6, 2) := by decide +kernel
theorem dX1_advance_79 : decode cX1_advance 79 = .ok (.iastore, 1) := by decide +kernel
theorem dX1_advance_80 : decode cX1_advance 80 = .ok (.aload_n 0, 1) := by decide +kernel
theorem dX1_advance_81 : decode cX1_advance 81 = .ok (.getfield 29, 3) := by decide +kernel
theorem dX1_advance_84 : decode cX1_advance 84 = .ok (.iload 5, 2) := by decide +kernel
theorem dX1_advance_86 : decode cX1_advance 86 = .ok (.iload_n 1, 1) := by decide +kernel
theorem dX1_advance_87 : decode cX1_advance 87 = .ok (.i2b, 1) := by decide +kernel
theorem dX1_advance_88 : decode cX1_advance 88 = .ok (.bastore, 1) := by decide +kernel
theorem dX1_advance_89 : decode cX1_advance 89 = .ok (.aload_n 0, 1) := by decide +kernel
theorem dX1_advance_90 : decode cX1_advance 90 = .ok (.getfield 32, 3) := by decide +kernel
theorem dX1_advance_93 : decode cX1_advance 93 = .ok (.iload 5, 2) := by decide +kernel
theorem dX1_advance_95 : decode cX1_advance 95 = .ok (.iaload, 1) := by decide +kernel
theorem dX1_advance_96 : decode cX1_advance 96 = .ok (.iload_n 3, 1) := by decide +kernel
theorem dX1_advance_97 : decode cX1_advance 97 = .ok (.if_icmp .ge 15, 3) := by decide +kernel
theorem dX1_advance_100 : decode cX1_advance 100 = .ok (.aload_n 0, 1) := by decide +kernel
theorem dX1_advance_101 : decode cX1_advance 101 = .ok (.getfield 32, 3) := by decide +kernel
theorem dX1_advance_104 : decode cX1_advance 104 = .ok (.iload 5, 2) := by decide +kernel
theorem dX1_advance_106 : decode cX1_advance 106 = .ok (.iaload, 1) := by decide +kernel
theorem dX1_advance_107 : decode cX1_advance 107 = .ok (.istore_n 3, 1) := by decide +kernel
theorem dX1_advance_108 : decode cX1_advance 108 = .ok (.iload 5, 2) := by decide +kernel
theorem dX1_advance_110 : decode cX1_advance 110 = .ok (.istore 4, 2) := by decide +kernel
theorem dX1_advance_112 : decode cX1_advance 112 = .ok (.iinc 5 1, 3) := by decide +kernel
theorem dX1_advance_115 : decode cX1_advance 115 = .ok (.goto (-99), 3) := by decide +kernel
theorem dX1_advance_118 : decode cX1_advance 118 = .ok (.iconst 0, 1) := by decide +kernel
theorem dX1_advance_119 : decode cX1_advance 119 = .ok (.istore 5, 2) := by decide +kernel
theorem dX1_advance_121 : decode cX1_advance 121 = .ok (.iload 5, 2) := by decide +kernel
theorem dX1_advance_123 : decode cX1_advance 123 = .ok (.aload_n 0, 1) := by decide +kernel
theorem dX1_advance_124 : decode cX1_advance 124 = .ok (.getfield 80, 3) := by decide +kernel
theorem dX1_advance_127 : decode cX1_advance 127 = .ok (.if_icmp .gt 60, 3) := by decide +kernel
theorem dX1_advance_130 : decode cX1_advance 130 = .ok (.aload_n 0, 1) := by decide +kernel
theorem dX1_advance_131 : decode cX1_advance 131 = .ok (.getfield 35, 3) := by decide +kernel
theorem dX1_advance_134 : decode cX1_advance 134 = .ok (.iload 5, 2) := by decide +kernel
theorem dX1_advance_136 : decode cX1_advance 136 = .ok (.baload, 1) := by decide +kernel
theorem dX1_advance_137 : decode cX1_advance 137 = .ok (.ifCond .eq 33, 3) := by decide +kernel
theorem dX1_advance_140 : decode cX1_advance 140 = .ok (.aload_n 0, 1) := by decide +kernel
theorem dX1_advance_141 : decode cX1_advance 141 = .ok (.getfield 19, 3) := by decide +kernel
theorem dX1_advance_144 : decode cX1_advance 144 = .ok (.aload_n 0, 1) := by decide +kernel
theorem dX1_advance_145 : decode cX1_advance 145 = .ok (.getfield 26, 3) := by decide +kernel
theorem dX1_advance_148 : decode cX1_advance 148 = .ok (.iload 5, 2) := by decide +kernel
theorem dX1_advance_150 : decode cX1_advance 150 = .ok (.baload, 1) := by decide +kernel
theorem dX1_advance_151 : decode cX1_advance 151 = .ok (.dup2, 1) := by decide +kernel
theorem dX1_advance_152 : decode cX1_advance 152 = .ok (.iaload, 1) := by decide +kernel
theorem dX1_advance_153 : decode cX1_advance 153 = .ok (.iload_n 3, 1) := by decide +kernel
theorem dX1_advance_154 : decode cX1_advance 154 = .ok (.iadd, 1) := by decide +kernel
theorem dX1_advance_155 : decode cX1_advance 155 = .ok (.iastore, 1) := by decide +kernel
theorem dX1_advance_156 : decode cX1_advance 156 = .ok (.aload_n 0, 1) := by decide +kernel
theorem dX1_advance_157 : decode cX1_advance 157 = .ok (.getfield 23, 3) := by decide +kernel
theorem dX1_advance_160 : decode cX1_advance 160 = .ok (.iload 5, 2) := by decide +kernel
theorem dX1_advance_162 : decode cX1_advance 162 = .ok (.dup2, 1) := by decide +kernel
theorem dX1_advance_163 : decode cX1_advance 163 = .ok (.iaload, 1) := by decide +kernel
theorem dX1_advance_164 : decode cX1_advance 164 = .ok (.iload_n 3, 1) := by decide +kernel
theorem dX1_advance_165 : decode cX1_advance 165 = .ok (.isub, 1) := by decide +kernel
theorem dX1_advance_166 : decode cX1_advance 166 = .ok (.iastore, 1) := by decide +kernel
theorem dX1_advance_167 : decode cX1_advance 167 = .ok (.goto 14, 3) := by decide +kernel
theorem dX1_advance_170 : decode cX1_advance 170 = .ok (.aload_n 0, 1) := by decide +kernel
theorem dX1_advance_171 : decode cX1_advance 171 = .ok (.getfield 32, 3) := by decide +kernel
theorem dX1_advance_174 : decode cX1_advance 174 = .ok (.iload 5, 2) := by decide +kernel
theorem dX1_advance_176 : decode cX1_advance 176 = .ok (.dup2, 1) := by decide +kernel
theorem dX1_advance_177 : decode cX1_advance 177 = .ok (.iaload, 1) := by decide +kernel
theorem dX1_advance_178 : decode cX1_advance 178 = .ok (.iload_n 3, 1) := by decide +kernel
theorem dX1_advance_179 : decode cX1_advance 179 = .ok (.isub, 1) := by decide +kernel
theorem dX1_advance_180 : decode cX1_advance 180 = .ok (.iastore, 1) := by decide +kernel
theorem dX1_advance_181 : decode cX1_advance 181 = .ok (.iinc 5 1, 3) := by decide +kernel
theorem dX1_advance_184 : decode cX1_advance 184 = .ok (.goto (-63), 3) := by decide +kernel
theorem dX1_advance_187 : decode cX1_advance 187 = .ok (.iload 4, 2) := by decide +kernel
theorem dX1_advance_189 : decode cX1_advance 189 = .ok (.ireturn, 1) := by decide +kernel
theorem dX1_costOf_0 : decode cX1_costOf 0 = .ok (.aload_n 0, 1) := by decide +kernel
theorem dX1_costOf_1 : decode cX1_costOf 1 = .ok (.getfield 16, 3) := by decide +kernel
theorem dX1_costOf_4 : decode cX1_costOf 4 = .ok (.iload_n 1, 1) := by decide +kernel
theorem dX1_costOf_5 : decode cX1_costOf 5 = .ok (.baload, 1) := by decide +kernel
theorem dX1_costOf_6 : decode cX1_costOf 6 = .ok (.istore_n 3, 1) := by decide +kernel
theorem dX1_costOf_7 : decode cX1_costOf 7 = .ok (.aload_n 0, 1) := by decide +kernel
theorem dX1_costOf_8 : decode cX1_costOf 8 = .ok (.iload_n 2, 1) := by decide +kernel
theorem dX1_costOf_9 : decode cX1_costOf 9 = .ok (.invokevirtual 73, 3) := by decide +kernel
theorem dX1_costOf_12 : decode cX1_costOf 12 = .ok (.istore 4, 2) := by decide +kernel
theorem dX1_costOf_14 : decode cX1_costOf 14 = .ok (.iload 4, 2) := by decide +kernel
theorem dX1_costOf_16 : decode cX1_costOf 16 = .ok (.ifCond .lt 17, 3) := by decide +kernel
theorem dX1_costOf_19 : decode cX1_costOf 19 = .ok (.aload_n 0, 1) := by decide +kernel
theorem dX1_costOf_20 : decode cX1_costOf 20 = .ok (.getfield 13, 3) := by decide +kernel
theorem dX1_costOf_23 : decode cX1_costOf 23 = .ok (.iload_n 3, 1) := by decide +kernel
theorem dX1_costOf_24 : decode cX1_costOf 24 = .ok (.baload, 1) := by decide +kernel
theorem dX1_costOf_25 : decode cX1_costOf 25 = .ok (.iload 4, 2) := by decide +kernel
theorem dX1_costOf_27 : decode cX1_costOf 27 = .ok (.ishr, 1) := by decide +kernel
theorem dX1_costOf_28 : decode cX1_costOf 28 = .ok (.iconst 1, 1) := by decide +kernel
theorem dX1_costOf_29 : decode cX1_costOf 29 = .ok (.iand, 1) := by decide +kernel
theorem dX1_costOf_30 : decode cX1_costOf 30 = .ok (.ifCond .ne 6, 3) := by decide +kernel
theorem dX1_costOf_33 : decode cX1_costOf 33 = .ok (.ldc 76, 2) := by decide +kernel
theorem dX1_costOf_35 : decode cX1_costOf 35 = .ok (.ireturn, 1) := by decide +kernel
theorem dX1_costOf_36 : decode cX1_costOf 36 = .ok (.iload_n 2, 1) := by decide +kernel
theorem dX1_costOf_37 : decode cX1_costOf 37 = .ok (.iconst 1, 1) := by decide +kernel
theorem dX1_costOf_38 : decode cX1_costOf 38 = .ok (.isub, 1) := by decide +kernel
theorem dX1_costOf_39 : decode cX1_costOf 39 = .ok (.iconst 5, 1) := by decide +kernel
theorem dX1_costOf_40 : decode cX1_costOf 40 = .ok (.irem, 1) := by decide +kernel
theorem dX1_costOf_41 : decode cX1_costOf 41 = .ok (.iconst 1, 1) := by decide +kernel
theorem dX1_costOf_42 : decode cX1_costOf 42 = .ok (.iadd, 1) := by decide +kernel
theorem dX1_costOf_43 : decode cX1_costOf 43 = .ok (.istore 5, 2) := by decide +kernel
theorem dX1_costOf_45 : decode cX1_costOf 45 = .ok (.bipush 8, 2) := by decide +kernel
theorem dX1_costOf_47 : decode cX1_costOf 47 = .ok (.iload 5, 2) := by decide +kernel
theorem dX1_costOf_49 : decode cX1_costOf 49 = .ok (.imul, 1) := by decide +kernel
theorem dX1_costOf_50 : decode cX1_costOf 50 = .ok (.aload_n 0, 1) := by decide +kernel
theorem dX1_costOf_51 : decode cX1_costOf 51 = .ok (.getfield 7, 3) := by decide +kernel
theorem dX1_costOf_54 : decode cX1_costOf 54 = .ok (.iload_n 3, 1) := by decide +kernel
theorem dX1_costOf_55 : decode cX1_costOf 55 = .ok (.iconst 3, 1) := by decide +kernel
theorem dX1_costOf_56 : decode cX1_costOf 56 = .ok (.imul, 1) := by decide +kernel
theorem dX1_costOf_57 : decode cX1_costOf 57 = .ok (.iload 4, 2) := by decide +kernel
theorem dX1_costOf_59 : decode cX1_costOf 59 = .ok (.iadd, 1) := by decide +kernel
theorem dX1_costOf_60 : decode cX1_costOf 60 = .ok (.baload, 1) := by decide +kernel
theorem dX1_costOf_61 : decode cX1_costOf 61 = .ok (.imul, 1) := by decide +kernel
theorem dX1_costOf_62 : decode cX1_costOf 62 = .ok (.istore 6, 2) := by decide +kernel
theorem dX1_costOf_64 : decode cX1_costOf 64 = .ok (.iload 4, 2) := by decide +kernel
theorem dX1_costOf_66 : decode cX1_costOf 66 = .ok (.aload_n 0, 1) := by decide +kernel
theorem dX1_costOf_67 : decode cX1_costOf 67 = .ok (.getfield 70, 3) := by decide +kernel
theorem dX1_costOf_70 : decode cX1_costOf 70 = .ok (.if_icmp .ne 10, 3) := by decide +kernel
theorem dX1_costOf_73 : decode cX1_costOf 73 = .ok (.iload 6, 2) := by decide +kernel
theorem dX1_costOf_75 : decode cX1_costOf 75 = .ok (.iconst 1, 1) := by decide +kernel
theorem dX1_costOf_76 : decode cX1_costOf 76 = .ok (.isub, 1) := by decide +kernel
theorem dX1_costOf_77 : decode cX1_costOf 77 = .ok (.goto 5, 3) := by decide +kernel
theorem dX1_costOf_80 : decode cX1_costOf 80 = .ok (.iload 6, 2) := by decide +kernel
theorem dX1_costOf_82 : decode cX1_costOf 82 = .ok (.ireturn, 1) := by decide +kernel
theorem dX1_machineAt_0 : decode cX1_machineAt 0 = .ok (.iload_n 1, 1) := by decide +kernel
theorem dX1_machineAt_1 : decode cX1_machineAt 1 = .ok (.iconst 1, 1) := by decide +kernel
theorem dX1_machineAt_2 : decode cX1_machineAt 2 = .ok (.isub, 1) := by decide +kernel
theorem dX1_machineAt_3 : decode cX1_machineAt 3 = .ok (.iconst 5, 1) := by decide +kernel
theorem dX1_machineAt_4 : decode cX1_machineAt 4 = .ok (.idiv, 1) := by decide +kernel
theorem dX1_machineAt_5 : decode cX1_machineAt 5 = .ok (.istore_n 2, 1) := by decide +kernel
theorem dX1_machineAt_6 : decode cX1_machineAt 6 = .ok (.iload_n 2, 1) := by decide +kernel
theorem dX1_machineAt_7 : decode cX1_machineAt 7 = .ok (.aload_n 0, 1) := by decide +kernel
theorem dX1_machineAt_8 : decode cX1_machineAt 8 = .ok (.getfield 42, 3) := by decide +kernel
theorem dX1_machineAt_11 : decode cX1_machineAt 11 = .ok (.if_icmp .ge 7, 3) := by decide +kernel
theorem dX1_machineAt_14 : decode cX1_machineAt 14 = .ok (.iload_n 2, 1) := by decide +kernel
theorem dX1_machineAt_15 : decode cX1_machineAt 15 = .ok (.goto 7, 3) := by decide +kernel
theorem dX1_machineAt_18 : decode cX1_machineAt 18 = .ok (.aload_n 0, 1) := by decide +kernel
theorem dX1_machineAt_19 : decode cX1_machineAt 19 = .ok (.getfield 67, 3) := by decide +kernel
theorem dX1_machineAt_22 : decode cX1_machineAt 22 = .ok (.ireturn, 1) := by decide +kernel
theorem dX1_firstMachine_0 : decode cX1_firstMachine 0 = .ok (.aload_n 0, 1) := by decide +kernel
theorem dX1_firstMachine_1 : decode cX1_firstMachine 1 = .ok (.getfield 13, 3) := by decide +kernel
theorem dX1_firstMachine_4 : decode cX1_firstMachine 4 = .ok (.iload_n 1, 1) := by decide +kernel
theorem dX1_firstMachine_5 : decode cX1_firstMachine 5 = .ok (.baload, 1) := by decide +kernel
theorem dX1_firstMachine_6 : decode cX1_firstMachine 6 = .ok (.istore_n 2, 1) := by decide +kernel
theorem dX1_firstMachine_7 : decode cX1_firstMachine 7 = .ok (.iconst 0, 1) := by decide +kernel
theorem dX1_firstMachine_8 : decode cX1_firstMachine 8 = .ok (.istore_n 3, 1) := by decide +kernel
theorem dX1_firstMachine_9 : decode cX1_firstMachine 9 = .ok (.iload_n 3, 1) := by decide +kernel
theorem dX1_firstMachine_10 : decode cX1_firstMachine 10 = .ok (.aload_n 0, 1) := by decide +kernel
theorem dX1_firstMachine_11 : decode cX1_firstMachine 11 = .ok (.getfield 42, 3) := by decide +kernel
theorem dX1_firstMachine_14 : decode cX1_firstMachine 14 = .ok (.if_icmp .ge 48, 3) := by decide +kernel
theorem dX1_firstMachine_17 : decode cX1_firstMachine 17 = .ok (.iload_n 2, 1) := by decide +kernel
theorem dX1_firstMachine_18 : decode cX1_firstMachine 18 = .ok (.iload_n 3, 1) := by decide +kernel
theorem dX1_firstMachine_19 : decode cX1_firstMachine 19 = .ok (.ishr, 1) := by decide +kernel
theorem dX1_firstMachine_20 : decode cX1_firstMachine 20 = .ok (.iconst 1, 1) := by decide +kernel
theorem dX1_firstMachine_21 : decode cX1_firstMachine 21 = .ok (.iand, 1) := by decide +kernel
theorem dX1_firstMachine_22 : decode cX1_firstMachine 22 = .ok (.ifCond .eq 34, 3) := by decide +kernel
theorem dX1_firstMachine_25 : decode cX1_firstMachine 25 = .ok (.aload_n 0, 1) := by decide +kernel
theorem dX1_firstMachine_26 : decode cX1_firstMachine 26 = .ok (.getfield 13, 3) := by decide +kernel
theorem dX1_firstMachine_29 : decode cX1_firstMachine 29 = .ok (.iload_n 1, 1) := by decide +kernel
theorem dX1_firstMachine_30 : decode cX1_firstMachine 30 = .ok (.iconst 1, 1) := by decide +kernel
theorem dX1_firstMachine_31 : decode cX1_firstMachine 31 = .ok (.iload_n 3, 1) := by decide +kernel
theorem dX1_firstMachine_32 : decode cX1_firstMachine 32 = .ok (.ishl, 1) := by decide +kernel
theorem dX1_firstMachine_33 : decode cX1_firstMachine 33 = .ok (.i2b, 1) := by decide +kernel
theorem dX1_firstMachine_34 : decode cX1_firstMachine 34 = .ok (.bastore, 1) := by decide +kernel
theorem dX1_firstMachine_35 : decode cX1_firstMachine 35 = .ok (.aload_n 0, 1) := by decide +kernel
theorem dX1_firstMachine_36 : decode cX1_firstMachine 36 = .ok (.aload_n 0, 1) := by decide +kernel
theorem dX1_firstMachine_37 : decode cX1_firstMachine 37 = .ok (.getfield 46, 3) := by decide +kernel
theorem dX1_firstMachine_40 : decode cX1_firstMachine 40 = .ok (.invokevirtual 101, 3) := by decide +kernel
theorem dX1_firstMachine_43 : decode cX1_firstMachine 43 = .ok (.istore 4, 2) := by decide +kernel
theorem dX1_firstMachine_45 : decode cX1_firstMachine 45 = .ok (.iload 4, 2) := by decide +kernel
theorem dX1_firstMachine_47 : decode cX1_firstMachine 47 = .ok (.aload_n 0, 1) := by decide +kernel
theorem dX1_firstMachine_48 : decode cX1_firstMachine 48 = .ok (.getfield 104, 3) := by decide +kernel
theorem dX1_firstMachine_51 : decode cX1_firstMachine 51 = .ok (.if_icmp .ne 5, 3) := by decide +kernel
theorem dX1_firstMachine_54 : decode cX1_firstMachine 54 = .ok (.iload_n 3, 1) := by decide +kernel
theorem dX1_firstMachine_55 : decode cX1_firstMachine 55 = .ok (.ireturn, 1) := by decide +kernel
theorem dX1_firstMachine_56 : decode cX1_firstMachine 56 = .ok (.iinc 3 1, 3) := by decide +kernel
theorem dX1_firstMachine_59 : decode cX1_firstMachine 59 = .ok (.goto (-50), 3) := by decide +kernel
theorem dX1_firstMachine_62 : decode cX1_firstMachine 62 = .ok (.iconst 0, 1) := by decide +kernel
theorem dX1_firstMachine_63 : decode cX1_firstMachine 63 = .ok (.ireturn, 1) := by decide +kernel
theorem dX1_machineOf_0 : decode cX1_machineOf 0 = .ok (.aload_n 0, 1) := by decide +kernel
theorem dX1_machineOf_1 : decode cX1_machineOf 1 = .ok (.iload_n 1, 1) := by decide +kernel
theorem dX1_machineOf_2 : decode cX1_machineOf 2 = .ok (.invokevirtual 53, 3) := by decide +kernel
theorem dX1_machineOf_5 : decode cX1_machineOf 5 = .ok (.ifCond .ne 5, 3) := by decide +kernel
theorem dX1_machineOf_8 : decode cX1_machineOf 8 = .ok (.iconst (-1), 1) := by decide +kernel
theorem dX1_machineOf_9 : decode cX1_machineOf 9 = .ok (.ireturn, 1) := by decide +kernel
theorem dX1_machineOf_10 : decode cX1_machineOf 10 = .ok (.aload_n 0, 1) := by decide +kernel
theorem dX1_machineOf_11 : decode cX1_machineOf 11 = .ok (.invokevirtual 110, 3) := by decide +kernel
theorem dX1_machineOf_14 : decode cX1_machineOf 14 = .ok (.aload_n 0, 1) := by decide +kernel
theorem dX1_machineOf_15 : decode cX1_machineOf 15 = .ok (.getfield 39, 3) := by decide +kernel
theorem dX1_machineOf_18 : decode cX1_machineOf 18 = .ok (.iload_n 1, 1) := by decide +kernel
theorem dX1_machineOf_19 : decode cX1_machineOf 19 = .ok (.baload, 1) := by decide +kernel
theorem dX1_machineOf_20 : decode cX1_machineOf 20 = .ok (.ireturn, 1) := by decide +kernel
theorem dX1_finishOf_0 : decode cX1_finishOf 0 = .ok (.aload_n 0, 1) := by decide +kernel
theorem dX1_finishOf_1 : decode cX1_finishOf 1 = .ok (.iload_n 1, 1) := by decide +kernel
theorem dX1_finishOf_2 : decode cX1_finishOf 2 = .ok (.invokevirtual 53, 3) := by decide +kernel
theorem dX1_finishOf_5 : decode cX1_finishOf 5 = .ok (.ifCond .ne 5, 3) := by decide +kernel
theorem dX1_finishOf_8 : decode cX1_finishOf 8 = .ok (.iconst (-1), 1) := by decide +kernel
theorem dX1_finishOf_9 : decode cX1_finishOf 9 = .ok (.ireturn, 1) := by decide +kernel
theorem dX1_finishOf_10 : decode cX1_finishOf 10 = .ok (.aload_n 0, 1) := by decide +kernel
theorem dX1_finishOf_11 : decode cX1_finishOf 11 = .ok (.invokevirtual 110, 3) := by decide +kernel
theorem dX1_finishOf_14 : decode cX1_finishOf 14 = .ok (.aload_n 0, 1) := by decide +kernel
theorem dX1_finishOf_15 : decode cX1_finishOf 15 = .ok (.getfield 39, 3) := by decide +kernel
theorem dX1_finishOf_18 : decode cX1_finishOf 18 = .ok (.iload_n 1, 1) := by decide +kernel
theorem dX1_finishOf_19 : decode cX1_finishOf 19 = .ok (.baload, 1) := by decide +kernel
theorem dX1_finishOf_20 : decode cX1_finishOf 20 = .ok (.istore_n 2, 1) := by decide +kernel
theorem dX1_finishOf_21 : decode cX1_finishOf 21 = .ok (.aload_n 0, 1) := by decide +kernel
theorem dX1_finishOf_22 : decode cX1_finishOf 22 = .ok (.getfield 7, 3) := by decide +kernel
theorem dX1_finishOf_25 : decode cX1_finishOf 25 = .ok (.iload_n 1, 1) := by decide +kernel
theorem dX1_finishOf_26 : decode cX1_finishOf 26 = .ok (.iconst 3, 1) := by decide +kernel
theorem dX1_finishOf_27 : decode cX1_finishOf 27 = .ok (.imul, 1) := by decide +kernel
theorem dX1_finishOf_28 : decode cX1_finishOf 28 = .ok (.iload_n 2, 1) := by decide +kernel
theorem dX1_finishOf_29 : decode cX1_finishOf 29 = .ok (.iadd, 1) := by decide +kernel
theorem dX1_finishOf_30 : decode cX1_finishOf 30 = .ok (.baload, 1) := by decide +kernel
theorem dX1_finishOf_31 : decode cX1_finishOf 31 = .ok (.istore_n 3, 1) := by decide +kernel
theorem dX1_finishOf_32 : decode cX1_finishOf 32 = .ok (.iconst 0, 1) := by decide +kernel
theorem dX1_finishOf_33 : decode cX1_finishOf 33 = .ok (.istore 4, 2) := by decide +kernel
theorem dX1_finishOf_35 : decode cX1_finishOf 35 = .ok (.iconst 0, 1) := by decide +kernel
theorem dX1_finishOf_36 : decode cX1_finishOf 36 = .ok (.istore 5, 2) := by decide +kernel
theorem dX1_finishOf_38 : decode cX1_finishOf 38 = .ok (.iload 5, 2) := by decide +kernel
theorem dX1_finishOf_40 : decode cX1_finishOf 40 = .ok (.iconst 5, 1) := by decide +kernel
theorem dX1_finishOf_41 : decode cX1_finishOf 41 = .ok (.if_icmp .ge 83, 3) := by decide +kernel
theorem dX1_finishOf_44 : decode cX1_finishOf 44 = .ok (.aload_n 0, 1) := by decide +kernel
theorem dX1_finishOf_45 : decode cX1_finishOf 45 = .ok (.iload 5, 2) := by decide +kernel
theorem dX1_finishOf_47 : decode cX1_finishOf 47 = .ok (.invokevirtual 53, 3) := by decide +kernel
theorem dX1_finishOf_50 : decode cX1_finishOf 50 = .ok (.ifCond .eq 68, 3) := by decide +kernel
theorem dX1_finishOf_53 : decode cX1_finishOf 53 = .ok (.aload_n 0, 1) := by decide +kernel
theorem dX1_finishOf_54 : decode cX1_finishOf 54 = .ok (.getfield 39, 3) := by decide +kernel
theorem dX1_finishOf_57 : decode cX1_finishOf 57 = .ok (.iload 5, 2) := by decide +kernel
theorem dX1_finishOf_59 : decode cX1_finishOf 59 = .ok (.baload, 1) := by decide +kernel
theorem dX1_finishOf_60 : decode cX1_finishOf 60 = .ok (.iload_n 2, 1) := by decide +kernel
theorem dX1_finishOf_61 : decode cX1_finishOf 61 = .ok (.if_icmp .ne 57, 3) := by decide +kernel
theorem dX1_finishOf_64 : decode cX1_finishOf 64 = .ok (.aload_n 0, 1) := by decide +kernel
theorem dX1_finishOf_65 : decode cX1_finishOf 65 = .ok (.getfield 7, 3) := by decide +kernel
theorem dX1_finishOf_68 : decode cX1_finishOf 68 = .ok (.iload 5, 2) := by decide +kernel
theorem dX1_finishOf_70 : decode cX1_finishOf 70 = .ok (.iconst 3, 1) := by decide +kernel
theorem dX1_finishOf_71 : decode cX1_finishOf 71 = .ok (.imul, 1) := by decide +kernel
theorem dX1_finishOf_72 : decode cX1_finishOf 72 = .ok (.iload_n 2, 1) := by decide +kernel
theorem dX1_finishOf_73 : decode cX1_finishOf 73 = .ok (.iadd, 1) := by decide +kernel
theorem dX1_finishOf_74 : decode cX1_finishOf 74 = .ok (.baload, 1) := by decide +kernel
theorem dX1_finishOf_75 : decode cX1_finishOf 75 = .ok (.istore 6, 2) := by decide +kernel
theorem dX1_finishOf_77 : decode cX1_finishOf 77 = .ok (.iload 6, 2) := by decide +kernel
theorem dX1_finishOf_79 : decode cX1_finishOf 79 = .ok (.iload_n 3, 1) := by decide +kernel
theorem dX1_finishOf_80 : decode cX1_finishOf 80 = .ok (.if_icmp .lt 15, 3) := by decide +kernel
theorem dX1_finishOf_83 : decode cX1_finishOf 83 = .ok (.iload 6, 2) := by decide +kernel
theorem dX1_finishOf_85 : decode cX1_finishOf 85 = .ok (.iload_n 3, 1) := by decide +kernel
theorem dX1_finishOf_86 : decode cX1_finishOf 86 = .ok (.if_icmp .ne 13, 3) := by decide +kernel
theorem dX1_finishOf_89 : decode cX1_finishOf 89 = .ok (.iload 5, 2) := by decide +kernel
theorem dX1_finishOf_91 : decode cX1_finishOf 91 = .ok (.iload_n 1, 1) := by decide +kernel
theorem dX1_finishOf_92 : decode cX1_finishOf 92 = .ok (.if_icmp .gt 7, 3) := by decide +kernel
theorem dX1_finishOf_95 : decode cX1_finishOf 95 = .ok (.iconst 1, 1) := by decide +kernel
theorem dX1_finishOf_96 : decode cX1_finishOf 96 = .ok (.goto 4, 3) := by decide +kernel
theorem dX1_finishOf_99 : decode cX1_finishOf 99 = .ok (.iconst 0, 1) := by decide +kernel
theorem dX1_finishOf_100 : decode cX1_finishOf 100 = .ok (.istore 7, 2) := by decide +kernel
theorem dX1_finishOf_102 : decode cX1_finishOf 102 = .ok (.iload 4, 2) := by decide +kernel
theorem dX1_finishOf_104 : decode cX1_finishOf 104 = .ok (.iload 7, 2) := by decide +kernel
theorem dX1_finishOf_106 : decode cX1_finishOf 106 = .ok (.ifCond .eq 8, 3) := by decide +kernel
theorem dX1_finishOf_109 : decode cX1_finishOf 109 = .ok (.iload 6, 2) := by decide +kernel
theorem dX1_finishOf_111 : decode cX1_finishOf 111 = .ok (.goto 4, 3) := by decide +kernel
theorem dX1_finishOf_114 : decode cX1_finishOf 114 = .ok (.iconst 0, 1) := by decide +kernel
theorem dX1_finishOf_115 : decode cX1_finishOf 115 = .ok (.iadd, 1) := by decide +kernel
theorem dX1_finishOf_116 : decode cX1_finishOf 116 = .ok (.istore 4, 2) := by decide +kernel
theorem dX1_finishOf_118 : decode cX1_finishOf 118 = .ok (.iinc 5 1, 3) := by decide +kernel
theorem dX1_finishOf_121 : decode cX1_finishOf 121 = .ok (.goto (-83), 3) := by decide +kernel
theorem dX1_finishOf_124 : decode cX1_finishOf 124 = .ok (.iload 4, 2) := by decide +kernel
theorem dX1_finishOf_126 : decode cX1_finishOf 126 = .ok (.ireturn, 1) := by decide +kernel
theorem dX1_leastWith_0 : decode cX1_leastWith 0 = .ok (.aload_n 0, 1) := by decide +kernel
theorem dX1_leastWith_1 : decode cX1_leastWith 1 = .ok (.iload_n 1, 1) := by decide +kernel
theorem dX1_leastWith_2 : decode cX1_leastWith 2 = .ok (.invokevirtual 53, 3) := by decide +kernel
theorem dX1_leastWith_5 : decode cX1_leastWith 5 = .ok (.ifCond .eq 24, 3) := by decide +kernel
theorem dX1_leastWith_8 : decode cX1_leastWith 8 = .ok (.aload_n 0, 1) := by decide +kernel
theorem dX1_leastWith_9 : decode cX1_leastWith 9 = .ok (.iload_n 2, 1) := by decide +kernel
theorem dX1_leastWith_10 : decode cX1_leastWith 10 = .ok (.invokevirtual 60, 3) := by decide +kernel
theorem dX1_leastWith_13 : decode cX1_leastWith 13 = .ok (.ifCond .eq 16, 3) := by decide +kernel
theorem dX1_leastWith_16 : decode cX1_leastWith 16 = .ok (.aload_n 0, 1) := by decide +kernel
theorem dX1_leastWith_17 : decode cX1_leastWith 17 = .ok (.getfield 7, 3) := by decide +kernel
theorem dX1_leastWith_20 : decode cX1_leastWith 20 = .ok (.iload_n 1, 1) := by decide +kernel
theorem dX1_leastWith_21 : decode cX1_leastWith 21 = .ok (.iconst 3, 1) := by decide +kernel
theorem dX1_leastWith_22 : decode cX1_leastWith 22 = .ok (.imul, 1) := by decide +kernel
theorem dX1_leastWith_23 : decode cX1_leastWith 23 = .ok (.iload_n 2, 1) := by decide +kernel
theorem dX1_leastWith_24 : decode cX1_leastWith 24 = .ok (.iadd, 1) := by decide +kernel
theorem dX1_leastWith_25 : decode cX1_leastWith 25 = .ok (.baload, 1) := by decide +kernel
theorem dX1_leastWith_26 : decode cX1_leastWith 26 = .ok (.ifCond .ne 5, 3) := by decide +kernel
theorem dX1_leastWith_29 : decode cX1_leastWith 29 = .ok (.iconst (-1), 1) := by decide +kernel
theorem dX1_leastWith_30 : decode cX1_leastWith 30 = .ok (.ireturn, 1) := by decide +kernel
theorem dX1_leastWith_31 : decode cX1_leastWith 31 = .ok (.aload_n 0, 1) := by decide +kernel
theorem dX1_leastWith_32 : decode cX1_leastWith 32 = .ok (.invokevirtual 98, 3) := by decide +kernel
theorem dX1_leastWith_35 : decode cX1_leastWith 35 = .ok (.aload_n 0, 1) := by decide +kernel
theorem dX1_leastWith_36 : decode cX1_leastWith 36 = .ok (.getfield 13, 3) := by decide +kernel
theorem dX1_leastWith_39 : decode cX1_leastWith 39 = .ok (.iload_n 1, 1) := by decide +kernel
theorem dX1_leastWith_40 : decode cX1_leastWith 40 = .ok (.iconst 1, 1) := by decide +kernel
theorem dX1_leastWith_41 : decode cX1_leastWith 41 = .ok (.iload_n 2, 1) := by decide +kernel
theorem dX1_leastWith_42 : decode cX1_leastWith 42 = .ok (.ishl, 1) := by decide +kernel
theorem dX1_leastWith_43 : decode cX1_leastWith 43 = .ok (.i2b, 1) := by decide +kernel
theorem dX1_leastWith_44 : decode cX1_leastWith 44 = .ok (.bastore, 1) := by decide +kernel
theorem dX1_leastWith_45 : decode cX1_leastWith 45 = .ok (.aload_n 0, 1) := by decide +kernel
theorem dX1_leastWith_46 : decode cX1_leastWith 46 = .ok (.aload_n 0, 1) := by decide +kernel
theorem dX1_leastWith_47 : decode cX1_leastWith 47 = .ok (.getfield 46, 3) := by decide +kernel
theorem dX1_leastWith_50 : decode cX1_leastWith 50 = .ok (.invokevirtual 101, 3) := by decide +kernel
theorem dX1_leastWith_53 : decode cX1_leastWith 53 = .ok (.ireturn, 1) := by decide +kernel
theorem dX1_leastWithout_0 : decode cX1_leastWithout 0 = .ok (.aload_n 0, 1) := by decide +kernel
theorem dX1_leastWithout_1 : decode cX1_leastWithout 1 = .ok (.iload_n 1, 1) := by decide +kernel
theorem dX1_leastWithout_2 : decode cX1_leastWithout 2 = .ok (.invokevirtual 53, 3) := by decide +kernel
theorem dX1_leastWithout_5 : decode cX1_leastWithout 5 = .ok (.ifCond .ne 5, 3) := by decide +kernel
theorem dX1_leastWithout_8 : decode cX1_leastWithout 8 = .ok (.iconst (-1), 1) := by decide +kernel
theorem dX1_leastWithout_9 : decode cX1_leastWithout 9 = .ok (.ireturn, 1) := by decide +kernel
theorem dX1_leastWithout_10 : decode cX1_leastWithout 10 = .ok (.aload_n 0, 1) := by decide +kernel
theorem dX1_leastWithout_11 : decode cX1_leastWithout 11 = .ok (.invokevirtual 98, 3) := by decide +kernel
theorem dX1_leastWithout_14 : decode cX1_leastWithout 14 = .ok (.aload_n 0, 1) := by decide +kernel
theorem dX1_leastWithout_15 : decode cX1_leastWithout 15 = .ok (.aload_n 0, 1) := by decide +kernel
theorem dX1_leastWithout_16 : decode cX1_leastWithout 16 = .ok (.getfield 46, 3) := by decide +kernel
theorem dX1_leastWithout_19 : decode cX1_leastWithout 19 = .ok (.iconst 1, 1) := by decide +kernel
theorem dX1_leastWithout_20 : decode cX1_leastWithout 20 = .ok (.iload_n 1, 1) := by decide +kernel
theorem dX1_leastWithout_21 : decode cX1_leastWithout 21 = .ok (.ishl, 1) := by decide +kernel
theorem dX1_leastWithout_22 : decode cX1_leastWithout 22 = .ok (.iconst (-1), 1) := by decide +kernel
theorem dX1_leastWithout_23 : decode cX1_leastWithout 23 = .ok (.ixor, 1) := by decide +kernel
theorem dX1_leastWithout_24 : decode cX1_leastWithout 24 = .ok (.iand, 1) := by decide +kernel
theorem dX1_leastWithout_25 : decode cX1_leastWithout 25 = .ok (.invokevirtual 101, 3) := by decide +kernel
theorem dX1_leastWithout_28 : decode cX1_leastWithout 28 = .ok (.ireturn, 1) := by decide +kernel
theorem dX1_leastDoubled_0 : decode cX1_leastDoubled 0 = .ok (.aload_n 0, 1) := by decide +kernel
theorem dX1_leastDoubled_1 : decode cX1_leastDoubled 1 = .ok (.iload_n 1, 1) := by decide +kernel
theorem dX1_leastDoubled_2 : decode cX1_leastDoubled 2 = .ok (.invokevirtual 60, 3) := by decide +kernel
theorem dX1_leastDoubled_5 : decode cX1_leastDoubled 5 = .ok (.ifCond .ne 5, 3) := by decide +kernel
theorem dX1_leastDoubled_8 : decode cX1_leastDoubled 8 = .ok (.iconst (-1), 1) := by decide +kernel
theorem dX1_leastDoubled_9 : decode cX1_leastDoubled 9 = .ok (.ireturn, 1) := by decide +kernel
theorem dX1_leastDoubled_10 : decode cX1_leastDoubled 10 = .ok (.aload_n 0, 1) := by decide +kernel
theorem dX1_leastDoubled_11 : decode cX1_leastDoubled 11 = .ok (.invokevirtual 98, 3) := by decide +kernel
theorem dX1_leastDoubled_14 : decode cX1_leastDoubled 14 = .ok (.aload_n 0, 1) := by decide +kernel
theorem dX1_leastDoubled_15 : decode cX1_leastDoubled 15 = .ok (.iload_n 1, 1) := by decide +kernel
theorem dX1_leastDoubled_16 : decode cX1_leastDoubled 16 = .ok (.putfield 67, 3) := by decide +kernel
theorem dX1_leastDoubled_19 : decode cX1_leastDoubled 19 = .ok (.aload_n 0, 1) := by decide +kernel
theorem dX1_leastDoubled_20 : decode cX1_leastDoubled 20 = .ok (.aload_n 0, 1) := by decide +kernel
theorem dX1_leastDoubled_21 : decode cX1_leastDoubled 21 = .ok (.getfield 46, 3) := by decide +kernel
theorem dX1_leastDoubled_24 : decode cX1_leastDoubled 24 = .ok (.invokevirtual 101, 3) := by decide +kernel
theorem dX1_leastDoubled_27 : decode cX1_leastDoubled 27 = .ok (.ireturn, 1) := by decide +kernel
theorem dX1_leastIdle_0 : decode cX1_leastIdle 0 = .ok (.aload_n 0, 1) := by decide +kernel
theorem dX1_leastIdle_1 : decode cX1_leastIdle 1 = .ok (.iload_n 1, 1) := by decide +kernel
theorem dX1_leastIdle_2 : decode cX1_leastIdle 2 = .ok (.invokevirtual 60, 3) := by decide +kernel
theorem dX1_leastIdle_5 : decode cX1_leastIdle 5 = .ok (.ifCond .ne 5, 3) := by decide +kernel
theorem dX1_leastIdle_8 : decode cX1_leastIdle 8 = .ok (.iconst (-1), 1) := by decide +kernel
theorem dX1_leastIdle_9 : decode cX1_leastIdle 9 = .ok (.ireturn, 1) := by decide +kernel
theorem dX1_leastIdle_10 : decode cX1_leastIdle 10 = .ok (.aload_n 0, 1) := by decide +kernel
theorem dX1_leastIdle_11 : decode cX1_leastIdle 11 = .ok (.invokevirtual 98, 3) := by decide +kernel
theorem dX1_leastIdle_14 : decode cX1_leastIdle 14 = .ok (.iconst 0, 1) := by decide +kernel
theorem dX1_leastIdle_15 : decode cX1_leastIdle 15 = .ok (.istore_n 2, 1) := by decide +kernel
theorem dX1_leastIdle_16 : decode cX1_leastIdle 16 = .ok (.iload_n 2, 1) := by decide +kernel
theorem dX1_leastIdle_17 : decode cX1_leastIdle 17 = .ok (.iconst 5, 1) := by decide +kernel
theorem dX1_leastIdle_18 : decode cX1_leastIdle 18 = .ok (.if_icmp .ge 28, 3) := by decide +kernel
theorem dX1_leastIdle_21 : decode cX1_leastIdle 21 = .ok (.aload_n 0, 1) := by decide +kernel
theorem dX1_leastIdle_22 : decode cX1_leastIdle 22 = .ok (.getfield 13, 3) := by decide +kernel
theorem dX1_leastIdle_25 : decode cX1_leastIdle 25 = .ok (.iload_n 2, 1) := by decide +kernel
theorem dX1_leastIdle_26 : decode cX1_leastIdle 26 = .ok (.aload_n 0, 1) := by decide +kernel
theorem dX1_leastIdle_27 : decode cX1_leastIdle 27 = .ok (.getfield 13, 3) := by decide +kernel
theorem dX1_leastIdle_30 : decode cX1_leastIdle 30 = .ok (.iload_n 2, 1) := by decide +kernel
theorem dX1_leastIdle_31 : decode cX1_leastIdle 31 = .ok (.baload, 1) := by decide +kernel
theorem dX1_leastIdle_32 : decode cX1_leastIdle 32 = .ok (.iconst 1, 1) := by decide +kernel
theorem dX1_leastIdle_33 : decode cX1_leastIdle 33 = .ok (.iload_n 1, 1) := by decide +kernel
theorem dX1_leastIdle_34 : decode cX1_leastIdle 34 = .ok (.ishl, 1) := by decide +kernel
theorem dX1_leastIdle_35 : decode cX1_leastIdle 35 = .ok (.iconst (-1), 1) := by decide +kernel
theorem dX1_leastIdle_36 : decode cX1_leastIdle 36 = .ok (.ixor, 1) := by decide +kernel
theorem dX1_leastIdle_37 : decode cX1_leastIdle 37 = .ok (.iand, 1) := by decide +kernel
theorem dX1_leastIdle_38 : decode cX1_leastIdle 38 = .ok (.i2b, 1) := by decide +kernel
theorem dX1_leastIdle_39 : decode cX1_leastIdle 39 = .ok (.bastore, 1) := by decide +kernel
theorem dX1_leastIdle_40 : decode cX1_leastIdle 40 = .ok (.iinc 2 1, 3) := by decide +kernel
theorem dX1_leastIdle_43 : decode cX1_leastIdle 43 = .ok (.goto (-27), 3) := by decide +kernel
theorem dX1_leastIdle_46 : decode cX1_leastIdle 46 = .ok (.aload_n 0, 1) := by decide +kernel
theorem dX1_leastIdle_47 : decode cX1_leastIdle 47 = .ok (.aload_n 0, 1) := by decide +kernel
theorem dX1_leastIdle_48 : decode cX1_leastIdle 48 = .ok (.getfield 46, 3) := by decide +kernel
theorem dX1_leastIdle_51 : decode cX1_leastIdle 51 = .ok (.invokevirtual 101, 3) := by decide +kernel
theorem dX1_leastIdle_54 : decode cX1_leastIdle 54 = .ok (.ireturn, 1) := by decide +kernel
theorem dX1_mostJobs_0 : decode cX1_mostJobs 0 = .ok (.aload_n 0, 1) := by decide +kernel
theorem dX1_mostJobs_1 : decode cX1_mostJobs 1 = .ok (.iload_n 1, 1) := by decide +kernel
theorem dX1_mostJobs_2 : decode cX1_mostJobs 2 = .ok (.invokevirtual 60, 3) := by decide +kernel
theorem dX1_mostJobs_5 : decode cX1_mostJobs 5 = .ok (.ifCond .ne 5, 3) := by decide +kernel
theorem dX1_mostJobs_8 : decode cX1_mostJobs 8 = .ok (.iconst (-1), 1) := by decide +kernel
theorem dX1_mostJobs_9 : decode cX1_mostJobs 9 = .ok (.ireturn, 1) := by decide +kernel
theorem dX1_mostJobs_10 : decode cX1_mostJobs 10 = .ok (.aload_n 0, 1) := by decide +kernel
theorem dX1_mostJobs_11 : decode cX1_mostJobs 11 = .ok (.invokevirtual 98, 3) := by decide +kernel
theorem dX1_mostJobs_14 : decode cX1_mostJobs 14 = .ok (.aload_n 0, 1) := by decide +kernel
theorem dX1_mostJobs_15 : decode cX1_mostJobs 15 = .ok (.iload_n 1, 1) := by decide +kernel
theorem dX1_mostJobs_16 : decode cX1_mostJobs 16 = .ok (.putfield 70, 3) := by decide +kernel
theorem dX1_mostJobs_19 : decode cX1_mostJobs 19 = .ok (.aload_n 0, 1) := by decide +kernel
theorem dX1_mostJobs_20 : decode cX1_mostJobs 20 = .ok (.aload_n 0, 1) := by decide +kernel
theorem dX1_mostJobs_21 : decode cX1_mostJobs 21 = .ok (.getfield 46, 3) := by decide +kernel
theorem dX1_mostJobs_24 : decode cX1_mostJobs 24 = .ok (.invokevirtual 95, 3) := by decide +kernel
theorem dX1_mostJobs_27 : decode cX1_mostJobs 27 = .ok (.istore_n 2, 1) := by decide +kernel
theorem dX1_mostJobs_28 : decode cX1_mostJobs 28 = .ok (.iload_n 2, 1) := by decide +kernel
theorem dX1_mostJobs_29 : decode cX1_mostJobs 29 = .ok (.bipush 7, 2) := by decide +kernel
theorem dX1_mostJobs_31 : decode cX1_mostJobs 31 = .ok (.iadd, 1) := by decide +kernel
theorem dX1_mostJobs_32 : decode cX1_mostJobs 32 = .ok (.iconst 3, 1) := by decide +kernel
theorem dX1_mostJobs_33 : decode cX1_mostJobs 33 = .ok (.ishr, 1) := by decide +kernel
theorem dX1_mostJobs_34 : decode cX1_mostJobs 34 = .ok (.bipush 8, 2) := by decide +kernel
theorem dX1_mostJobs_36 : decode cX1_mostJobs 36 = .ok (.imul, 1) := by decide +kernel
theorem dX1_mostJobs_37 : decode cX1_mostJobs 37 = .ok (.iload_n 2, 1) := by decide +kernel
theorem dX1_mostJobs_38 : decode cX1_mostJobs 38 = .ok (.isub, 1) := by decide +kernel
theorem dX1_mostJobs_39 : decode cX1_mostJobs 39 = .ok (.ireturn, 1) := by decide +kernel
end
end
section
section
set_option maxRecDepth 100000
theorem dX2_init_0 : decode cX2_init 0 = .ok (.aload_n 0, 1) := by decide +kernel
theorem dX2_init_1 : decode cX2_init 1 = .ok (.invokespecial 1, 3) := by decide +kernel
theorem dX2_init_4 : decode cX2_init 4 = .ok (.aload_n 0, 1) := by decide +kernel
theorem dX2_init_5 : decode cX2_init 5 = .ok (.iconst 5, 1) := by decide +kernel
theorem dX2_init_6 : decode cX2_init 6 = .ok (.newarray .boolean, 2) := by decide +kernel
theorem dX2_init_8 : decode cX2_init 8 = .ok (.putfield 7, 3) := by decide +kernel
theorem dX2_init_11 : decode cX2_init 11 = .ok (.aload_n 0, 1) := by decide +kernel
theorem dX2_init_12 : decode cX2_init 12 = .ok (.bipush 20, 2) := by decide +kernel
theorem dX2_init_14 : decode cX2_init 14 = .ok (.newarray .int, 2) := by decide +kernel
theorem dX2_init_16 : decode cX2_init 16 = .ok (.putfield 13, 3) := by decide +kernel
theorem dX2_init_19 : decode cX2_init 19 = .ok (.aload_n 0, 1) := by decide +kernel
theorem dX2_init_20 : decode cX2_init 20 = .ok (.iconst 5, 1) := by decide +kernel
theorem dX2_init_21 : decode cX2_init 21 = .ok (.newarray .int, 2) := by decide +kernel
theorem dX2_init_23 : decode cX2_init 23 = .ok (.putfield 17, 3) := by decide +kernel
theorem dX2_init_26 : decode cX2_init 26 = .ok (.aload_n 0, 1) := by decide +kernel
theorem dX2_init_27 : decode cX2_init 27 = .ok (.iload_n 1, 1) := by decide +kernel
theorem dX2_init_28 : decode cX2_init 28 = .ok (.iconst 1, 1) := by decide +kernel
theorem dX2_init_29 : decode cX2_init 29 = .ok (.if_icmp .ge 7, 3) := by decide +kernel
theorem dX2_init_32 : decode cX2_init 32 = .ok (.iconst 1, 1) := by decide +kernel
theorem dX2_init_33 : decode cX2_init 33 = .ok (.goto 13, 3) := by decide +kernel
theorem dX2_init_36 : decode cX2_init 36 = .ok (.iload_n 1, 1) := by decide +kernel
theorem dX2_init_37 : decode cX2_init 37 = .ok (.iconst 3, 1) := by decide +kernel
theorem dX2_init_38 : decode cX2_init 38 = .ok (.if_icmp .le 7, 3) := by decide +kernel
theorem dX2_init_41 : decode cX2_init 41 = .ok (.iconst 3, 1) := by decide +kernel
theorem dX2_init_42 : decode cX2_init 42 = .ok (.goto 4, 3) := by decide +kernel
theorem dX2_init_45 : decode cX2_init 45 = .ok (.iload_n 1, 1) := by decide +kernel
theorem dX2_init_46 : decode cX2_init 46 = .ok (.putfield 20, 3) := by decide +kernel
theorem dX2_init_49 : decode cX2_init 49 = .ok (.return_, 1) := by decide +kernel
theorem dX2_add_0 : decode cX2_add 0 = .ok (.iload_n 1, 1) := by decide +kernel
theorem dX2_add_1 : decode cX2_add 1 = .ok (.istore 4, 2) := by decide +kernel
theorem dX2_add_3 : decode cX2_add 3 = .ok (.aload_n 0, 1) := by decide +kernel
theorem dX2_add_4 : decode cX2_add 4 = .ok (.getfield 20, 3) := by decide +kernel
theorem dX2_add_7 : decode cX2_add 7 = .ok (.iconst 1, 1) := by decide +kernel
theorem dX2_add_8 : decode cX2_add 8 = .ok (.if_icmp .le 7, 3) := by decide +kernel
theorem dX2_add_11 : decode cX2_add 11 = .ok (.iload_n 2, 1) := by decide +kernel
theorem dX2_add_12 : decode cX2_add 12 = .ok (.goto 4, 3) := by decide +kernel
theorem dX2_add_15 : decode cX2_add 15 = .ok (.iconst 0, 1) := by decide +kernel
theorem dX2_add_16 : decode cX2_add 16 = .ok (.istore 5, 2) := by decide +kernel
theorem dX2_add_18 : decode cX2_add 18 = .ok (.aload_n 0, 1) := by decide +kernel
theorem dX2_add_19 : decode cX2_add 19 = .ok (.getfield 20, 3) := by decide +kernel
theorem dX2_add_22 : decode cX2_add 22 = .ok (.iconst 2, 1) := by decide +kernel
theorem dX2_add_23 : decode cX2_add 23 = .ok (.if_icmp .le 7, 3) := by decide +kernel
theorem dX2_add_26 : decode cX2_add 26 = .ok (.iload_n 3, 1) := by decide +kernel
theorem dX2_add_27 : decode cX2_add 27 = .ok (.goto 4, 3) := by decide +kernel
theorem dX2_add_30 : decode cX2_add 30 = .ok (.iconst 0, 1) := by decide +kernel
theorem dX2_add_31 : decode cX2_add 31 = .ok (.istore 6, 2) := by decide +kernel
theorem dX2_add_33 : decode cX2_add 33 = .ok (.iload 4, 2) := by decide +kernel
theorem dX2_add_35 : decode cX2_add 35 = .ok (.ifCond .lt 49, 3) := by decide +kernel
theorem dX2_add_38 : decode cX2_add 38 = .ok (.iload 4, 2) := by decide +kernel
theorem dX2_add_40 : decode cX2_add 40 = .ok (.bipush 15, 2) := by decide +kernel
theorem dX2_add_42 : decode cX2_add 42 = .ok (.if_icmp .gt 42, 3) := by decide +kernel
theorem dX2_add_45 : decode cX2_add 45 = .ok (.iload 5, 2) := by decide +kernel
theorem dX2_add_47 : decode cX2_add 47 = .ok (.ifCond .lt 37, 3) := by decide +kernel
theorem dX2_add_50 : decode cX2_add 50 = .ok (.iload 5, 2) := by decide +kernel
theorem dX2_add_52 : decode cX2_add 52 = .ok (.bipush 15, 2) := by decide +kernel
theorem dX2_add_54 : decode cX2_add 54 = .ok (.if_icmp .gt 30, 3) := by decide +kernel
theorem dX2_add_57 : decode cX2_add 57 = .ok (.iload 6, 2) := by decide +kernel
theorem dX2_add_59 : decode cX2_add 59 = .ok (.ifCond .lt 25, 3) := by decide +kernel
theorem dX2_add_62 : decode cX2_add 62 = .ok (.iload 6, 2) := by decide +kernel
theorem dX2_add_64 : decode cX2_add 64 = .ok (.bipush 15, 2) := by decide +kernel
theorem dX2_add_66 : decode cX2_add 66 = .ok (.if_icmp .gt 18, 3) := by decide +kernel
theorem dX2_add_69 : decode cX2_add 69 = .ok (.iload 4, 2) := by decide +kernel
theorem dX2_add_71 : decode cX2_add 71 = .ok (.ifCond .ne 15, 3) := by decide +kernel
theorem dX2_add_74 : decode cX2_add 74 = .ok (.iload 5, 2) := by decide +kernel
theorem dX2_add_76 : decode cX2_add 76 = .ok (.ifCond .ne 10, 3) := by decide +kernel
theorem dX2_add_79 : decode cX2_add 79 = .ok (.iload 6, 2) := by decide +kernel
theorem dX2_add_81 : decode cX2_add 81 = .ok (.ifCond .ne 5, 3) := by decide +kernel
theorem dX2_add_84 : decode cX2_add 84 = .ok (.iconst (-1), 1) := by decide +kernel
theorem dX2_add_85 : decode cX2_add 85 = .ok (.ireturn, 1) := by decide +kernel
theorem dX2_add_86 : decode cX2_add 86 = .ok (.iconst 0, 1) := by decide +kernel
theorem dX2_add_87 : decode cX2_add 87 = .ok (.istore 7, 2) := by decide +kernel
theorem dX2_add_89 : decode cX2_add 89 = .ok (.iload 7, 2) := by decide +kernel
theorem dX2_add_91 : decode cX2_add 91 = .ok (.iconst 5, 1) := by decide +kernel
theorem dX2_add_92 : decode cX2_add 92 = .ok (.if_icmp .ge 67, 3) := by decide +kernel
theorem dX2_add_95 : decode cX2_add 95 = .ok (.aload_n 0, 1) := by decide +kernel
theorem dX2_add_96 : decode cX2_add 96 = .ok (.getfield 7, 3) := by decide +kernel
theorem dX2_add_99 : decode cX2_add 99 = .ok (.iload 7, 2) := by decide +kernel
theorem dX2_add_101 : decode cX2_add 101 = .ok (.baload, 1) := by decide +kernel
theorem dX2_add_102 : decode cX2_add 102 = .ok (.ifCond .ne 51, 3) := by decide +kernel
theorem dX2_add_105 : decode cX2_add 105 = .ok (.aload_n 0, 1) := by decide +kernel
theorem dX2_add_106 : decode cX2_add 106 = .ok (.getfield 7, 3) := by decide +kernel
theorem dX2_add_109 : decode cX2_add 109 = .ok (.iload 7, 2) := by decide +kernel
theorem dX2_add_111 : decode cX2_add 111 = .ok (.iconst 1, 1) := by decide +kernel
theorem dX2_add_112 : decode cX2_add 112 = .ok (.bastore, 1) := by decide +kernel
theorem dX2_add_113 : decode cX2_add 113 = .ok (.aload_n 0, 1) := by decide +kernel
theorem dX2_add_114 : decode cX2_add 114 = .ok (.getfield 13, 3) := by decide +kernel
theorem dX2_add_117 : decode cX2_add 117 = .ok (.iconst 4, 1) := by decide +kernel
theorem dX2_add_118 : decode cX2_add 118 = .ok (.iload 7, 2) := by decide +kernel
theorem dX2_add_120 : decode cX2_add 120 = .ok (.imul, 1) := by decide +kernel
theorem dX2_add_121 : decode cX2_add 121 = .ok (.iload 4, 2) := by decide +kernel
theorem dX2_add_123 : decode cX2_add 123 = .ok (.iastore, 1) := by decide +kernel
theorem dX2_add_124 : decode cX2_add 124 = .ok (.aload_n 0, 1) := by decide +kernel
theorem dX2_add_125 : decode cX2_add 125 = .ok (.getfield 13, 3) := by decide +kernel
theorem dX2_add_128 : decode cX2_add 128 = .ok (.iconst 4, 1) := by decide +kernel
theorem dX2_add_129 : decode cX2_add 129 = .ok (.iload 7, 2) := by decide +kernel
theorem dX2_add_131 : decode cX2_add 131 = .ok (.imul, 1) := by decide +kernel
theorem dX2_add_132 : decode cX2_add 132 = .ok (.iconst 1, 1) := by decide +kernel
theorem dX2_add_133 : decode cX2_add 133 = .ok (.iadd, 1) := by decide +kernel
theorem dX2_add_134 : decode cX2_add 134 = .ok (.iload 5, 2) := by decide +kernel
theorem dX2_add_136 : decode cX2_add 136 = .ok (.iastore, 1) := by decide +kernel
theorem dX2_add_137 : decode cX2_add 137 = .ok (.aload_n 0, 1) := by decide +kernel
theorem dX2_add_138 : decode cX2_add 138 = .ok (.getfield 13, 3) := by decide +kernel
theorem dX2_add_141 : decode cX2_add 141 = .ok (.iconst 4, 1) := by decide +kernel
theorem dX2_add_142 : decode cX2_add 142 = .ok (.iload 7, 2) := by decide +kernel
theorem dX2_add_144 : decode cX2_add 144 = .ok (.imul, 1) := by decide +kernel
theorem dX2_add_145 : decode cX2_add 145 = .ok (.iconst 2, 1) := by decide +kernel
theorem dX2_add_146 : decode cX2_add 146 = .ok (.iadd, 1) := by decide +kernel
theorem dX2_add_147 : decode cX2_add 147 = .ok (.iload 6, 2) := by decide +kernel
theorem dX2_add_149 : decode cX2_add 149 = .ok (.iastore, 1) := by decide +kernel
theorem dX2_add_150 : decode cX2_add 150 = .ok (.iload 7, 2) := by decide +kernel
theorem dX2_add_152 : decode cX2_add 152 = .ok (.ireturn, 1) := by decide +kernel
theorem dX2_add_153 : decode cX2_add 153 = .ok (.iinc 7 1, 3) := by decide +kernel
theorem dX2_add_156 : decode cX2_add 156 = .ok (.goto (-67), 3) := by decide +kernel
theorem dX2_add_159 : decode cX2_add 159 = .ok (.bipush (-2), 2) := by decide +kernel
theorem dX2_add_161 : decode cX2_add 161 = .ok (.ireturn, 1) := by decide +kernel
theorem dX2_remove_0 : decode cX2_remove 0 = .ok (.aload_n 0, 1) := by decide +kernel
theorem dX2_remove_1 : decode cX2_remove 1 = .ok (.iload_n 1, 1) := by decide +kernel
theorem dX2_remove_2 : decode cX2_remove 2 = .ok (.invokevirtual 24, 3) := by decide +kernel
theorem dX2_remove_5 : decode cX2_remove 5 = .ok (.ifCond .ne 5, 3) := by decide +kernel
theorem dX2_remove_8 : decode cX2_remove 8 = .ok (.iconst 0, 1) := by decide +kernel
theorem dX2_remove_9 : decode cX2_remove 9 = .ok (.ireturn, 1) := by decide +kernel
theorem dX2_remove_10 : decode cX2_remove 10 = .ok (.aload_n 0, 1) := by decide +kernel
theorem dX2_remove_11 : decode cX2_remove 11 = .ok (.getfield 7, 3) := by decide +kernel
theorem dX2_remove_14 : decode cX2_remove 14 = .ok (.iload_n 1, 1) := by decide +kernel
theorem dX2_remove_15 : decode cX2_remove 15 = .ok (.iconst 0, 1) := by decide +kernel
theorem dX2_remove_16 : decode cX2_remove 16 = .ok (.bastore, 1) := by decide +kernel
theorem dX2_remove_17 : decode cX2_remove 17 = .ok (.iconst 1, 1) := by decide +kernel
theorem dX2_remove_18 : decode cX2_remove 18 = .ok (.ireturn, 1) := by decide +kernel
theorem dX2_is_0 : decode cX2_is 0 = .ok (.iload_n 1, 1) := by decide +kernel
theorem dX2_is_1 : decode cX2_is 1 = .ok (.ifCond .lt 21, 3) := by decide +kernel
theorem dX2_is_4 : decode cX2_is 4 = .ok (.iload_n 1, 1) := by decide +kernel
theorem dX2_is_5 : decode cX2_is 5 = .ok (.iconst 5, 1) := by decide +kernel
theorem dX2_is_6 : decode cX2_is 6 = .ok (.if_icmp .ge 16, 3) := by decide +kernel
theorem dX2_is_9 : decode cX2_is 9 = .ok (.aload_n 0, 1) := by decide +kernel
theorem dX2_is_10 : decode cX2_is 10 = .ok (.getfield 7, 3) := by decide +kernel
theorem dX2_is_13 : decode cX2_is 13 = .ok (.iload_n 1, 1) := by decide +kernel
theorem dX2_is_14 : decode cX2_is 14 = .ok (.baload, 1) := by decide +kernel
theorem dX2_is_15 : decode cX2_is 15 = .ok (.ifCond .eq 7, 3) := by decide +kernel
theorem dX2_is_18 : decode cX2_is 18 = .ok (.iconst 1, 1) := by decide +kernel
theorem dX2_is_19 : decode cX2_is 19 = .ok (.goto 4, 3) := by decide +kernel
theorem dX2_is_22 : decode cX2_is 22 = .ok (.iconst 0, 1) := by decide +kernel
theorem dX2_is_23 : decode cX2_is 23 = .ok (.ireturn, 1) := by decide +kernel
theorem dX2_setTime_0 : decode cX2_setTime 0 = .ok (.aload_n 0, 1) := by decide +kernel
theorem dX2_setTime_1 : decode cX2_setTime 1 = .ok (.iload_n 1, 1) := by decide +kernel
theorem dX2_setTime_2 : decode cX2_setTime 2 = .ok (.invokevirtual 24, 3) := by decide +kernel
theorem dX2_setTime_5 : decode cX2_setTime 5 = .ok (.ifCond .eq 21, 3) := by decide +kernel
theorem dX2_setTime_8 : decode cX2_setTime 8 = .ok (.aload_n 0, 1) := by decide +kernel
theorem dX2_setTime_9 : decode cX2_setTime 9 = .ok (.iload_n 2, 1) := by decide +kernel
theorem dX2_setTime_10 : decode cX2_setTime 10 = .ok (.invokevirtual 28, 3) := by decide +kernel
theorem dX2_setTime_13 : decode cX2_setTime 13 = .ok (.ifCond .eq 13, 3) := by decide +kernel
theorem dX2_setTime_16 : decode cX2_setTime 16 = .ok (.iload_n 3, 1) := by decide +kernel
theorem dX2_setTime_17 : decode cX2_setTime 17 = .ok (.ifCond .lt 9, 3) := by decide +kernel
theorem dX2_setTime_20 : decode cX2_setTime 20 = .ok (.iload_n 3, 1) := by decide +kernel
theorem dX2_setTime_21 : decode cX2_setTime 21 = .ok (.bipush 15, 2) := by decide +kernel
theorem dX2_setTime_23 : decode cX2_setTime 23 = .ok (.if_icmp .le 5, 3) := by decide +kernel
theorem dX2_setTime_26 : decode cX2_setTime 26 = .ok (.iconst 0, 1) := by decide +kernel
theorem dX2_setTime_27 : decode cX2_setTime 27 = .ok (.ireturn, 1) := by decide +kernel
theorem dX2_setTime_28 : decode cX2_setTime 28 = .ok (.aload_n 0, 1) := by decide +kernel
theorem dX2_setTime_29 : decode cX2_setTime 29 = .ok (.getfield 13, 3) := by decide +kernel
theorem dX2_setTime_32 : decode cX2_setTime 32 = .ok (.iconst 4, 1) := by decide +kernel
theorem dX2_setTime_33 : decode cX2_setTime 33 = .ok (.iload_n 1, 1) := by decide +kernel
theorem dX2_setTime_34 : decode cX2_setTime 34 = .ok (.imul, 1) := by decide +kernel
theorem dX2_setTime_35 : decode cX2_setTime 35 = .ok (.iload_n 2, 1) := by decide +kernel
theorem dX2_setTime_36 : decode cX2_setTime 36 = .ok (.iadd, 1) := by decide +kernel
theorem dX2_setTime_37 : decode cX2_setTime 37 = .ok (.iaload, 1) := by decide +kernel
theorem dX2_setTime_38 : decode cX2_setTime 38 = .ok (.istore 4, 2) := by decide +kernel
theorem dX2_setTime_40 : decode cX2_setTime 40 = .ok (.aload_n 0, 1) := by decide +kernel
theorem dX2_setTime_41 : decode cX2_setTime 41 = .ok (.getfield 13, 3) := by decide +kernel
theorem dX2_setTime_44 : decode cX2_setTime 44 = .ok (.iconst 4, 1) := by decide +kernel
theorem dX2_setTime_45 : decode cX2_setTime 45 = .ok (.iload_n 1, 1) := by decide +kernel
theorem dX2_setTime_46 : decode cX2_setTime 46 = .ok (.imul, 1) := by decide +kernel
theorem dX2_setTime_47 : decode cX2_setTime 47 = .ok (.iload_n 2, 1) := by decide +kernel
theorem dX2_setTime_48 : decode cX2_setTime 48 = .ok (.iadd, 1) := by decide +kernel
theorem dX2_setTime_49 : decode cX2_setTime 49 = .ok (.iload_n 3, 1) := by decide +kernel
theorem dX2_setTime_50 : decode cX2_setTime 50 = .ok (.iastore, 1) := by decide +kernel
theorem dX2_setTime_51 : decode cX2_setTime 51 = .ok (.aload_n 0, 1) := by decide +kernel
theorem dX2_setTime_52 : decode cX2_setTime 52 = .ok (.getfield 13, 3) := by decide +kernel
theorem dX2_setTime_55 : decode cX2_setTime 55 = .ok (.iconst 4, 1) := by decide +kernel
theorem dX2_setTime_56 : decode cX2_setTime 56 = .ok (.iload_n 1, 1) := by decide +kernel
theorem dX2_setTime_57 : decode cX2_setTime 57 = .ok (.imul, 1) := by decide +kernel
theorem dX2_setTime_58 : decode cX2_setTime 58 = .ok (.iaload, 1) := by decide +kernel
theorem dX2_setTime_59 : decode cX2_setTime 59 = .ok (.aload_n 0, 1) := by decide +kernel
theorem dX2_setTime_60 : decode cX2_setTime 60 = .ok (.getfield 13, 3) := by decide +kernel
theorem dX2_setTime_63 : decode cX2_setTime 63 = .ok (.iconst 4, 1) := by decide +kernel
theorem dX2_setTime_64 : decode cX2_setTime 64 = .ok (.iload_n 1, 1) := by decide +kernel
theorem dX2_setTime_65 : decode cX2_setTime 65 = .ok (.imul, 1) := by decide +kernel
theorem dX2_setTime_66 : decode cX2_setTime 66 = .ok (.iconst 1, 1) := by decide +kernel
theorem dX2_setTime_67 : decode cX2_setTime 67 = .ok (.iadd, 1) := by decide +kernel
theorem dX2_setTime_68 : decode cX2_setTime 68 = .ok (.iaload, 1) := by decide +kernel
theorem dX2_setTime_69 : decode cX2_setTime 69 = .ok (.iadd, 1) := by decide +kernel
theorem dX2_setTime_70 : decode cX2_setTime 70 = .ok (.aload_n 0, 1) := by decide +kernel
theorem dX2_setTime_71 : decode cX2_setTime 71 = .ok (.getfield 13, 3) := by decide +kernel
theorem dX2_setTime_74 : decode cX2_setTime 74 = .ok (.iconst 4, 1) := by decide +kernel
theorem dX2_setTime_75 : decode cX2_setTime 75 = .ok (.iload_n 1, 1) := by decide +kernel
theorem dX2_setTime_76 : decode cX2_setTime 76 = .ok (.imul, 1) := by decide +kernel
theorem dX2_setTime_77 : decode cX2_setTime 77 = .ok (.iconst 2, 1) := by decide +kernel
theorem dX2_setTime_78 : decode cX2_setTime 78 = .ok (.iadd, 1) := by decide +kernel
theorem dX2_setTime_79 : decode cX2_setTime 79 = .ok (.iaload, 1) := by decide +kernel
theorem dX2_setTime_80 : decode cX2_setTime 80 = .ok (.iadd, 1) := by decide +kernel
theorem dX2_setTime_81 : decode cX2_setTime 81 = .ok (.ifCond .le 5, 3) := by decide +kernel
theorem dX2_setTime_84 : decode cX2_setTime 84 = .ok (.iconst 1, 1) := by decide +kernel
theorem dX2_setTime_85 : decode cX2_setTime 85 = .ok (.ireturn, 1) := by decide +kernel
theorem dX2_setTime_86 : decode cX2_setTime 86 = .ok (.aload_n 0, 1) := by decide +kernel
theorem dX2_setTime_87 : decode cX2_setTime 87 = .ok (.getfield 13, 3) := by decide +kernel
theorem dX2_setTime_90 : decode cX2_setTime 90 = .ok (.iconst 4, 1) := by decide +kernel
theorem dX2_setTime_91 : decode cX2_setTime 91 = .ok (.iload_n 1, 1) := by decide +kernel
theorem dX2_setTime_92 : decode cX2_setTime 92 = .ok (.imul, 1) := by decide +kernel
theorem dX2_setTime_93 : decode cX2_setTime 93 = .ok (.iload_n 2, 1) := by decide +kernel
theorem dX2_setTime_94 : decode cX2_setTime 94 = .ok (.iadd, 1) := by decide +kernel
theorem dX2_setTime_95 : decode cX2_setTime 95 = .ok (.iload 4, 2) := by decide +kernel
theorem dX2_setTime_97 : decode cX2_setTime 97 = .ok (.iastore, 1) := by decide +kernel
theorem dX2_setTime_98 : decode cX2_setTime 98 = .ok (.iconst 0, 1) := by decide +kernel
theorem dX2_setTime_99 : decode cX2_setTime 99 = .ok (.ireturn, 1) := by decide +kernel
theorem dX2_machine_0 : decode cX2_machine 0 = .ok (.iload_n 1, 1) := by decide +kernel
theorem dX2_machine_1 : decode cX2_machine 1 = .ok (.ifCond .lt 15, 3) := by decide +kernel
theorem dX2_machine_4 : decode cX2_machine 4 = .ok (.iload_n 1, 1) := by decide +kernel
theorem dX2_machine_5 : decode cX2_machine 5 = .ok (.aload_n 0, 1) := by decide +kernel
theorem dX2_machine_6 : decode cX2_machine 6 = .ok (.getfield 20, 3) := by decide +kernel
theorem dX2_machine_9 : decode cX2_machine 9 = .ok (.if_icmp .ge 7, 3) := by decide +kernel
theorem dX2_machine_12 : decode cX2_machine 12 = .ok (.iconst 1, 1) := by decide +kernel
theorem dX2_machine_13 : decode cX2_machine 13 = .ok (.goto 4, 3) := by decide +kernel
theorem dX2_machine_16 : decode cX2_machine 16 = .ok (.iconst 0, 1) := by decide +kernel
theorem dX2_machine_17 : decode cX2_machine 17 = .ok (.ireturn, 1) := by decide +kernel
theorem dX2_jobs_0 : decode cX2_jobs 0 = .ok (.iconst 0, 1) := by decide +kernel
theorem dX2_jobs_1 : decode cX2_jobs 1 = .ok (.istore_n 1, 1) := by decide +kernel
theorem dX2_jobs_2 : decode cX2_jobs 2 = .ok (.iconst 0, 1) := by decide +kernel
theorem dX2_jobs_3 : decode cX2_jobs 3 = .ok (.istore_n 2, 1) := by decide +kernel
theorem dX2_jobs_4 : decode cX2_jobs 4 = .ok (.iload_n 2, 1) := by decide +kernel
theorem dX2_jobs_5 : decode cX2_jobs 5 = .ok (.iconst 5, 1) := by decide +kernel
theorem dX2_jobs_6 : decode cX2_jobs 6 = .ok (.if_icmp .ge 28, 3) := by decide +kernel
theorem dX2_jobs_9 : decode cX2_jobs 9 = .ok (.iload_n 1, 1) := by decide +kernel
theorem dX2_jobs_10 : decode cX2_jobs 10 = .ok (.aload_n 0, 1) := by decide +kernel
theorem dX2_jobs_11 : decode cX2_jobs 11 = .ok (.getfield 7, 3) := by decide +kernel
theorem dX2_jobs_14 : decode cX2_jobs 14 = .ok (.iload_n 2, 1) := by decide +kernel
theorem dX2_jobs_15 : decode cX2_jobs 15 = .ok (.baload, 1) := by decide +kernel
theorem dX2_jobs_16 : decode cX2_jobs 16 = .ok (.ifCond .eq 9, 3) := by decide +kernel
theorem dX2_jobs_19 : decode cX2_jobs 19 = .ok (.iconst 1, 1) := by decide +kernel
theorem dX2_jobs_20 : decode cX2_jobs 20 = .ok (.iload_n 2, 1) := by decide +kernel
theorem dX2_jobs_21 : decode cX2_jobs 21 = .ok (.ishl, 1) := by decide +kernel
theorem dX2_jobs_22 : decode cX2_jobs 22 = .ok (.goto 4, 3) := by decide +kernel
theorem dX2_jobs_25 : decode cX2_jobs 25 = .ok (.iconst 0, 1) := by decide +kernel
theorem dX2_jobs_26 : decode cX2_jobs 26 = .ok (.ior, 1) := by decide +kernel
theorem dX2_jobs_27 : decode cX2_jobs 27 = .ok (.istore_n 1, 1) := by decide +kernel
theorem dX2_jobs_28 : decode cX2_jobs 28 = .ok (.iinc 2 1, 3) := by decide +kernel
theorem dX2_jobs_31 : decode cX2_jobs 31 = .ok (.goto (-27), 3) := by decide +kernel
theorem dX2_jobs_34 : decode cX2_jobs 34 = .ok (.iload_n 1, 1) := by decide +kernel
theorem dX2_jobs_35 : decode cX2_jobs 35 = .ok (.ireturn, 1) := by decide +kernel
theorem dX2_time_0 : decode cX2_time 0 = .ok (.aload_n 0, 1) := by decide +kernel
theorem dX2_time_1 : decode cX2_time 1 = .ok (.iload_n 1, 1) := by decide +kernel
theorem dX2_time_2 : decode cX2_time 2 = .ok (.invokevirtual 24, 3) := by decide +kernel
theorem dX2_time_5 : decode cX2_time 5 = .ok (.ifCond .eq 24, 3) := by decide +kernel
theorem dX2_time_8 : decode cX2_time 8 = .ok (.aload_n 0, 1) := by decide +kernel
theorem dX2_time_9 : decode cX2_time 9 = .ok (.iload_n 2, 1) := by decide +kernel
theorem dX2_time_10 : decode cX2_time 10 = .ok (.invokevirtual 28, 3) := by decide +kernel
theorem dX2_time_13 : decode cX2_time 13 = .ok (.ifCond .eq 16, 3) := by decide +kernel
theorem dX2_time_16 : decode cX2_time 16 = .ok (.aload_n 0, 1) := by decide +kernel
theorem dX2_time_17 : decode cX2_time 17 = .ok (.getfield 13, 3) := by decide +kernel
theorem dX2_time_20 : decode cX2_time 20 = .ok (.iconst 4, 1) := by decide +kernel
theorem dX2_time_21 : decode cX2_time 21 = .ok (.iload_n 1, 1) := by decide +kernel
theorem dX2_time_22 : decode cX2_time 22 = .ok (.imul, 1) := by decide +kernel
theorem dX2_time_23 : decode cX2_time 23 = .ok (.iload_n 2, 1) := by decide +kernel
theorem dX2_time_24 : decode cX2_time 24 = .ok (.iadd, 1) := by decide +kernel
theorem dX2_time_25 : decode cX2_time 25 = .ok (.iaload, 1) := by decide +kernel
theorem dX2_time_26 : decode cX2_time 26 = .ok (.goto 4, 3) := by decide +kernel
theorem dX2_time_29 : decode cX2_time 29 = .ok (.iconst (-1), 1) := by decide +kernel
theorem dX2_time_30 : decode cX2_time 30 = .ok (.ireturn, 1) := by decide +kernel
theorem dX2_least_0 : decode cX2_least 0 = .ok (.aload_n 0, 1) := by decide +kernel
theorem dX2_least_1 : decode cX2_least 1 = .ok (.aload_n 0, 1) := by decide +kernel
theorem dX2_least_2 : decode cX2_least 2 = .ok (.invokevirtual 51, 3) := by decide +kernel
theorem dX2_least_5 : decode cX2_least 5 = .ok (.iconst (-1), 1) := by decide +kernel
theorem dX2_least_6 : decode cX2_least 6 = .ok (.iconst 0, 1) := by decide +kernel
theorem dX2_least_7 : decode cX2_least 7 = .ok (.invokevirtual 54, 3) := by decide +kernel
theorem dX2_least_10 : decode cX2_least 10 = .ok (.ireturn, 1) := by decide +kernel
theorem dX2_all_0 : decode cX2_all 0 = .ok (.iconst 1, 1) := by decide +kernel
theorem dX2_all_1 : decode cX2_all 1 = .ok (.aload_n 0, 1) := by decide +kernel
theorem dX2_all_2 : decode cX2_all 2 = .ok (.getfield 20, 3) := by decide +kernel
theorem dX2_all_5 : decode cX2_all 5 = .ok (.ishl, 1) := by decide +kernel
theorem dX2_all_6 : decode cX2_all 6 = .ok (.iconst 1, 1) := by decide +kernel
theorem dX2_all_7 : decode cX2_all 7 = .ok (.isub, 1) := by decide +kernel
theorem dX2_all_8 : decode cX2_all 8 = .ok (.ireturn, 1) := by decide +kernel
theorem dX2_leastOf_0 : decode cX2_leastOf 0 = .ok (.aload_n 0, 1) := by decide +kernel
theorem dX2_leastOf_1 : decode cX2_leastOf 1 = .ok (.iload_n 1, 1) := by decide +kernel
theorem dX2_leastOf_2 : decode cX2_leastOf 2 = .ok (.putfield 31, 3) := by decide +kernel
theorem dX2_leastOf_5 : decode cX2_leastOf 5 = .ok (.aload_n 0, 1) := by decide +kernel
theorem dX2_leastOf_6 : decode cX2_leastOf 6 = .ok (.iload_n 2, 1) := by decide +kernel
theorem dX2_leastOf_7 : decode cX2_leastOf 7 = .ok (.putfield 34, 3) := by decide +kernel
theorem dX2_leastOf_10 : decode cX2_leastOf 10 = .ok (.aload_n 0, 1) := by decide +kernel
theorem dX2_leastOf_11 : decode cX2_leastOf 11 = .ok (.iload_n 3, 1) := by decide +kernel
theorem dX2_leastOf_12 : decode cX2_leastOf 12 = .ok (.putfield 37, 3) := by decide +kernel
theorem dX2_leastOf_15 : decode cX2_leastOf 15 = .ok (.iconst (-1), 1) := by decide +kernel
theorem dX2_leastOf_16 : decode cX2_leastOf 16 = .ok (.istore 4, 2) := by decide +kernel
theorem dX2_leastOf_18 : decode cX2_leastOf 18 = .ok (.iconst 0, 1) := by decide +kernel
theorem dX2_leastOf_19 : decode cX2_leastOf 19 = .ok (.istore 5, 2) := by decide +kernel
theorem dX2_leastOf_21 : decode cX2_leastOf 21 = .ok (.iload 5, 2) := by decide +kernel
theorem dX2_leastOf_23 : decode cX2_leastOf 23 = .ok (.sipush 1024, 3) := by decide +kernel
theorem dX2_leastOf_26 : decode cX2_leastOf 26 = .ok (.if_icmp .ge 45, 3) := by decide +kernel
theorem dX2_leastOf_29 : decode cX2_leastOf 29 = .ok (.aload_n 0, 1) := by decide +kernel
theorem dX2_leastOf_30 : decode cX2_leastOf 30 = .ok (.iload 5, 2) := by decide +kernel
theorem dX2_leastOf_32 : decode cX2_leastOf 32 = .ok (.invokevirtual 44, 3) := by decide +kernel
theorem dX2_leastOf_35 : decode cX2_leastOf 35 = .ok (.ifCond .eq 30, 3) := by decide +kernel
theorem dX2_leastOf_38 : decode cX2_leastOf 38 = .ok (.aload_n 0, 1) := by decide +kernel
theorem dX2_leastOf_39 : decode cX2_leastOf 39 = .ok (.invokevirtual 47, 3) := by decide +kernel
theorem dX2_leastOf_42 : decode cX2_leastOf 42 = .ok (.istore 6, 2) := by decide +kernel
theorem dX2_leastOf_44 : decode cX2_leastOf 44 = .ok (.iload 4, 2) := by decide +kernel
theorem dX2_leastOf_46 : decode cX2_leastOf 46 = .ok (.ifCond .lt 10, 3) := by decide +kernel
theorem dX2_leastOf_49 : decode cX2_leastOf 49 = .ok (.iload 6, 2) := by decide +kernel
theorem dX2_leastOf_51 : decode cX2_leastOf 51 = .ok (.iload 4, 2) := by decide +kernel
theorem dX2_leastOf_53 : decode cX2_leastOf 53 = .ok (.if_icmp .ge 8, 3) := by decide +kernel
theorem dX2_leastOf_56 : decode cX2_leastOf 56 = .ok (.iload 6, 2) := by decide +kernel
theorem dX2_leastOf_58 : decode cX2_leastOf 58 = .ok (.goto 5, 3) := by decide +kernel
theorem dX2_leastOf_61 : decode cX2_leastOf 61 = .ok (.iload 4, 2) := by decide +kernel
theorem dX2_leastOf_63 : decode cX2_leastOf 63 = .ok (.istore 4, 2) := by decide +kernel
theorem dX2_leastOf_65 : decode cX2_leastOf 65 = .ok (.iinc 5 1, 3) := by decide +kernel
theorem dX2_leastOf_68 : decode cX2_leastOf 68 = .ok (.goto (-47), 3) := by decide +kernel
theorem dX2_leastOf_71 : decode cX2_leastOf 71 = .ok (.iload 4, 2) := by decide +kernel
theorem dX2_leastOf_73 : decode cX2_leastOf 73 = .ok (.ireturn, 1) := by decide +kernel
theorem dX2_way_0 : decode cX2_way 0 = .ok (.iconst 1, 1) := by decide +kernel
theorem dX2_way_1 : decode cX2_way 1 = .ok (.istore_n 2, 1) := by decide +kernel
theorem dX2_way_2 : decode cX2_way 2 = .ok (.iconst 0, 1) := by decide +kernel
theorem dX2_way_3 : decode cX2_way 3 = .ok (.istore_n 3, 1) := by decide +kernel
theorem dX2_way_4 : decode cX2_way 4 = .ok (.iload_n 3, 1) := by decide +kernel
theorem dX2_way_5 : decode cX2_way 5 = .ok (.iconst 5, 1) := by decide +kernel
theorem dX2_way_6 : decode cX2_way 6 = .ok (.if_icmp .ge 124, 3) := by decide +kernel
theorem dX2_way_9 : decode cX2_way 9 = .ok (.aload_n 0, 1) := by decide +kernel
theorem dX2_way_10 : decode cX2_way 10 = .ok (.getfield 17, 3) := by decide +kernel
theorem dX2_way_13 : decode cX2_way 13 = .ok (.iload_n 3, 1) := by decide +kernel
theorem dX2_way_14 : decode cX2_way 14 = .ok (.iload_n 1, 1) := by decide +kernel
theorem dX2_way_15 : decode cX2_way 15 = .ok (.bipush 8, 2) := by decide +kernel
theorem dX2_way_17 : decode cX2_way 17 = .ok (.iconst 2, 1) := by decide +kernel
theorem dX2_way_18 : decode cX2_way 18 = .ok (.iload_n 3, 1) := by decide +kernel
theorem dX2_way_19 : decode cX2_way 19 = .ok (.imul, 1) := by decide +kernel
theorem dX2_way_20 : decode cX2_way 20 = .ok (.isub, 1) := by decide +kernel
theorem dX2_way_21 : decode cX2_way 21 = .ok (.ishr, 1) := by decide +kernel
theorem dX2_way_22 : decode cX2_way 22 = .ok (.iconst 3, 1) := by decide +kernel
theorem dX2_way_23 : decode cX2_way 23 = .ok (.iand, 1) := by decide +kernel
theorem dX2_way_24 : decode cX2_way 24 = .ok (.iastore, 1) := by decide +kernel
theorem dX2_way_25 : decode cX2_way 25 = .ok (.aload_n 0, 1) := by decide +kernel
theorem dX2_way_26 : decode cX2_way 26 = .ok (.getfield 13, 3) := by decide +kernel
theorem dX2_way_29 : decode cX2_way 29 = .ok (.iconst 4, 1) := by decide +kernel
theorem dX2_way_30 : decode cX2_way 30 = .ok (.iload_n 3, 1) := by decide +kernel
theorem dX2_way_31 : decode cX2_way 31 = .ok (.imul, 1) := by decide +kernel
theorem dX2_way_32 : decode cX2_way 32 = .ok (.aload_n 0, 1) := by decide +kernel
theorem dX2_way_33 : decode cX2_way 33 = .ok (.getfield 17, 3) := by decide +kernel
theorem dX2_way_36 : decode cX2_way 36 = .ok (.iload_n 3, 1) := by decide +kernel
theorem dX2_way_37 : decode cX2_way 37 = .ok (.iaload, 1) := by decide +kernel
theorem dX2_way_38 : decode cX2_way 38 = .ok (.iadd, 1) := by decide +kernel
theorem dX2_way_39 : decode cX2_way 39 = .ok (.iaload, 1) := by decide +kernel
theorem dX2_way_40 : decode cX2_way 40 = .ok (.ifCond .le 45, 3) := by decide +kernel
theorem dX2_way_43 : decode cX2_way 43 = .ok (.aload_n 0, 1) := by decide +kernel
theorem dX2_way_44 : decode cX2_way 44 = .ok (.getfield 31, 3) := by decide +kernel
theorem dX2_way_47 : decode cX2_way 47 = .ok (.aload_n 0, 1) := by decide +kernel
theorem dX2_way_48 : decode cX2_way 48 = .ok (.getfield 17, 3) := by decide +kernel
theorem dX2_way_51 : decode cX2_way 51 = .ok (.iload_n 3, 1) := by decide +kernel
theorem dX2_way_52 : decode cX2_way 52 = .ok (.iaload, 1) := by decide +kernel
theorem dX2_way_53 : decode cX2_way 53 = .ok (.ishr, 1) := by decide +kernel
theorem dX2_way_54 : decode cX2_way 54 = .ok (.iconst 1, 1) := by decide +kernel
theorem dX2_way_55 : decode cX2_way 55 = .ok (.iand, 1) := by decide +kernel
theorem dX2_way_56 : decode cX2_way 56 = .ok (.iconst 1, 1) := by decide +kernel
theorem dX2_way_57 : decode cX2_way 57 = .ok (.if_icmp .ne 28, 3) := by decide +kernel
theorem dX2_way_60 : decode cX2_way 60 = .ok (.iload_n 3, 1) := by decide +kernel
theorem dX2_way_61 : decode cX2_way 61 = .ok (.aload_n 0, 1) := by decide +kernel
theorem dX2_way_62 : decode cX2_way 62 = .ok (.getfield 34, 3) := by decide +kernel
theorem dX2_way_65 : decode cX2_way 65 = .ok (.if_icmp .ne 16, 3) := by decide +kernel
theorem dX2_way_68 : decode cX2_way 68 = .ok (.aload_n 0, 1) := by decide +kernel
theorem dX2_way_69 : decode cX2_way 69 = .ok (.getfield 17, 3) := by decide +kernel
theorem dX2_way_72 : decode cX2_way 72 = .ok (.iload_n 3, 1) := by decide +kernel
theorem dX2_way_73 : decode cX2_way 73 = .ok (.iaload, 1) := by decide +kernel
theorem dX2_way_74 : decode cX2_way 74 = .ok (.aload_n 0, 1) := by decide +kernel
theorem dX2_way_75 : decode cX2_way 75 = .ok (.getfield 37, 3) := by decide +kernel
theorem dX2_way_78 : decode cX2_way 78 = .ok (.if_icmp .ne 7, 3) := by decide +kernel
theorem dX2_way_81 : decode cX2_way 81 = .ok (.iconst 1, 1) := by decide +kernel
theorem dX2_way_82 : decode cX2_way 82 = .ok (.goto 4, 3) := by decide +kernel
theorem dX2_way_85 : decode cX2_way 85 = .ok (.iconst 0, 1) := by decide +kernel
theorem dX2_way_86 : decode cX2_way 86 = .ok (.istore 4, 2) := by decide +kernel
theorem dX2_way_88 : decode cX2_way 88 = .ok (.iload_n 2, 1) := by decide +kernel
theorem dX2_way_89 : decode cX2_way 89 = .ok (.ifCond .eq 33, 3) := by decide +kernel
theorem dX2_way_92 : decode cX2_way 92 = .ok (.aload_n 0, 1) := by decide +kernel
theorem dX2_way_93 : decode cX2_way 93 = .ok (.getfield 7, 3) := by decide +kernel
theorem dX2_way_96 : decode cX2_way 96 = .ok (.iload_n 3, 1) := by decide +kernel
theorem dX2_way_97 : decode cX2_way 97 = .ok (.baload, 1) := by decide +kernel
theorem dX2_way_98 : decode cX2_way 98 = .ok (.ifCond .eq 11, 3) := by decide +kernel
theorem dX2_way_101 : decode cX2_way 101 = .ok (.iload 4, 2) := by decide +kernel
theorem dX2_way_103 : decode cX2_way 103 = .ok (.ifCond .eq 19, 3) := by decide +kernel
theorem dX2_way_106 : decode cX2_way 106 = .ok (.goto 12, 3) := by decide +kernel
theorem dX2_way_109 : decode cX2_way 109 = .ok (.aload_n 0, 1) := by decide +kernel
theorem dX2_way_110 : decode cX2_way 110 = .ok (.getfield 17, 3) := by decide +kernel
theorem dX2_way_113 : decode cX2_way 113 = .ok (.iload_n 3, 1) := by decide +kernel
theorem dX2_way_114 : decode cX2_way 114 = .ok (.iaload, 1) := by decide +kernel
theorem dX2_way_115 : decode cX2_way 115 = .ok (.ifCond .ne 7, 3) := by decide +kernel
theorem dX2_way_118 : decode cX2_way 118 = .ok (.iconst 1, 1) := by decide +kernel
theorem dX2_way_119 : decode cX2_way 119 = .ok (.goto 4, 3) := by decide +kernel
theorem dX2_way_122 : decode cX2_way 122 = .ok (.iconst 0, 1) := by decide +kernel
theorem dX2_way_123 : decode cX2_way 123 = .ok (.istore_n 2, 1) := by decide +kernel
theorem dX2_way_124 : decode cX2_way 124 = .ok (.iinc 3 1, 3) := by decide +kernel
theorem dX2_way_127 : decode cX2_way 127 = .ok (.goto (-123), 3) := by decide +kernel
theorem dX2_way_130 : decode cX2_way 130 = .ok (.iload_n 2, 1) := by decide +kernel
theorem dX2_way_131 : decode cX2_way 131 = .ok (.ireturn, 1) := by decide +kernel
theorem dX2_sum_0 : decode cX2_sum 0 = .ok (.iconst 0, 1) := by decide +kernel
theorem dX2_sum_1 : decode cX2_sum 1 = .ok (.istore_n 1, 1) := by decide +kernel
theorem dX2_sum_2 : decode cX2_sum 2 = .ok (.iconst 0, 1) := by decide +kernel
theorem dX2_sum_3 : decode cX2_sum 3 = .ok (.istore_n 2, 1) := by decide +kernel
theorem dX2_sum_4 : decode cX2_sum 4 = .ok (.iload_n 2, 1) := by decide +kernel
theorem dX2_sum_5 : decode cX2_sum 5 = .ok (.iconst 5, 1) := by decide +kernel
theorem dX2_sum_6 : decode cX2_sum 6 = .ok (.if_icmp .ge 30, 3) := by decide +kernel
theorem dX2_sum_9 : decode cX2_sum 9 = .ok (.iload_n 1, 1) := by decide +kernel
theorem dX2_sum_10 : decode cX2_sum 10 = .ok (.aload_n 0, 1) := by decide +kernel
theorem dX2_sum_11 : decode cX2_sum 11 = .ok (.getfield 7, 3) := by decide +kernel
theorem dX2_sum_14 : decode cX2_sum 14 = .ok (.iload_n 2, 1) := by decide +kernel
theorem dX2_sum_15 : decode cX2_sum 15 = .ok (.baload, 1) := by decide +kernel
theorem dX2_sum_16 : decode cX2_sum 16 = .ok (.ifCond .eq 11, 3) := by decide +kernel
theorem dX2_sum_19 : decode cX2_sum 19 = .ok (.aload_n 0, 1) := by decide +kernel
theorem dX2_sum_20 : decode cX2_sum 20 = .ok (.iload_n 2, 1) := by decide +kernel
theorem dX2_sum_21 : decode cX2_sum 21 = .ok (.invokevirtual 40, 3) := by decide +kernel
theorem dX2_sum_24 : decode cX2_sum 24 = .ok (.goto 4, 3) := by decide +kernel
theorem dX2_sum_27 : decode cX2_sum 27 = .ok (.iconst 0, 1) := by decide +kernel
theorem dX2_sum_28 : decode cX2_sum 28 = .ok (.iadd, 1) := by decide +kernel
theorem dX2_sum_29 : decode cX2_sum 29 = .ok (.istore_n 1, 1) := by decide +kernel
theorem dX2_sum_30 : decode cX2_sum 30 = .ok (.iinc 2 1, 3) := by decide +kernel
theorem dX2_sum_33 : decode cX2_sum 33 = .ok (.goto (-29), 3) := by decide +kernel
theorem dX2_sum_36 : decode cX2_sum 36 = .ok (.iload_n 1, 1) := by decide +kernel
theorem dX2_sum_37 : decode cX2_sum 37 = .ok (.ireturn, 1) := by decide +kernel
theorem dX2_finish_0 : decode cX2_finish 0 = .ok (.aload_n 0, 1) := by decide +kernel
theorem dX2_finish_1 : decode cX2_finish 1 = .ok (.getfield 13, 3) := by decide +kernel
theorem dX2_finish_4 : decode cX2_finish 4 = .ok (.iconst 4, 1) := by decide +kernel
theorem dX2_finish_5 : decode cX2_finish 5 = .ok (.iload_n 1, 1) := by decide +kernel
theorem dX2_finish_6 : decode cX2_finish 6 = .ok (.imul, 1) := by decide +kernel
theorem dX2_finish_7 : decode cX2_finish 7 = .ok (.aload_n 0, 1) := by decide +kernel
theorem dX2_finish_8 : decode cX2_finish 8 = .ok (.getfield 17, 3) := by decide +kernel
theorem dX2_finish_11 : decode cX2_finish 11 = .ok (.iload_n 1, 1) := by decide +kernel
theorem dX2_finish_12 : decode cX2_finish 12 = .ok (.iaload, 1) := by decide +kernel
theorem dX2_finish_13 : decode cX2_finish 13 = .ok (.iadd, 1) := by decide +kernel
theorem dX2_finish_14 : decode cX2_finish 14 = .ok (.iaload, 1) := by decide +kernel
theorem dX2_finish_15 : decode cX2_finish 15 = .ok (.istore_n 2, 1) := by decide +kernel
theorem dX2_finish_16 : decode cX2_finish 16 = .ok (.iload_n 2, 1) := by decide +kernel
theorem dX2_finish_17 : decode cX2_finish 17 = .ok (.istore_n 3, 1) := by decide +kernel
theorem dX2_finish_18 : decode cX2_finish 18 = .ok (.iconst 0, 1) := by decide +kernel
theorem dX2_finish_19 : decode cX2_finish 19 = .ok (.istore 4, 2) := by decide +kernel
theorem dX2_finish_21 : decode cX2_finish 21 = .ok (.iload 4, 2) := by decide +kernel
theorem dX2_finish_23 : decode cX2_finish 23 = .ok (.iconst 5, 1) := by decide +kernel
theorem dX2_finish_24 : decode cX2_finish 24 = .ok (.if_icmp .ge 99, 3) := by decide +kernel
theorem dX2_finish_27 : decode cX2_finish 27 = .ok (.aload_n 0, 1) := by decide +kernel
theorem dX2_finish_28 : decode cX2_finish 28 = .ok (.getfield 13, 3) := by decide +kernel
theorem dX2_finish_31 : decode cX2_finish 31 = .ok (.iconst 4, 1) := by decide +kernel
theorem dX2_finish_32 : decode cX2_finish 32 = .ok (.iload 4, 2) := by decide +kernel
theorem dX2_finish_34 : decode cX2_finish 34 = .ok (.imul, 1) := by decide +kernel
theorem dX2_finish_35 : decode cX2_finish 35 = .ok (.aload_n 0, 1) := by decide +kernel
theorem dX2_finish_36 : decode cX2_finish 36 = .ok (.getfield 17, 3) := by decide +kernel
theorem dX2_finish_39 : decode cX2_finish 39 = .ok (.iload 4, 2) := by decide +kernel
theorem dX2_finish_41 : decode cX2_finish 41 = .ok (.iaload, 1) := by decide +kernel
theorem dX2_finish_42 : decode cX2_finish 42 = .ok (.iadd, 1) := by decide +kernel
theorem dX2_finish_43 : decode cX2_finish 43 = .ok (.iaload, 1) := by decide +kernel
theorem dX2_finish_44 : decode cX2_finish 44 = .ok (.istore 5, 2) := by decide +kernel
theorem dX2_finish_46 : decode cX2_finish 46 = .ok (.iload 5, 2) := by decide +kernel
theorem dX2_finish_48 : decode cX2_finish 48 = .ok (.iload_n 2, 1) := by decide +kernel
theorem dX2_finish_49 : decode cX2_finish 49 = .ok (.if_icmp .lt 15, 3) := by decide +kernel
theorem dX2_finish_52 : decode cX2_finish 52 = .ok (.iload 5, 2) := by decide +kernel
theorem dX2_finish_54 : decode cX2_finish 54 = .ok (.iload_n 2, 1) := by decide +kernel
theorem dX2_finish_55 : decode cX2_finish 55 = .ok (.if_icmp .ne 13, 3) := by decide +kernel
theorem dX2_finish_58 : decode cX2_finish 58 = .ok (.iload 4, 2) := by decide +kernel
theorem dX2_finish_60 : decode cX2_finish 60 = .ok (.iload_n 1, 1) := by decide +kernel
theorem dX2_finish_61 : decode cX2_finish 61 = .ok (.if_icmp .ge 7, 3) := by decide +kernel
theorem dX2_finish_64 : decode cX2_finish 64 = .ok (.iconst 1, 1) := by decide +kernel
theorem dX2_finish_65 : decode cX2_finish 65 = .ok (.goto 4, 3) := by decide +kernel
theorem dX2_finish_68 : decode cX2_finish 68 = .ok (.iconst 0, 1) := by decide +kernel
theorem dX2_finish_69 : decode cX2_finish 69 = .ok (.istore 6, 2) := by decide +kernel
theorem dX2_finish_71 : decode cX2_finish 71 = .ok (.iload_n 3, 1) := by decide +kernel
theorem dX2_finish_72 : decode cX2_finish 72 = .ok (.aload_n 0, 1) := by decide +kernel
theorem dX2_finish_73 : decode cX2_finish 73 = .ok (.getfield 7, 3) := by decide +kernel
theorem dX2_finish_76 : decode cX2_finish 76 = .ok (.iload 4, 2) := by decide +kernel
theorem dX2_finish_78 : decode cX2_finish 78 = .ok (.baload, 1) := by decide +kernel
theorem dX2_finish_79 : decode cX2_finish 79 = .ok (.ifCond .eq 35, 3) := by decide +kernel
theorem dX2_finish_82 : decode cX2_finish 82 = .ok (.iload 4, 2) := by decide +kernel
theorem dX2_finish_84 : decode cX2_finish 84 = .ok (.iload_n 1, 1) := by decide +kernel
theorem dX2_finish_85 : decode cX2_finish 85 = .ok (.if_icmp .eq 29, 3) := by decide +kernel
theorem dX2_finish_88 : decode cX2_finish 88 = .ok (.aload_n 0, 1) := by decide +kernel
theorem dX2_finish_89 : decode cX2_finish 89 = .ok (.getfield 17, 3) := by decide +kernel
theorem dX2_finish_92 : decode cX2_finish 92 = .ok (.iload 4, 2) := by decide +kernel
theorem dX2_finish_94 : decode cX2_finish 94 = .ok (.iaload, 1) := by decide +kernel
theorem dX2_finish_95 : decode cX2_finish 95 = .ok (.aload_n 0, 1) := by decide +kernel
theorem dX2_finish_96 : decode cX2_finish 96 = .ok (.getfield 17, 3) := by decide +kernel
theorem dX2_finish_99 : decode cX2_finish 99 = .ok (.iload_n 1, 1) := by decide +kernel
theorem dX2_finish_100 : decode cX2_finish 100 = .ok (.iaload, 1) := by decide +kernel
theorem dX2_finish_101 : decode cX2_finish 101 = .ok (.if_icmp .ne 13, 3) := by decide +kernel
theorem dX2_finish_104 : decode cX2_finish 104 = .ok (.iload 6, 2) := by decide +kernel
theorem dX2_finish_106 : decode cX2_finish 106 = .ok (.ifCond .eq 8, 3) := by decide +kernel
theorem dX2_finish_109 : decode cX2_finish 109 = .ok (.iload 5, 2) := by decide +kernel
theorem dX2_finish_111 : decode cX2_finish 111 = .ok (.goto 4, 3) := by decide +kernel
theorem dX2_finish_114 : decode cX2_finish 114 = .ok (.iconst 0, 1) := by decide +kernel
theorem dX2_finish_115 : decode cX2_finish 115 = .ok (.iadd, 1) := by decide +kernel
theorem dX2_finish_116 : decode cX2_finish 116 = .ok (.istore_n 3, 1) := by decide +kernel
theorem dX2_finish_117 : decode cX2_finish 117 = .ok (.iinc 4 1, 3) := by decide +kernel
theorem dX2_finish_120 : decode cX2_finish 120 = .ok (.goto (-99), 3) := by decide +kernel
theorem dX2_finish_123 : decode cX2_finish 123 = .ok (.iload_n 3, 1) := by decide +kernel
theorem dX2_finish_124 : decode cX2_finish 124 = .ok (.ireturn, 1) := by decide +kernel
theorem dX2_machineOf_0 : decode cX2_machineOf 0 = .ok (.aload_n 0, 1) := by decide +kernel
theorem dX2_machineOf_1 : decode cX2_machineOf 1 = .ok (.invokevirtual 58, 3) := by decide +kernel
theorem dX2_machineOf_4 : decode cX2_machineOf 4 = .ok (.aload_n 0, 1) := by decide +kernel
theorem dX2_machineOf_5 : decode cX2_machineOf 5 = .ok (.iload_n 1, 1) := by decide +kernel
theorem dX2_machineOf_6 : decode cX2_machineOf 6 = .ok (.invokevirtual 24, 3) := by decide +kernel
theorem dX2_machineOf_9 : decode cX2_machineOf 9 = .ok (.ifCond .eq 12, 3) := by decide +kernel
theorem dX2_machineOf_12 : decode cX2_machineOf 12 = .ok (.aload_n 0, 1) := by decide +kernel
theorem dX2_machineOf_13 : decode cX2_machineOf 13 = .ok (.getfield 17, 3) := by decide +kernel
theorem dX2_machineOf_16 : decode cX2_machineOf 16 = .ok (.iload_n 1, 1) := by decide +kernel
theorem dX2_machineOf_17 : decode cX2_machineOf 17 = .ok (.iaload, 1) := by decide +kernel
theorem dX2_machineOf_18 : decode cX2_machineOf 18 = .ok (.goto 4, 3) := by decide +kernel
theorem dX2_machineOf_21 : decode cX2_machineOf 21 = .ok (.iconst (-1), 1) := by decide +kernel
theorem dX2_machineOf_22 : decode cX2_machineOf 22 = .ok (.ireturn, 1) := by decide +kernel
theorem dX2_plan_0 : decode cX2_plan 0 = .ok (.aload_n 0, 1) := by decide +kernel
theorem dX2_plan_1 : decode cX2_plan 1 = .ok (.aload_n 0, 1) := by decide +kernel
theorem dX2_plan_2 : decode cX2_plan 2 = .ok (.invokevirtual 51, 3) := by decide +kernel
theorem dX2_plan_5 : decode cX2_plan 5 = .ok (.iconst (-1), 1) := by decide +kernel
theorem dX2_plan_6 : decode cX2_plan 6 = .ok (.iconst 0, 1) := by decide +kernel
theorem dX2_plan_7 : decode cX2_plan 7 = .ok (.invokevirtual 54, 3) := by decide +kernel
theorem dX2_plan_10 : decode cX2_plan 10 = .ok (.istore_n 1, 1) := by decide +kernel
theorem dX2_plan_11 : decode cX2_plan 11 = .ok (.iconst 0, 1) := by decide +kernel
theorem dX2_plan_12 : decode cX2_plan 12 = .ok (.istore_n 2, 1) := by decide +kernel
theorem dX2_plan_13 : decode cX2_plan 13 = .ok (.iload_n 2, 1) := by decide +kernel
theorem dX2_plan_14 : decode cX2_plan 14 = .ok (.sipush 1024, 3) := by decide +kernel
theorem dX2_plan_17 : decode cX2_plan 17 = .ok (.if_icmp .ge 26, 3) := by decide +kernel
theorem dX2_plan_20 : decode cX2_plan 20 = .ok (.aload_n 0, 1) := by decide +kernel
theorem dX2_plan_21 : decode cX2_plan 21 = .ok (.iload_n 2, 1) := by decide +kernel
theorem dX2_plan_22 : decode cX2_plan 22 = .ok (.invokevirtual 44, 3) := by decide +kernel
theorem dX2_plan_25 : decode cX2_plan 25 = .ok (.ifCond .eq 12, 3) := by decide +kernel
theorem dX2_plan_28 : decode cX2_plan 28 = .ok (.aload_n 0, 1) := by decide +kernel
theorem dX2_plan_29 : decode cX2_plan 29 = .ok (.invokevirtual 47, 3) := by decide +kernel
theorem dX2_plan_32 : decode cX2_plan 32 = .ok (.iload_n 1, 1) := by decide +kernel
theorem dX2_plan_33 : decode cX2_plan 33 = .ok (.if_icmp .ne 4, 3) := by decide +kernel
theorem dX2_plan_36 : decode cX2_plan 36 = .ok (.return_, 1) := by decide +kernel
theorem dX2_plan_37 : decode cX2_plan 37 = .ok (.iinc 2 1, 3) := by decide +kernel
theorem dX2_plan_40 : decode cX2_plan 40 = .ok (.goto (-27), 3) := by decide +kernel
theorem dX2_plan_43 : decode cX2_plan 43 = .ok (.return_, 1) := by decide +kernel
theorem dX2_finishOf_0 : decode cX2_finishOf 0 = .ok (.aload_n 0, 1) := by decide +kernel
theorem dX2_finishOf_1 : decode cX2_finishOf 1 = .ok (.invokevirtual 58, 3) := by decide +kernel
theorem dX2_finishOf_4 : decode cX2_finishOf 4 = .ok (.aload_n 0, 1) := by decide +kernel
theorem dX2_finishOf_5 : decode cX2_finishOf 5 = .ok (.iload_n 1, 1) := by decide +kernel
theorem dX2_finishOf_6 : decode cX2_finishOf 6 = .ok (.invokevirtual 24, 3) := by decide +kernel
theorem dX2_finishOf_9 : decode cX2_finishOf 9 = .ok (.ifCond .eq 11, 3) := by decide +kernel
theorem dX2_finishOf_12 : decode cX2_finishOf 12 = .ok (.aload_n 0, 1) := by decide +kernel
theorem dX2_finishOf_13 : decode cX2_finishOf 13 = .ok (.iload_n 1, 1) := by decide +kernel
theorem dX2_finishOf_14 : decode cX2_finishOf 14 = .ok (.invokevirtual 40, 3) := by decide +kernel
theorem dX2_finishOf_17 : decode cX2_finishOf 17 = .ok (.goto 4, 3) := by decide +kernel
theorem dX2_finishOf_20 : decode cX2_finishOf 20 = .ok (.iconst (-1), 1) := by decide +kernel
theorem dX2_finishOf_21 : decode cX2_finishOf 21 = .ok (.ireturn, 1) := by decide +kernel
theorem dX2_leastWith_0 : decode cX2_leastWith 0 = .ok (.aload_n 0, 1) := by decide +kernel
theorem dX2_leastWith_1 : decode cX2_leastWith 1 = .ok (.iload_n 1, 1) := by decide +kernel
theorem dX2_leastWith_2 : decode cX2_leastWith 2 = .ok (.invokevirtual 24, 3) := by decide +kernel
theorem dX2_leastWith_5 : decode cX2_leastWith 5 = .ok (.ifCond .eq 24, 3) := by decide +kernel
theorem dX2_leastWith_8 : decode cX2_leastWith 8 = .ok (.aload_n 0, 1) := by decide +kernel
theorem dX2_leastWith_9 : decode cX2_leastWith 9 = .ok (.iload_n 2, 1) := by decide +kernel
theorem dX2_leastWith_10 : decode cX2_leastWith 10 = .ok (.invokevirtual 28, 3) := by decide +kernel
theorem dX2_leastWith_13 : decode cX2_leastWith 13 = .ok (.ifCond .eq 16, 3) := by decide +kernel
theorem dX2_leastWith_16 : decode cX2_leastWith 16 = .ok (.aload_n 0, 1) := by decide +kernel
theorem dX2_leastWith_17 : decode cX2_leastWith 17 = .ok (.aload_n 0, 1) := by decide +kernel
theorem dX2_leastWith_18 : decode cX2_leastWith 18 = .ok (.invokevirtual 51, 3) := by decide +kernel
theorem dX2_leastWith_21 : decode cX2_leastWith 21 = .ok (.iload_n 1, 1) := by decide +kernel
theorem dX2_leastWith_22 : decode cX2_leastWith 22 = .ok (.iload_n 2, 1) := by decide +kernel
theorem dX2_leastWith_23 : decode cX2_leastWith 23 = .ok (.invokevirtual 54, 3) := by decide +kernel
theorem dX2_leastWith_26 : decode cX2_leastWith 26 = .ok (.goto 4, 3) := by decide +kernel
theorem dX2_leastWith_29 : decode cX2_leastWith 29 = .ok (.iconst (-1), 1) := by decide +kernel
theorem dX2_leastWith_30 : decode cX2_leastWith 30 = .ok (.ireturn, 1) := by decide +kernel
theorem dX2_leastWithout_0 : decode cX2_leastWithout 0 = .ok (.aload_n 0, 1) := by decide +kernel
theorem dX2_leastWithout_1 : decode cX2_leastWithout 1 = .ok (.iload_n 1, 1) := by decide +kernel
theorem dX2_leastWithout_2 : decode cX2_leastWithout 2 = .ok (.invokevirtual 24, 3) := by decide +kernel
theorem dX2_leastWithout_5 : decode cX2_leastWithout 5 = .ok (.ifCond .ne 5, 3) := by decide +kernel
theorem dX2_leastWithout_8 : decode cX2_leastWithout 8 = .ok (.iconst (-1), 1) := by decide +kernel
theorem dX2_leastWithout_9 : decode cX2_leastWithout 9 = .ok (.ireturn, 1) := by decide +kernel
theorem dX2_leastWithout_10 : decode cX2_leastWithout 10 = .ok (.aload_n 0, 1) := by decide +kernel
theorem dX2_leastWithout_11 : decode cX2_leastWithout 11 = .ok (.getfield 7, 3) := by decide +kernel
theorem dX2_leastWithout_14 : decode cX2_leastWithout 14 = .ok (.iload_n 1, 1) := by decide +kernel
theorem dX2_leastWithout_15 : decode cX2_leastWithout 15 = .ok (.iconst 0, 1) := by decide +kernel
theorem dX2_leastWithout_16 : decode cX2_leastWithout 16 = .ok (.bastore, 1) := by decide +kernel
theorem dX2_leastWithout_17 : decode cX2_leastWithout 17 = .ok (.aload_n 0, 1) := by decide +kernel
theorem dX2_leastWithout_18 : decode cX2_leastWithout 18 = .ok (.aload_n 0, 1) := by decide +kernel
theorem dX2_leastWithout_19 : decode cX2_leastWithout 19 = .ok (.invokevirtual 51, 3) := by decide +kernel
theorem dX2_leastWithout_22 : decode cX2_leastWithout 22 = .ok (.iconst (-1), 1) := by decide +kernel
theorem dX2_leastWithout_23 : decode cX2_leastWithout 23 = .ok (.iconst 0, 1) := by decide +kernel
theorem dX2_leastWithout_24 : decode cX2_leastWithout 24 = .ok (.invokevirtual 54, 3) := by decide +kernel
theorem dX2_leastWithout_27 : decode cX2_leastWithout 27 = .ok (.istore_n 2, 1) := by decide +kernel
theorem dX2_leastWithout_28 : decode cX2_leastWithout 28 = .ok (.aload_n 0, 1) := by decide +kernel
theorem dX2_leastWithout_29 : decode cX2_leastWithout 29 = .ok (.getfield 7, 3) := by decide +kernel
theorem dX2_leastWithout_32 : decode cX2_leastWithout 32 = .ok (.iload_n 1, 1) := by decide +kernel
theorem dX2_leastWithout_33 : decode cX2_leastWithout 33 = .ok (.iconst 1, 1) := by decide +kernel
theorem dX2_leastWithout_34 : decode cX2_leastWithout 34 = .ok (.bastore, 1) := by decide +kernel
theorem dX2_leastWithout_35 : decode cX2_leastWithout 35 = .ok (.iload_n 2, 1) := by decide +kernel
theorem dX2_leastWithout_36 : decode cX2_leastWithout 36 = .ok (.ireturn, 1) := by decide +kernel
theorem dX2_leastDoubled_0 : decode cX2_leastDoubled 0 = .ok (.aload_n 0, 1) := by decide +kernel
theorem dX2_leastDoubled_1 : decode cX2_leastDoubled 1 = .ok (.iload_n 1, 1) := by decide +kernel
theorem dX2_leastDoubled_2 : decode cX2_leastDoubled 2 = .ok (.invokevirtual 28, 3) := by decide +kernel
theorem dX2_leastDoubled_5 : decode cX2_leastDoubled 5 = .ok (.ifCond .ne 5, 3) := by decide +kernel
theorem dX2_leastDoubled_8 : decode cX2_leastDoubled 8 = .ok (.iconst (-1), 1) := by decide +kernel
theorem dX2_leastDoubled_9 : decode cX2_leastDoubled 9 = .ok (.ireturn, 1) := by decide +kernel
theorem dX2_leastDoubled_10 : decode cX2_leastDoubled 10 = .ok (.iconst 0, 1) := by decide +kernel
theorem dX2_leastDoubled_11 : decode cX2_leastDoubled 11 = .ok (.istore_n 2, 1) := by decide +kernel
theorem dX2_leastDoubled_12 : decode cX2_leastDoubled 12 = .ok (.iload_n 2, 1) := by decide +kernel
theorem dX2_leastDoubled_13 : decode cX2_leastDoubled 13 = .ok (.iconst 5, 1) := by decide +kernel
theorem dX2_leastDoubled_14 : decode cX2_leastDoubled 14 = .ok (.if_icmp .ge 29, 3) := by decide +kernel
theorem dX2_leastDoubled_17 : decode cX2_leastDoubled 17 = .ok (.aload_n 0, 1) := by decide +kernel
theorem dX2_leastDoubled_18 : decode cX2_leastDoubled 18 = .ok (.getfield 13, 3) := by decide +kernel
theorem dX2_leastDoubled_21 : decode cX2_leastDoubled 21 = .ok (.iconst 4, 1) := by decide +kernel
theorem dX2_leastDoubled_22 : decode cX2_leastDoubled 22 = .ok (.iload_n 2, 1) := by decide +kernel
theorem dX2_leastDoubled_23 : decode cX2_leastDoubled 23 = .ok (.imul, 1) := by decide +kernel
theorem dX2_leastDoubled_24 : decode cX2_leastDoubled 24 = .ok (.iconst 3, 1) := by decide +kernel
theorem dX2_leastDoubled_25 : decode cX2_leastDoubled 25 = .ok (.iadd, 1) := by decide +kernel
theorem dX2_leastDoubled_26 : decode cX2_leastDoubled 26 = .ok (.aload_n 0, 1) := by decide +kernel
theorem dX2_leastDoubled_27 : decode cX2_leastDoubled 27 = .ok (.getfield 13, 3) := by decide +kernel
theorem dX2_leastDoubled_30 : decode cX2_leastDoubled 30 = .ok (.iconst 4, 1) := by decide +kernel
theorem dX2_leastDoubled_31 : decode cX2_leastDoubled 31 = .ok (.iload_n 2, 1) := by decide +kernel
theorem dX2_leastDoubled_32 : decode cX2_leastDoubled 32 = .ok (.imul, 1) := by decide +kernel
theorem dX2_leastDoubled_33 : decode cX2_leastDoubled 33 = .ok (.iload_n 1, 1) := by decide +kernel
theorem dX2_leastDoubled_34 : decode cX2_leastDoubled 34 = .ok (.iadd, 1) := by decide +kernel
theorem dX2_leastDoubled_35 : decode cX2_leastDoubled 35 = .ok (.iaload, 1) := by decide +kernel
theorem dX2_leastDoubled_36 : decode cX2_leastDoubled 36 = .ok (.iastore, 1) := by decide +kernel
theorem dX2_leastDoubled_37 : decode cX2_leastDoubled 37 = .ok (.iinc 2 1, 3) := by decide +kernel
theorem dX2_leastDoubled_40 : decode cX2_leastDoubled 40 = .ok (.goto (-28), 3) := by decide +kernel
theorem dX2_leastDoubled_43 : decode cX2_leastDoubled 43 = .ok (.aload_n 0, 1) := by decide +kernel
theorem dX2_leastDoubled_44 : decode cX2_leastDoubled 44 = .ok (.aload_n 0, 1) := by decide +kernel
theorem dX2_leastDoubled_45 : decode cX2_leastDoubled 45 = .ok (.invokevirtual 51, 3) := by decide +kernel
theorem dX2_leastDoubled_48 : decode cX2_leastDoubled 48 = .ok (.bipush 8, 2) := by decide +kernel
theorem dX2_leastDoubled_50 : decode cX2_leastDoubled 50 = .ok (.ior, 1) := by decide +kernel
theorem dX2_leastDoubled_51 : decode cX2_leastDoubled 51 = .ok (.iconst (-1), 1) := by decide +kernel
theorem dX2_leastDoubled_52 : decode cX2_leastDoubled 52 = .ok (.iconst 0, 1) := by decide +kernel
theorem dX2_leastDoubled_53 : decode cX2_leastDoubled 53 = .ok (.invokevirtual 54, 3) := by decide +kernel
theorem dX2_leastDoubled_56 : decode cX2_leastDoubled 56 = .ok (.ireturn, 1) := by decide +kernel
theorem dX2_leastIdle_0 : decode cX2_leastIdle 0 = .ok (.aload_n 0, 1) := by decide +kernel
theorem dX2_leastIdle_1 : decode cX2_leastIdle 1 = .ok (.iload_n 1, 1) := by decide +kernel
theorem dX2_leastIdle_2 : decode cX2_leastIdle 2 = .ok (.invokevirtual 28, 3) := by decide +kernel
theorem dX2_leastIdle_5 : decode cX2_leastIdle 5 = .ok (.ifCond .eq 22, 3) := by decide +kernel
theorem dX2_leastIdle_8 : decode cX2_leastIdle 8 = .ok (.aload_n 0, 1) := by decide +kernel
theorem dX2_leastIdle_9 : decode cX2_leastIdle 9 = .ok (.aload_n 0, 1) := by decide +kernel
theorem dX2_leastIdle_10 : decode cX2_leastIdle 10 = .ok (.invokevirtual 51, 3) := by decide +kernel
theorem dX2_leastIdle_13 : decode cX2_leastIdle 13 = .ok (.iconst 1, 1) := by decide +kernel
theorem dX2_leastIdle_14 : decode cX2_leastIdle 14 = .ok (.iload_n 1, 1) := by decide +kernel
theorem dX2_leastIdle_15 : decode cX2_leastIdle 15 = .ok (.ishl, 1) := by decide +kernel
theorem dX2_leastIdle_16 : decode cX2_leastIdle 16 = .ok (.iconst (-1), 1) := by decide +kernel
theorem dX2_leastIdle_17 : decode cX2_leastIdle 17 = .ok (.ixor, 1) := by decide +kernel
theorem dX2_leastIdle_18 : decode cX2_leastIdle 18 = .ok (.iand, 1) := by decide +kernel
theorem dX2_leastIdle_19 : decode cX2_leastIdle 19 = .ok (.iconst (-1), 1) := by decide +kernel
theorem dX2_leastIdle_20 : decode cX2_leastIdle 20 = .ok (.iconst 0, 1) := by decide +kernel
theorem dX2_leastIdle_21 : decode cX2_leastIdle 21 = .ok (.invokevirtual 54, 3) := by decide +kernel
theorem dX2_leastIdle_24 : decode cX2_leastIdle 24 = .ok (.goto 4, 3) := by decide +kernel
theorem dX2_leastIdle_27 : decode cX2_leastIdle 27 = .ok (.iconst (-1), 1) := by decide +kernel
theorem dX2_leastIdle_28 : decode cX2_leastIdle 28 = .ok (.ireturn, 1) := by decide +kernel
theorem dX2_mostJobs_0 : decode cX2_mostJobs 0 = .ok (.aload_n 0, 1) := by decide +kernel
theorem dX2_mostJobs_1 : decode cX2_mostJobs 1 = .ok (.iload_n 1, 1) := by decide +kernel
theorem dX2_mostJobs_2 : decode cX2_mostJobs 2 = .ok (.invokevirtual 28, 3) := by decide +kernel
theorem dX2_mostJobs_5 : decode cX2_mostJobs 5 = .ok (.ifCond .ne 5, 3) := by decide +kernel
theorem dX2_mostJobs_8 : decode cX2_mostJobs 8 = .ok (.iconst (-1), 1) := by decide +kernel
theorem dX2_mostJobs_9 : decode cX2_mostJobs 9 = .ok (.ireturn, 1) := by decide +kernel
theorem dX2_mostJobs_10 : decode cX2_mostJobs 10 = .ok (.aload_n 0, 1) := by decide +kernel
theorem dX2_mostJobs_11 : decode cX2_mostJobs 11 = .ok (.aload_n 0, 1) := by decide +kernel
theorem dX2_mostJobs_12 : decode cX2_mostJobs 12 = .ok (.invokevirtual 51, 3) := by decide +kernel
theorem dX2_mostJobs_15 : decode cX2_mostJobs 15 = .ok (.iconst (-1), 1) := by decide +kernel
theorem dX2_mostJobs_16 : decode cX2_mostJobs 16 = .ok (.iconst 0, 1) := by decide +kernel
theorem dX2_mostJobs_17 : decode cX2_mostJobs 17 = .ok (.invokevirtual 54, 3) := by decide +kernel
theorem dX2_mostJobs_20 : decode cX2_mostJobs 20 = .ok (.istore_n 2, 1) := by decide +kernel
theorem dX2_mostJobs_21 : decode cX2_mostJobs 21 = .ok (.iconst 0, 1) := by decide +kernel
theorem dX2_mostJobs_22 : decode cX2_mostJobs 22 = .ok (.istore_n 3, 1) := by decide +kernel
theorem dX2_mostJobs_23 : decode cX2_mostJobs 23 = .ok (.iconst 0, 1) := by decide +kernel
theorem dX2_mostJobs_24 : decode cX2_mostJobs 24 = .ok (.istore 4, 2) := by decide +kernel
theorem dX2_mostJobs_26 : decode cX2_mostJobs 26 = .ok (.iload 4, 2) := by decide +kernel
theorem dX2_mostJobs_28 : decode cX2_mostJobs 28 = .ok (.sipush 1024, 3) := by decide +kernel
theorem dX2_mostJobs_31 : decode cX2_mostJobs 31 = .ok (.if_icmp .ge 88, 3) := by decide +kernel
theorem dX2_mostJobs_34 : decode cX2_mostJobs 34 = .ok (.iconst 0, 1) := by decide +kernel
theorem dX2_mostJobs_35 : decode cX2_mostJobs 35 = .ok (.istore 5, 2) := by decide +kernel
theorem dX2_mostJobs_37 : decode cX2_mostJobs 37 = .ok (.aload_n 0, 1) := by decide +kernel
theorem dX2_mostJobs_38 : decode cX2_mostJobs 38 = .ok (.iload 4, 2) := by decide +kernel
theorem dX2_mostJobs_40 : decode cX2_mostJobs 40 = .ok (.invokevirtual 44, 3) := by decide +kernel
theorem dX2_mostJobs_43 : decode cX2_mostJobs 43 = .ok (.ifCond .eq 57, 3) := by decide +kernel
theorem dX2_mostJobs_46 : decode cX2_mostJobs 46 = .ok (.aload_n 0, 1) := by decide +kernel
theorem dX2_mostJobs_47 : decode cX2_mostJobs 47 = .ok (.invokevirtual 47, 3) := by decide +kernel
theorem dX2_mostJobs_50 : decode cX2_mostJobs 50 = .ok (.iload_n 2, 1) := by decide +kernel
theorem dX2_mostJobs_51 : decode cX2_mostJobs 51 = .ok (.if_icmp .ne 49, 3) := by decide +kernel
theorem dX2_mostJobs_54 : decode cX2_mostJobs 54 = .ok (.iconst 0, 1) := by decide +kernel
theorem dX2_mostJobs_55 : decode cX2_mostJobs 55 = .ok (.istore 6, 2) := by decide +kernel
theorem dX2_mostJobs_57 : decode cX2_mostJobs 57 = .ok (.iload 6, 2) := by decide +kernel
theorem dX2_mostJobs_59 : decode cX2_mostJobs 59 = .ok (.iconst 5, 1) := by decide +kernel
theorem dX2_mostJobs_60 : decode cX2_mostJobs 60 = .ok (.if_icmp .ge 40, 3) := by decide +kernel
theorem dX2_mostJobs_63 : decode cX2_mostJobs 63 = .ok (.iload 5, 2) := by decide +kernel
theorem dX2_mostJobs_65 : decode cX2_mostJobs 65 = .ok (.aload_n 0, 1) := by decide +kernel
theorem dX2_mostJobs_66 : decode cX2_mostJobs 66 = .ok (.getfield 7, 3) := by decide +kernel
theorem dX2_mostJobs_69 : decode cX2_mostJobs 69 = .ok (.iload 6, 2) := by decide +kernel
theorem dX2_mostJobs_71 : decode cX2_mostJobs 71 = .ok (.baload, 1) := by decide +kernel
theorem dX2_mostJobs_72 : decode cX2_mostJobs 72 = .ok (.ifCond .eq 18, 3) := by decide +kernel
theorem dX2_mostJobs_75 : decode cX2_mostJobs 75 = .ok (.aload_n 0, 1) := by decide +kernel
theorem dX2_mostJobs_76 : decode cX2_mostJobs 76 = .ok (.getfield 17, 3) := by decide +kernel
theorem dX2_mostJobs_79 : decode cX2_mostJobs 79 = .ok (.iload 6, 2) := by decide +kernel
theorem dX2_mostJobs_81 : decode cX2_mostJobs 81 = .ok (.iaload, 1) := by decide +kernel
theorem dX2_mostJobs_82 : decode cX2_mostJobs 82 = .ok (.iload_n 1, 1) := by decide +kernel
theorem dX2_mostJobs_83 : decode cX2_mostJobs 83 = .ok (.if_icmp .ne 7, 3) := by decide +kernel
theorem dX2_mostJobs_86 : decode cX2_mostJobs 86 = .ok (.iconst 1, 1) := by decide +kernel
theorem dX2_mostJobs_87 : decode cX2_mostJobs 87 = .ok (.goto 4, 3) := by decide +kernel
theorem dX2_mostJobs_90 : decode cX2_mostJobs 90 = .ok (.iconst 0, 1) := by decide +kernel
theorem dX2_mostJobs_91 : decode cX2_mostJobs 91 = .ok (.iadd, 1) := by decide +kernel
theorem dX2_mostJobs_92 : decode cX2_mostJobs 92 = .ok (.istore 5, 2) := by decide +kernel
theorem dX2_mostJobs_94 : decode cX2_mostJobs 94 = .ok (.iinc 6 1, 3) := by decide +kernel
theorem dX2_mostJobs_97 : decode cX2_mostJobs 97 = .ok (.goto (-40), 3) := by decide +kernel
theorem dX2_mostJobs_100 : decode cX2_mostJobs 100 = .ok (.iload 5, 2) := by decide +kernel
theorem dX2_mostJobs_102 : decode cX2_mostJobs 102 = .ok (.iload_n 3, 1) := by decide +kernel
theorem dX2_mostJobs_103 : decode cX2_mostJobs 103 = .ok (.if_icmp .le 8, 3) := by decide +kernel
theorem dX2_mostJobs_106 : decode cX2_mostJobs 106 = .ok (.iload 5, 2) := by decide +kernel
theorem dX2_mostJobs_108 : decode cX2_mostJobs 108 = .ok (.goto 4, 3) := by decide +kernel
theorem dX2_mostJobs_111 : decode cX2_mostJobs 111 = .ok (.iload_n 3, 1) := by decide +kernel
theorem dX2_mostJobs_112 : decode cX2_mostJobs 112 = .ok (.istore_n 3, 1) := by decide +kernel
theorem dX2_mostJobs_113 : decode cX2_mostJobs 113 = .ok (.iinc 4 1, 3) := by decide +kernel
theorem dX2_mostJobs_116 : decode cX2_mostJobs 116 = .ok (.goto (-90), 3) := by decide +kernel
theorem dX2_mostJobs_119 : decode cX2_mostJobs 119 = .ok (.iload_n 3, 1) := by decide +kernel
theorem dX2_mostJobs_120 : decode cX2_mostJobs 120 = .ok (.ireturn, 1) := by decide +kernel
end
end
section
section
set_option maxRecDepth 100000
theorem dL_law_0 : decode cL_law 0 = .ok (.new 7, 3) := by decide +kernel
theorem dL_law_3 : decode cL_law 3 = .ok (.dup, 1) := by decide +kernel
theorem dL_law_4 : decode cL_law 4 = .ok (.aload_n 0, 1) := by decide +kernel
theorem dL_law_5 : decode cL_law 5 = .ok (.iconst 0, 1) := by decide +kernel
theorem dL_law_6 : decode cL_law 6 = .ok (.invokestatic 9, 3) := by decide +kernel
theorem dL_law_9 : decode cL_law 9 = .ok (.invokespecial 15, 3) := by decide +kernel
theorem dL_law_12 : decode cL_law 12 = .ok (.astore_n 1, 1) := by decide +kernel
theorem dL_law_13 : decode cL_law 13 = .ok (.new 18, 3) := by decide +kernel
theorem dL_law_16 : decode cL_law 16 = .ok (.dup, 1) := by decide +kernel
theorem dL_law_17 : decode cL_law 17 = .ok (.aload_n 0, 1) := by decide +kernel
theorem dL_law_18 : decode cL_law 18 = .ok (.iconst 0, 1) := by decide +kernel
theorem dL_law_19 : decode cL_law 19 = .ok (.invokestatic 9, 3) := by decide +kernel
theorem dL_law_22 : decode cL_law 22 = .ok (.invokespecial 20, 3) := by decide +kernel
theorem dL_law_25 : decode cL_law 25 = .ok (.astore_n 2, 1) := by decide +kernel
theorem dL_law_26 : decode cL_law 26 = .ok (.iconst 1, 1) := by decide +kernel
theorem dL_law_27 : decode cL_law 27 = .ok (.istore_n 3, 1) := by decide +kernel
theorem dL_law_28 : decode cL_law 28 = .ok (.iload_n 3, 1) := by decide +kernel
theorem dL_law_29 : decode cL_law 29 = .ok (.aload_n 0, 1) := by decide +kernel
theorem dL_law_30 : decode cL_law 30 = .ok (.arraylength, 1) := by decide +kernel
theorem dL_law_31 : decode cL_law 31 = .ok (.iconst 4, 1) := by decide +kernel
theorem dL_law_32 : decode cL_law 32 = .ok (.isub, 1) := by decide +kernel
theorem dL_law_33 : decode cL_law 33 = .ok (.if_icmp .gt 420, 3) := by decide +kernel
theorem dL_law_36 : decode cL_law 36 = .ok (.aload_n 0, 1) := by decide +kernel
theorem dL_law_37 : decode cL_law 37 = .ok (.iload_n 3, 1) := by decide +kernel
theorem dL_law_38 : decode cL_law 38 = .ok (.iaload, 1) := by decide +kernel
theorem dL_law_39 : decode cL_law 39 = .ok (.bipush 15, 2) := by decide +kernel
theorem dL_law_41 : decode cL_law 41 = .ok (.iand, 1) := by decide +kernel
theorem dL_law_42 : decode cL_law 42 = .ok (.tableswitch 405 0 12 #[66, 109, 132, 175, 188, 221, 234, 257, 280, 313, 336, 359, 382], 66) := by decide +kernel
theorem dL_law_108 : decode cL_law 108 = .ok (.aload_n 1, 1) := by decide +kernel
theorem dL_law_109 : decode cL_law 109 = .ok (.aload_n 0, 1) := by decide +kernel
theorem dL_law_110 : decode cL_law 110 = .ok (.iload_n 3, 1) := by decide +kernel
theorem dL_law_111 : decode cL_law 111 = .ok (.iconst 1, 1) := by decide +kernel
theorem dL_law_112 : decode cL_law 112 = .ok (.iadd, 1) := by decide +kernel
theorem dL_law_113 : decode cL_law 113 = .ok (.iaload, 1) := by decide +kernel
theorem dL_law_114 : decode cL_law 114 = .ok (.aload_n 0, 1) := by decide +kernel
theorem dL_law_115 : decode cL_law 115 = .ok (.iload_n 3, 1) := by decide +kernel
theorem dL_law_116 : decode cL_law 116 = .ok (.iconst 2, 1) := by decide +kernel
theorem dL_law_117 : decode cL_law 117 = .ok (.iadd, 1) := by decide +kernel
theorem dL_law_118 : decode cL_law 118 = .ok (.iaload, 1) := by decide +kernel
theorem dL_law_119 : decode cL_law 119 = .ok (.aload_n 0, 1) := by decide +kernel
theorem dL_law_120 : decode cL_law 120 = .ok (.iload_n 3, 1) := by decide +kernel
theorem dL_law_121 : decode cL_law 121 = .ok (.iconst 3, 1) := by decide +kernel
theorem dL_law_122 : decode cL_law 122 = .ok (.iadd, 1) := by decide +kernel
theorem dL_law_123 : decode cL_law 123 = .ok (.iaload, 1) := by decide +kernel
theorem dL_law_124 : decode cL_law 124 = .ok (.invokevirtual 21, 3) := by decide +kernel
theorem dL_law_127 : decode cL_law 127 = .ok (.aload_n 2, 1) := by decide +kernel
theorem dL_law_128 : decode cL_law 128 = .ok (.aload_n 0, 1) := by decide +kernel
theorem dL_law_129 : decode cL_law 129 = .ok (.iload_n 3, 1) := by decide +kernel
theorem dL_law_130 : decode cL_law 130 = .ok (.iconst 1, 1) := by decide +kernel
theorem dL_law_131 : decode cL_law 131 = .ok (.iadd, 1) := by decide +kernel
theorem dL_law_132 : decode cL_law 132 = .ok (.iaload, 1) := by decide +kernel
theorem dL_law_133 : decode cL_law 133 = .ok (.aload_n 0, 1) := by decide +kernel
theorem dL_law_134 : decode cL_law 134 = .ok (.iload_n 3, 1) := by decide +kernel
theorem dL_law_135 : decode cL_law 135 = .ok (.iconst 2, 1) := by decide +kernel
theorem dL_law_136 : decode cL_law 136 = .ok (.iadd, 1) := by decide +kernel
theorem dL_law_137 : decode cL_law 137 = .ok (.iaload, 1) := by decide +kernel
theorem dL_law_138 : decode cL_law 138 = .ok (.aload_n 0, 1) := by decide +kernel
theorem dL_law_139 : decode cL_law 139 = .ok (.iload_n 3, 1) := by decide +kernel
theorem dL_law_140 : decode cL_law 140 = .ok (.iconst 3, 1) := by decide +kernel
theorem dL_law_141 : decode cL_law 141 = .ok (.iadd, 1) := by decide +kernel
theorem dL_law_142 : decode cL_law 142 = .ok (.iaload, 1) := by decide +kernel
theorem dL_law_143 : decode cL_law 143 = .ok (.invokevirtual 25, 3) := by decide +kernel
theorem dL_law_146 : decode cL_law 146 = .ok (.if_icmp .eq 301, 3) := by decide +kernel
theorem dL_law_149 : decode cL_law 149 = .ok (.iconst 0, 1) := by decide +kernel
theorem dL_law_150 : decode cL_law 150 = .ok (.ireturn, 1) := by decide +kernel
theorem dL_law_151 : decode cL_law 151 = .ok (.aload_n 1, 1) := by decide +kernel
theorem dL_law_152 : decode cL_law 152 = .ok (.aload_n 0, 1) := by decide +kernel
theorem dL_law_153 : decode cL_law 153 = .ok (.iload_n 3, 1) := by decide +kernel
theorem dL_law_154 : decode cL_law 154 = .ok (.iconst 1, 1) := by decide +kernel
theorem dL_law_155 : decode cL_law 155 = .ok (.iadd, 1) := by decide +kernel
theorem dL_law_156 : decode cL_law 156 = .ok (.iaload, 1) := by decide +kernel
theorem dL_law_157 : decode cL_law 157 = .ok (.invokevirtual 26, 3) := by decide +kernel
theorem dL_law_160 : decode cL_law 160 = .ok (.aload_n 2, 1) := by decide +kernel
theorem dL_law_161 : decode cL_law 161 = .ok (.aload_n 0, 1) := by decide +kernel
theorem dL_law_162 : decode cL_law 162 = .ok (.iload_n 3, 1) := by decide +kernel
theorem dL_law_163 : decode cL_law 163 = .ok (.iconst 1, 1) := by decide +kernel
theorem dL_law_164 : decode cL_law 164 = .ok (.iadd, 1) := by decide +kernel
theorem dL_law_165 : decode cL_law 165 = .ok (.iaload, 1) := by decide +kernel
theorem dL_law_166 : decode cL_law 166 = .ok (.invokevirtual 30, 3) := by decide +kernel
theorem dL_law_169 : decode cL_law 169 = .ok (.if_icmp .eq 278, 3) := by decide +kernel
theorem dL_law_172 : decode cL_law 172 = .ok (.iconst 0, 1) := by decide +kernel
theorem dL_law_173 : decode cL_law 173 = .ok (.ireturn, 1) := by decide +kernel
theorem dL_law_174 : decode cL_law 174 = .ok (.aload_n 1, 1) := by decide +kernel
theorem dL_law_175 : decode cL_law 175 = .ok (.aload_n 0, 1) := by decide +kernel
theorem dL_law_176 : decode cL_law 176 = .ok (.iload_n 3, 1) := by decide +kernel
theorem dL_law_177 : decode cL_law 177 = .ok (.iconst 1, 1) := by decide +kernel
theorem dL_law_178 : decode cL_law 178 = .ok (.iadd, 1) := by decide +kernel
theorem dL_law_179 : decode cL_law 179 = .ok (.iaload, 1) := by decide +kernel
theorem dL_law_180 : decode cL_law 180 = .ok (.aload_n 0, 1) := by decide +kernel
theorem dL_law_181 : decode cL_law 181 = .ok (.iload_n 3, 1) := by decide +kernel
theorem dL_law_182 : decode cL_law 182 = .ok (.iconst 2, 1) := by decide +kernel
theorem dL_law_183 : decode cL_law 183 = .ok (.iadd, 1) := by decide +kernel
theorem dL_law_184 : decode cL_law 184 = .ok (.iaload, 1) := by decide +kernel
theorem dL_law_185 : decode cL_law 185 = .ok (.aload_n 0, 1) := by decide +kernel
theorem dL_law_186 : decode cL_law 186 = .ok (.iload_n 3, 1) := by decide +kernel
theorem dL_law_187 : decode cL_law 187 = .ok (.iconst 3, 1) := by decide +kernel
theorem dL_law_188 : decode cL_law 188 = .ok (.iadd, 1) := by decide +kernel
theorem dL_law_189 : decode cL_law 189 = .ok (.iaload, 1) := by decide +kernel
theorem dL_law_190 : decode cL_law 190 = .ok (.invokevirtual 31, 3) := by decide +kernel
theorem dL_law_193 : decode cL_law 193 = .ok (.aload_n 2, 1) := by decide +kernel
theorem dL_law_194 : decode cL_law 194 = .ok (.aload_n 0, 1) := by decide +kernel
theorem dL_law_195 : decode cL_law 195 = .ok (.iload_n 3, 1) := by decide +kernel
theorem dL_law_196 : decode cL_law 196 = .ok (.iconst 1, 1) := by decide +kernel
theorem dL_law_197 : decode cL_law 197 = .ok (.iadd, 1) := by decide +kernel
theorem dL_law_198 : decode cL_law 198 = .ok (.iaload, 1) := by decide +kernel
theorem dL_law_199 : decode cL_law 199 = .ok (.aload_n 0, 1) := by decide +kernel
theorem dL_law_200 : decode cL_law 200 = .ok (.iload_n 3, 1) := by decide +kernel
theorem dL_law_201 : decode cL_law 201 = .ok (.iconst 2, 1) := by decide +kernel
theorem dL_law_202 : decode cL_law 202 = .ok (.iadd, 1) := by decide +kernel
theorem dL_law_203 : decode cL_law 203 = .ok (.iaload, 1) := by decide +kernel
theorem dL_law_204 : decode cL_law 204 = .ok (.aload_n 0, 1) := by decide +kernel
theorem dL_law_205 : decode cL_law 205 = .ok (.iload_n 3, 1) := by decide +kernel
theorem dL_law_206 : decode cL_law 206 = .ok (.iconst 3, 1) := by decide +kernel
theorem dL_law_207 : decode cL_law 207 = .ok (.iadd, 1) := by decide +kernel
theorem dL_law_208 : decode cL_law 208 = .ok (.iaload, 1) := by decide +kernel
theorem dL_law_209 : decode cL_law 209 = .ok (.invokevirtual 35, 3) := by decide +kernel
theorem dL_law_212 : decode cL_law 212 = .ok (.if_icmp .eq 235, 3) := by decide +kernel
theorem dL_law_215 : decode cL_law 215 = .ok (.iconst 0, 1) := by decide +kernel
theorem dL_law_216 : decode cL_law 216 = .ok (.ireturn, 1) := by decide +kernel
theorem dL_law_217 : decode cL_law 217 = .ok (.aload_n 1, 1) := by decide +kernel
theorem dL_law_218 : decode cL_law 218 = .ok (.invokevirtual 36, 3) := by decide +kernel
theorem dL_law_221 : decode cL_law 221 = .ok (.aload_n 2, 1) := by decide +kernel
theorem dL_law_222 : decode cL_law 222 = .ok (.invokevirtual 40, 3) := by decide +kernel
theorem dL_law_225 : decode cL_law 225 = .ok (.if_icmp .eq 222, 3) := by decide +kernel
theorem dL_law_228 : decode cL_law 228 = .ok (.iconst 0, 1) := by decide +kernel
theorem dL_law_229 : decode cL_law 229 = .ok (.ireturn, 1) := by decide +kernel
theorem dL_law_230 : decode cL_law 230 = .ok (.aload_n 1, 1) := by decide +kernel
theorem dL_law_231 : decode cL_law 231 = .ok (.aload_n 0, 1) := by decide +kernel
theorem dL_law_232 : decode cL_law 232 = .ok (.iload_n 3, 1) := by decide +kernel
theorem dL_law_233 : decode cL_law 233 = .ok (.iconst 1, 1) := by decide +kernel
theorem dL_law_234 : decode cL_law 234 = .ok (.iadd, 1) := by decide +kernel
theorem dL_law_235 : decode cL_law 235 = .ok (.iaload, 1) := by decide +kernel
theorem dL_law_236 : decode cL_law 236 = .ok (.aload_n 0, 1) := by decide +kernel
theorem dL_law_237 : decode cL_law 237 = .ok (.iload_n 3, 1) := by decide +kernel
theorem dL_law_238 : decode cL_law 238 = .ok (.iconst 2, 1) := by decide +kernel
theorem dL_law_239 : decode cL_law 239 = .ok (.iadd, 1) := by decide +kernel
theorem dL_law_240 : decode cL_law 240 = .ok (.iaload, 1) := by decide +kernel
theorem dL_law_241 : decode cL_law 241 = .ok (.invokevirtual 41, 3) := by decide +kernel
theorem dL_law_244 : decode cL_law 244 = .ok (.aload_n 2, 1) := by decide +kernel
theorem dL_law_245 : decode cL_law 245 = .ok (.aload_n 0, 1) := by decide +kernel
theorem dL_law_246 : decode cL_law 246 = .ok (.iload_n 3, 1) := by decide +kernel
theorem dL_law_247 : decode cL_law 247 = .ok (.iconst 1, 1) := by decide +kernel
theorem dL_law_248 : decode cL_law 248 = .ok (.iadd, 1) := by decide +kernel
theorem dL_law_249 : decode cL_law 249 = .ok (.iaload, 1) := by decide +kernel
theorem dL_law_250 : decode cL_law 250 = .ok (.aload_n 0, 1) := by decide +kernel
theorem dL_law_251 : decode cL_law 251 = .ok (.iload_n 3, 1) := by decide +kernel
theorem dL_law_252 : decode cL_law 252 = .ok (.iconst 2, 1) := by decide +kernel
theorem dL_law_253 : decode cL_law 253 = .ok (.iadd, 1) := by decide +kernel
theorem dL_law_254 : decode cL_law 254 = .ok (.iaload, 1) := by decide +kernel
theorem dL_law_255 : decode cL_law 255 = .ok (.invokevirtual 45, 3) := by decide +kernel
theorem dL_law_258 : decode cL_law 258 = .ok (.if_icmp .eq 189, 3) := by decide +kernel
theorem dL_law_261 : decode cL_law 261 = .ok (.iconst 0, 1) := by decide +kernel
theorem dL_law_262 : decode cL_law 262 = .ok (.ireturn, 1) := by decide +kernel
theorem dL_law_263 : decode cL_law 263 = .ok (.aload_n 1, 1) := by decide +kernel
theorem dL_law_264 : decode cL_law 264 = .ok (.invokevirtual 46, 3) := by decide +kernel
theorem dL_law_267 : decode cL_law 267 = .ok (.aload_n 2, 1) := by decide +kernel
theorem dL_law_268 : decode cL_law 268 = .ok (.invokevirtual 49, 3) := by decide +kernel
theorem dL_law_271 : decode cL_law 271 = .ok (.if_icmp .eq 176, 3) := by decide +kernel
theorem dL_law_274 : decode cL_law 274 = .ok (.iconst 0, 1) := by decide +kernel
theorem dL_law_275 : decode cL_law 275 = .ok (.ireturn, 1) := by decide +kernel
theorem dL_law_276 : decode cL_law 276 = .ok (.aload_n 1, 1) := by decide +kernel
theorem dL_law_277 : decode cL_law 277 = .ok (.aload_n 0, 1) := by decide +kernel
theorem dL_law_278 : decode cL_law 278 = .ok (.iload_n 3, 1) := by decide +kernel
theorem dL_law_279 : decode cL_law 279 = .ok (.iconst 1, 1) := by decide +kernel
theorem dL_law_280 : decode cL_law 280 = .ok (.iadd, 1) := by decide +kernel
theorem dL_law_281 : decode cL_law 281 = .ok (.iaload, 1) := by decide +kernel
theorem dL_law_282 : decode cL_law 282 = .ok (.invokevirtual 50, 3) := by decide +kernel
theorem dL_law_285 : decode cL_law 285 = .ok (.aload_n 2, 1) := by decide +kernel
theorem dL_law_286 : decode cL_law 286 = .ok (.aload_n 0, 1) := by decide +kernel
theorem dL_law_287 : decode cL_law 287 = .ok (.iload_n 3, 1) := by decide +kernel
theorem dL_law_288 : decode cL_law 288 = .ok (.iconst 1, 1) := by decide +kernel
theorem dL_law_289 : decode cL_law 289 = .ok (.iadd, 1) := by decide +kernel
theorem dL_law_290 : decode cL_law 290 = .ok (.iaload, 1) := by decide +kernel
theorem dL_law_291 : decode cL_law 291 = .ok (.invokevirtual 54, 3) := by decide +kernel
theorem dL_law_294 : decode cL_law 294 = .ok (.if_icmp .eq 153, 3) := by decide +kernel
theorem dL_law_297 : decode cL_law 297 = .ok (.iconst 0, 1) := by decide +kernel
theorem dL_law_298 : decode cL_law 298 = .ok (.ireturn, 1) := by decide +kernel
theorem dL_law_299 : decode cL_law 299 = .ok (.aload_n 1, 1) := by decide +kernel
theorem dL_law_300 : decode cL_law 300 = .ok (.aload_n 0, 1) := by decide +kernel
theorem dL_law_301 : decode cL_law 301 = .ok (.iload_n 3, 1) := by decide +kernel
theorem dL_law_302 : decode cL_law 302 = .ok (.iconst 1, 1) := by decide +kernel
theorem dL_law_303 : decode cL_law 303 = .ok (.iadd, 1) := by decide +kernel
theorem dL_law_304 : decode cL_law 304 = .ok (.iaload, 1) := by decide +kernel
theorem dL_law_305 : decode cL_law 305 = .ok (.invokevirtual 55, 3) := by decide +kernel
theorem dL_law_308 : decode cL_law 308 = .ok (.aload_n 2, 1) := by decide +kernel
theorem dL_law_309 : decode cL_law 309 = .ok (.aload_n 0, 1) := by decide +kernel
theorem dL_law_310 : decode cL_law 310 = .ok (.iload_n 3, 1) := by decide +kernel
theorem dL_law_311 : decode cL_law 311 = .ok (.iconst 1, 1) := by decide +kernel
theorem dL_law_312 : decode cL_law 312 = .ok (.iadd, 1) := by decide +kernel
theorem dL_law_313 : decode cL_law 313 = .ok (.iaload, 1) := by decide +kernel
theorem dL_law_314 : decode cL_law 314 = .ok (.invokevirtual 58, 3) := by decide +kernel
theorem dL_law_317 : decode cL_law 317 = .ok (.if_icmp .eq 130, 3) := by decide +kernel
theorem dL_law_320 : decode cL_law 320 = .ok (.iconst 0, 1) := by decide +kernel
theorem dL_law_321 : decode cL_law 321 = .ok (.ireturn, 1) := by decide +kernel
theorem dL_law_322 : decode cL_law 322 = .ok (.aload_n 1, 1) := by decide +kernel
theorem dL_law_323 : decode cL_law 323 = .ok (.aload_n 0, 1) := by decide +kernel
theorem dL_law_324 : decode cL_law 324 = .ok (.iload_n 3, 1) := by decide +kernel
theorem dL_law_325 : decode cL_law 325 = .ok (.iconst 1, 1) := by decide +kernel
theorem dL_law_326 : decode cL_law 326 = .ok (.iadd, 1) := by decide +kernel
theorem dL_law_327 : decode cL_law 327 = .ok (.iaload, 1) := by decide +kernel
theorem dL_law_328 : decode cL_law 328 = .ok (.aload_n 0, 1) := by decide +kernel
theorem dL_law_329 : decode cL_law 329 = .ok (.iload_n 3, 1) := by decide +kernel
theorem dL_law_330 : decode cL_law 330 = .ok (.iconst 2, 1) := by decide +kernel
theorem dL_law_331 : decode cL_law 331 = .ok (.iadd, 1) := by decide +kernel
theorem dL_law_332 : decode cL_law 332 = .ok (.iaload, 1) := by decide +kernel
theorem dL_law_333 : decode cL_law 333 = .ok (.invokevirtual 59, 3) := by decide +kernel
theorem dL_law_336 : decode cL_law 336 = .ok (.aload_n 2, 1) := by decide +kernel
theorem dL_law_337 : decode cL_law 337 = .ok (.aload_n 0, 1) := by decide +kernel
theorem dL_law_338 : decode cL_law 338 = .ok (.iload_n 3, 1) := by decide +kernel
theorem dL_law_339 : decode cL_law 339 = .ok (.iconst 1, 1) := by decide +kernel
theorem dL_law_340 : decode cL_law 340 = .ok (.iadd, 1) := by decide +kernel
theorem dL_law_341 : decode cL_law 341 = .ok (.iaload, 1) := by decide +kernel
theorem dL_law_342 : decode cL_law 342 = .ok (.aload_n 0, 1) := by decide +kernel
theorem dL_law_343 : decode cL_law 343 = .ok (.iload_n 3, 1) := by decide +kernel
theorem dL_law_344 : decode cL_law 344 = .ok (.iconst 2, 1) := by decide +kernel
theorem dL_law_345 : decode cL_law 345 = .ok (.iadd, 1) := by decide +kernel
theorem dL_law_346 : decode cL_law 346 = .ok (.iaload, 1) := by decide +kernel
theorem dL_law_347 : decode cL_law 347 = .ok (.invokevirtual 62, 3) := by decide +kernel
theorem dL_law_350 : decode cL_law 350 = .ok (.if_icmp .eq 97, 3) := by decide +kernel
theorem dL_law_353 : decode cL_law 353 = .ok (.iconst 0, 1) := by decide +kernel
theorem dL_law_354 : decode cL_law 354 = .ok (.ireturn, 1) := by decide +kernel
theorem dL_law_355 : decode cL_law 355 = .ok (.aload_n 1, 1) := by decide +kernel
theorem dL_law_356 : decode cL_law 356 = .ok (.aload_n 0, 1) := by decide +kernel
theorem dL_law_357 : decode cL_law 357 = .ok (.iload_n 3, 1) := by decide +kernel
theorem dL_law_358 : decode cL_law 358 = .ok (.iconst 1, 1) := by decide +kernel
theorem dL_law_359 : decode cL_law 359 = .ok (.iadd, 1) := by decide +kernel
theorem dL_law_360 : decode cL_law 360 = .ok (.iaload, 1) := by decide +kernel
theorem dL_law_361 : decode cL_law 361 = .ok (.invokevirtual 63, 3) := by decide +kernel
theorem dL_law_364 : decode cL_law 364 = .ok (.aload_n 2, 1) := by decide +kernel
theorem dL_law_365 : decode cL_law 365 = .ok (.aload_n 0, 1) := by decide +kernel
theorem dL_law_366 : decode cL_law 366 = .ok (.iload_n 3, 1) := by decide +kernel
theorem dL_law_367 : decode cL_law 367 = .ok (.iconst 1, 1) := by decide +kernel
theorem dL_law_368 : decode cL_law 368 = .ok (.iadd, 1) := by decide +kernel
theorem dL_law_369 : decode cL_law 369 = .ok (.iaload, 1) := by decide +kernel
theorem dL_law_370 : decode cL_law 370 = .ok (.invokevirtual 66, 3) := by decide +kernel
theorem dL_law_373 : decode cL_law 373 = .ok (.if_icmp .eq 74, 3) := by decide +kernel
theorem dL_law_376 : decode cL_law 376 = .ok (.iconst 0, 1) := by decide +kernel
theorem dL_law_377 : decode cL_law 377 = .ok (.ireturn, 1) := by decide +kernel
theorem dL_law_378 : decode cL_law 378 = .ok (.aload_n 1, 1) := by decide +kernel
theorem dL_law_379 : decode cL_law 379 = .ok (.aload_n 0, 1) := by decide +kernel
theorem dL_law_380 : decode cL_law 380 = .ok (.iload_n 3, 1) := by decide +kernel
theorem dL_law_381 : decode cL_law 381 = .ok (.iconst 1, 1) := by decide +kernel
theorem dL_law_382 : decode cL_law 382 = .ok (.iadd, 1) := by decide +kernel
theorem dL_law_383 : decode cL_law 383 = .ok (.iaload, 1) := by decide +kernel
theorem dL_law_384 : decode cL_law 384 = .ok (.invokevirtual 67, 3) := by decide +kernel
theorem dL_law_387 : decode cL_law 387 = .ok (.aload_n 2, 1) := by decide +kernel
theorem dL_law_388 : decode cL_law 388 = .ok (.aload_n 0, 1) := by decide +kernel
theorem dL_law_389 : decode cL_law 389 = .ok (.iload_n 3, 1) := by decide +kernel
theorem dL_law_390 : decode cL_law 390 = .ok (.iconst 1, 1) := by decide +kernel
theorem dL_law_391 : decode cL_law 391 = .ok (.iadd, 1) := by decide +kernel
theorem dL_law_392 : decode cL_law 392 = .ok (.iaload, 1) := by decide +kernel
theorem dL_law_393 : decode cL_law 393 = .ok (.invokevirtual 70, 3) := by decide +kernel
theorem dL_law_396 : decode cL_law 396 = .ok (.if_icmp .eq 51, 3) := by decide +kernel
theorem dL_law_399 : decode cL_law 399 = .ok (.iconst 0, 1) := by decide +kernel
theorem dL_law_400 : decode cL_law 400 = .ok (.ireturn, 1) := by decide +kernel
theorem dL_law_401 : decode cL_law 401 = .ok (.aload_n 1, 1) := by decide +kernel
theorem dL_law_402 : decode cL_law 402 = .ok (.aload_n 0, 1) := by decide +kernel
theorem dL_law_403 : decode cL_law 403 = .ok (.iload_n 3, 1) := by decide +kernel
theorem dL_law_404 : decode cL_law 404 = .ok (.iconst 1, 1) := by decide +kernel
theorem dL_law_405 : decode cL_law 405 = .ok (.iadd, 1) := by decide +kernel
theorem dL_law_406 : decode cL_law 406 = .ok (.iaload, 1) := by decide +kernel
theorem dL_law_407 : decode cL_law 407 = .ok (.invokevirtual 71, 3) := by decide +kernel
theorem dL_law_410 : decode cL_law 410 = .ok (.aload_n 2, 1) := by decide +kernel
theorem dL_law_411 : decode cL_law 411 = .ok (.aload_n 0, 1) := by decide +kernel
theorem dL_law_412 : decode cL_law 412 = .ok (.iload_n 3, 1) := by decide +kernel
theorem dL_law_413 : decode cL_law 413 = .ok (.iconst 1, 1) := by decide +kernel
theorem dL_law_414 : decode cL_law 414 = .ok (.iadd, 1) := by decide +kernel
theorem dL_law_415 : decode cL_law 415 = .ok (.iaload, 1) := by decide +kernel
theorem dL_law_416 : decode cL_law 416 = .ok (.invokevirtual 74, 3) := by decide +kernel
theorem dL_law_419 : decode cL_law 419 = .ok (.if_icmp .eq 28, 3) := by decide +kernel
theorem dL_law_422 : decode cL_law 422 = .ok (.iconst 0, 1) := by decide +kernel
theorem dL_law_423 : decode cL_law 423 = .ok (.ireturn, 1) := by decide +kernel
theorem dL_law_424 : decode cL_law 424 = .ok (.aload_n 1, 1) := by decide +kernel
theorem dL_law_425 : decode cL_law 425 = .ok (.aload_n 0, 1) := by decide +kernel
theorem dL_law_426 : decode cL_law 426 = .ok (.iload_n 3, 1) := by decide +kernel
theorem dL_law_427 : decode cL_law 427 = .ok (.iconst 1, 1) := by decide +kernel
theorem dL_law_428 : decode cL_law 428 = .ok (.iadd, 1) := by decide +kernel
theorem dL_law_429 : decode cL_law 429 = .ok (.iaload, 1) := by decide +kernel
theorem dL_law_430 : decode cL_law 430 = .ok (.invokevirtual 75, 3) := by decide +kernel
theorem dL_law_433 : decode cL_law 433 = .ok (.aload_n 2, 1) := by decide +kernel
theorem dL_law_434 : decode cL_law 434 = .ok (.aload_n 0, 1) := by decide +kernel
theorem dL_law_435 : decode cL_law 435 = .ok (.iload_n 3, 1) := by decide +kernel
theorem dL_law_436 : decode cL_law 436 = .ok (.iconst 1, 1) := by decide +kernel
theorem dL_law_437 : decode cL_law 437 = .ok (.iadd, 1) := by decide +kernel
theorem dL_law_438 : decode cL_law 438 = .ok (.iaload, 1) := by decide +kernel
theorem dL_law_439 : decode cL_law 439 = .ok (.invokevirtual 78, 3) := by decide +kernel
theorem dL_law_442 : decode cL_law 442 = .ok (.if_icmp .eq 5, 3) := by decide +kernel
theorem dL_law_445 : decode cL_law 445 = .ok (.iconst 0, 1) := by decide +kernel
theorem dL_law_446 : decode cL_law 446 = .ok (.ireturn, 1) := by decide +kernel
theorem dL_law_447 : decode cL_law 447 = .ok (.iinc 3 4, 3) := by decide +kernel
theorem dL_law_450 : decode cL_law 450 = .ok (.goto (-422), 3) := by decide +kernel
theorem dL_law_453 : decode cL_law 453 = .ok (.iconst 1, 1) := by decide +kernel
theorem dL_law_454 : decode cL_law 454 = .ok (.ireturn, 1) := by decide +kernel
end
end
section
/-! THE INT LAYER: every machine int is written iI z; pure reasoning is over Int -/
section
def iI (z : Int) : Int32 := Int32.ofInt z
theorem iI_add (a b : Int) : iI a + iI b = iI (a + b) := (Int32.ofInt_add a b).symm
theorem iI_sub (a b : Int) : iI a - iI b = iI (a - b) := (Int32.ofInt_sub a b).symm
theorem iI_mul (a b : Int) : iI a * iI b = iI (a * b) := (Int32.ofInt_mul a b).symm
theorem iI_toInt {a : Int} (h : -2147483648 ≤ a ∧ a ≤ 2147483647) : (iI a).toInt = a := Int32.toInt_ofInt_of_le (by omega) (by omega)
theorem iI_lt {a b : Int} (ha : -2147483648 ≤ a ∧ a ≤ 2147483647) (hb : -2147483648 ≤ b ∧ b ≤ 2147483647) : iI a < iI b ↔ a < b := by rw [Int32.lt_iff_toInt_lt, iI_toInt ha, iI_toInt hb]
theorem iI_le {a b : Int} (ha : -2147483648 ≤ a ∧ a ≤ 2147483647) (hb : -2147483648 ≤ b ∧ b ≤ 2147483647) : iI a ≤ iI b ↔ a ≤ b := by rw [Int32.le_iff_toInt_le, iI_toInt ha, iI_toInt hb]
theorem iI_eq {a b : Int} (ha : -2147483648 ≤ a ∧ a ≤ 2147483647) (hb : -2147483648 ≤ b ∧ b ≤ 2147483647) : iI a = iI b ↔ a = b := by rw [← Int32.toInt_inj, iI_toInt ha, iI_toInt hb]
theorem iI_0 : iI 0 = 0 := rfl
theorem iI_1 : iI 1 = 1 := rfl
theorem iI_self (x : Int32) : x = iI x.toInt := (Int32.ofInt_toInt x).symm
theorem iI_rng (x : Int32) : -2147483648 ≤ x.toInt ∧ x.toInt ≤ 2147483647 := by
  have h1 := Int32.toInt_lt x
  have h2 := Int32.le_toInt x
  omega
theorem iI_nat (n : Nat) : iI (n : Int) = nI n := Int32.ofInt_eq_ofNat
theorem iI_toNat {a : Int} (h : 0 ≤ a) : iI a = nI a.toNat := by
  rw [← iI_nat]
  congr 1
  omega
theorem iI_clamp {a : Int} (h0 : 0 ≤ a) (h : a ≤ 2147483647) : (iI a).toNatClampNeg = a.toNat := by
  rw [iI_toNat h0, nI_clamp (by omega)]
theorem iI_in {a : Int} {n : Nat} (h0 : 0 ≤ a) (h1 : a < n) (hn : n ≤ 1000) : vp_in (iI a) n := vp_in_iff.mpr (by rw [iI_toInt (by omega)]; exact ⟨h0, h1⟩)
theorem iI_byte {z : Int} (h : -128 ≤ z ∧ z ≤ 127) : (iI z).toInt8.toInt32 = iI z := by
  obtain ⟨k, hk, rfl⟩ : ∃ k : Nat, k < 256 ∧ z = (k : Int) - 128 := ⟨(z + 128).toNat, by omega, by omega⟩
  have hall : ∀ k : Fin 256, (iI ((k.val : Int) - 128)).toInt8.toInt32 = iI ((k.val : Int) - 128) := by decide +kernel
  exact hall ⟨k, hk⟩
theorem iI_div {a b : Int} (ha : -2147483647 ≤ a ∧ a ≤ 2147483647) (hb : 0 < b ∧ b ≤ 2147483647) : iI a / iI b = iI (a.tdiv b) := by
  refine (Int32.ofInt_tdiv ?_ ?_ ?_ ?_).symm
  · rw [show Int32.minValue.toInt = -2147483648 from rfl]; omega
  · rw [show Int32.maxValue.toInt = 2147483647 from rfl]; omega
  · rw [show Int32.minValue.toInt = -2147483648 from rfl]; omega
  · rw [show Int32.maxValue.toInt = 2147483647 from rfl]; omega
/-! sets of small numbers as masks -/
def ms (P : Int → Bool) : Int := (if P 0 then 1 else 0) + (if P 1 then 2 else 0) + (if P 2 then 4 else 0) + (if P 3 then 8 else 0) + (if P 4 then 16 else 0)
def msB (a b c d e : Bool) : Int := (if a then 1 else 0) + (if b then 2 else 0) + (if c then 4 else 0) + (if d then 8 else 0) + (if e then 16 else 0)
theorem ms_B (P : Int → Bool) : ms P = msB (P 0) (P 1) (P 2) (P 3) (P 4) := rfl
theorem ms_rng (P : Int → Bool) : 0 ≤ ms P ∧ ms P ≤ 31 := by
  unfold ms
  refine ⟨?_, ?_⟩ <;> (repeat' split) <;> omega
def pick5 (a b c d e : Bool) (k : Fin 5) : Bool := match k with
  | 0 => a
  | 1 => b
  | 2 => c
  | 3 => d
  | 4 => e
theorem five {z : Int} (h0 : 0 ≤ z) (h1 : z < 5) : ∃ k : Fin 5, z = (k.val : Int) := ⟨⟨z.toNat, by omega⟩, by show z = ((z.toNat : Nat) : Int); omega⟩
theorem pick5_P (P : Int → Bool) (k : Fin 5) : pick5 (P 0) (P 1) (P 2) (P 3) (P 4) k = P (k.val : Int) := by
  revert k
  intro k
  match k with
  | 0 => rfl
  | 1 => rfl
  | 2 => rfl
  | 3 => rfl
  | 4 => rfl
theorem ms_bit_all : ∀ (a b c d e : Bool) (k : Fin 5), (iI (msB a b c d e) >>> (iI (k.val : Int) &&& 31)) &&& iI 1 = iI (if pick5 a b c d e k then 1 else 0) := by decide +kernel
theorem ms_bit (P : Int → Bool) {j : Int} (h0 : 0 ≤ j) (h1 : j < 5) : (iI (ms P) >>> (iI j &&& 31)) &&& iI 1 = iI (if P j then 1 else 0) := by
  obtain ⟨k, rfl⟩ := five h0 h1
  rw [ms_B, ms_bit_all, pick5_P]
theorem ms_one_all : ∀ (k : Fin 5), iI 1 <<< (iI (k.val : Int) &&& 31) = iI (msB (decide ((0 : Int) = (k.val : Int))) (decide ((1 : Int) = (k.val : Int))) (decide ((2 : Int) = (k.val : Int))) (decide ((3 : Int) = (k.val : Int))) (decide ((4 : Int) = (k.val : Int)))) := by decide +kernel
theorem ms_one {j : Int} (h0 : 0 ≤ j) (h1 : j < 5) : iI 1 <<< (iI j &&& 31) = iI (ms (fun i => decide (i = j))) := by
  obtain ⟨k, rfl⟩ := five h0 h1
  rw [ms_B, ms_one_all]
theorem ms_or_all : ∀ (a b c d e a' b' c' d' e' : Bool), iI (msB a b c d e) ||| iI (msB a' b' c' d' e') = iI (msB (a || a') (b || b') (c || c') (d || d') (e || e')) := by decide +kernel
theorem ms_or (P Q : Int → Bool) : iI (ms P) ||| iI (ms Q) = iI (ms (fun i => P i || Q i)) := by rw [ms_B, ms_B, ms_or_all, ms_B]
theorem ms_not_all : ∀ (a b c d e a' b' c' d' e' : Bool), iI (msB a b c d e) &&& (iI (msB a' b' c' d' e') ^^^ iI (-1)) = iI (msB (a && !a') (b && !b') (c && !c') (d && !d') (e && !e')) := by decide +kernel
theorem ms_not (P Q : Int → Bool) : iI (ms P) &&& (iI (ms Q) ^^^ iI (-1)) = iI (ms (fun i => P i && !Q i)) := by rw [ms_B, ms_B, ms_not_all, ms_B]
theorem ms_congr {P Q : Int → Bool} (h : ∀ i, 0 ≤ i → i < 5 → P i = Q i) : ms P = ms Q := by
  unfold ms
  rw [h 0 (by decide) (by decide), h 1 (by decide) (by decide), h 2 (by decide) (by decide), h 3 (by decide) (by decide), h 4 (by decide) (by decide)]
theorem ms_0 {P : Int → Bool} : ms P = 0 ↔ ∀ i, 0 ≤ i → i < 5 → P i = false := by
  constructor
  · intro h i h0 h1
    unfold ms at h
    obtain ⟨k, rfl⟩ := five h0 h1
    cases hp : P ((k.val : Nat) : Int) with
    | false => rfl
    | true =>
      exfalso
      match k, hp with
      | 0, hp => rw [show (((0 : Fin 5).val : Nat) : Int) = 0 from rfl] at hp; rw [hp] at h; revert h; (repeat' split) <;> simp_all <;> omega
      | 1, hp => rw [show (((1 : Fin 5).val : Nat) : Int) = 1 from rfl] at hp; rw [hp] at h; revert h; (repeat' split) <;> simp_all <;> omega
      | 2, hp => rw [show (((2 : Fin 5).val : Nat) : Int) = 2 from rfl] at hp; rw [hp] at h; revert h; (repeat' split) <;> simp_all <;> omega
      | 3, hp => rw [show (((3 : Fin 5).val : Nat) : Int) = 3 from rfl] at hp; rw [hp] at h; revert h; (repeat' split) <;> simp_all <;> omega
      | 4, hp => rw [show (((4 : Fin 5).val : Nat) : Int) = 4 from rfl] at hp; rw [hp] at h; revert h; (repeat' split) <;> simp_all <;> omega
  · intro h
    unfold ms
    rw [h 0 (by decide) (by decide), h 1 (by decide) (by decide), h 2 (by decide) (by decide), h 3 (by decide) (by decide), h 4 (by decide) (by decide)]
    rfl
end
/-! THE JUDGEMENT G -/
section
/-- locals: known values by index -/
def gl (ls : Array Slot) (nL : Nat) (lv : List (Option Value)) : Prop := ∃ l : List (Nat × Value), lv_has ls nL l ∧ (∀ q ∈ l, q.2.category = 1) ∧ ∀ (i : Nat) (v : Value), lv[i]? = some (some v) → (i, v) ∈ l
theorem gl.at {ls : Array Slot} {nL : Nat} {lv : List (Option Value)} (h : gl ls nL lv) {i : Nat} {v : Value} (hv : lv[i]? = some (some v)) : ls[i]? = some (.val v) := by
  obtain ⟨l, h1, -, h3⟩ := h
  exact h1.2.2 _ (h3 i v hv)
theorem gl.size {ls : Array Slot} {nL : Nat} {lv : List (Option Value)} (h : gl ls nL lv) : ls.size = nL := by
  obtain ⟨l, h1, -, -⟩ := h
  exact h1.1
theorem gl.put {ls : Array Slot} {nL : Nat} {lv : List (Option Value)} {l : List (Nat × Value)} {i : Nat} {v : Value} (hc : v.category = 1) (h2 : ∀ q ∈ l, q.2.category = 1) (h3 : ∀ (i : Nat) (v : Value), lv[i]? = some (some v) → (i, v) ∈ l) (h : lv_has ls nL ((i, v) :: l.filter (fun q => !(q.1 == i) && !(q.1 + 1 == i && q.2.category == 2)))) : gl ls nL (lv.set i (some v)) := by
  refine ⟨_, h, ?_, ?_⟩
  · intro q hq
    rcases List.mem_cons.mp hq with e | e
    · rw [e]; exact hc
    · exact h2 q (List.mem_filter.mp e).1
  · intro j w hj
    by_cases e : i = j
    · subst e
      rw [List.getElem?_set_self'] at hj
      cases hl : lv[i]? with
      | none => rw [hl] at hj; simp at hj
      | some o =>
        rw [hl] at hj
        simp at hj
        rw [← hj]
        exact List.mem_cons_self
    · rw [List.getElem?_set_ne e] at hj
      have hm := h3 j w hj
      have hcw := h2 _ hm
      refine List.mem_cons_of_mem _ (List.mem_filter.mpr ⟨hm, ?_⟩)
      have hcw : w.category = 1 := hcw
      simp [hcw]
      exact fun q => e q.symm
theorem args_mem : ∀ (vs : List Value) (k : Nat), (∀ v ∈ vs, v.category = 1) → (∀ (i : Nat) (v : Value), vs[i]? = some v → (k + i, v) ∈ lv_args k vs) ∧ ∀ q ∈ lv_args k vs, q.2.category = 1
  | [], k, _ => ⟨fun i v h => by simp at h, fun q h => by simp [lv_args] at h⟩
  | v :: vs, k, hc => by
    have h1 : v.category = 1 := hc v List.mem_cons_self
    have ih := args_mem vs (k + 1) (fun w hw => hc w (List.mem_cons_of_mem _ hw))
    have he : lv_args k (v :: vs) = (k, v) :: lv_args (k + 1) vs := by
      rw [lv_args, if_neg (by rw [h1]; decide)]
    rw [he]
    refine ⟨fun i w h => ?_, fun q hq => ?_⟩
    · match i with
      | 0 =>
        simp at h
        rw [h]
        exact List.mem_cons_self
      | i + 1 =>
        simp at h
        have := ih.1 i w h
        rw [show k + (i + 1) = k + 1 + i by omega]
        exact List.mem_cons_of_mem _ this
    · rcases List.mem_cons.mp hq with e | e
      · rw [e]; exact h1
      · exact ih.2 q e
theorem gl.entry (vs : List Value) {n : Nat} {lv : List (Option Value)} (hc : ∀ v ∈ vs, v.category = 1) (h : (lg_sl vs).length ≤ n) (hlv : ∀ (i : Nat) (v : Value), lv[i]? = some (some v) → vs[i]? = some v) : gl ((lg_sl vs ++ List.replicate (n - (lg_sl vs).length) Slot.unset).toArray) n lv := by
  refine ⟨lv_args 0 vs, lv_entry vs h, (args_mem vs 0 hc).2, fun i v hi => ?_⟩
  have := (args_mem vs 0 hc).1 i v (hlv i v hi)
  rwa [Nat.zero_add] at this
theorem gl.fewer {ls : Array Slot} {nL : Nat} {lv lv' : List (Option Value)} (h : gl ls nL lv) (hs : ∀ (i : Nat) (v : Value), lv'[i]? = some (some v) → lv[i]? = some (some v)) : gl ls nL lv' := by
  obtain ⟨l, h1, h2, h3⟩ := h
  exact ⟨l, h1, h2, fun i v hi => h3 i v (hs i v hi)⟩
/-- the fixed things of a walk: program, launch, env, room, start, method, its arguments, frames below, method, code, goal, classes, own cells, cells and slots made -/
abbrev Cx : Type := Program × Launch × Env × Room × State × MethodId × Array Value × List Frame × Method × Code × (State → Prop) × va_G × (Nat → Prop) × Nat × Nat
def G (X : Cx) (nL : Nat) (ws : va_W) (lv : List (Option Value)) (pc : Nat) (st : List Value) : Prop := match X with
  | (p, l, e, R, s, m, args, below, meth, c, Q, D, A, ce, sl) => ∀ (H : Heap) (locs : List Loc) (ls : Array Slot), va_P D vwCl ws H → va_D A ws → va_S A s.heap H locs → gl ls nL lv → W p l e R s m args below meth c H locs ce sl Q (F0 m pc ls st)
def Ok (X : Cx) (cc : ByteArray) (nL k : Nat) (own : String) (tys : List (ClassId × FieldType)) : Prop := match X with
  | (p, l, e, R, s, m, args, below, meth, c, Q, D, A, ce, sl) => p.tables.exec = Jvm.exec ∧ c.code = cc ∧ c.maxLocals = nL ∧ s.vm.findClass own = some m.cls ∧ (∀ w ∈ lw_all, w.before args s = true) ∧ va_K D vwCl tys s ∧ (∀ q : Nat, s.heap.size ≤ q → A q) ∧ k ≤ R.frames ∧ 30 * k ≤ R.locals ∧ ce ≤ R.cells ∧ sl ≤ R.slots
variable {X : Cx} {cc : ByteArray} {nL k : Nat} {own : String} {tys : List (ClassId × FieldType)} {ws : va_W} {lv : List (Option Value)} {pc : Nat} {st rest : List Value}
theorem g_iadd (hX : Ok X cc nL k own tys) {a b : Int} (hdg : decode cc pc = .ok (.iadd, 1)) (kk : G X nL ws lv (pc + 1) (.int (iI (a + b)) :: rest)) : G X nL ws lv pc (.int (iI b) :: .int (iI a) :: rest) := by
  obtain ⟨p, l, e, R, s, m, args, below, meth, c, Q, D, A, ce, sl⟩ := X
  intro H locs ls hP hD hS hl
  refine lv_iadd hX.1 hX.2.1 hdg ?_
  rw [iI_add]
  exact kk H locs ls hP hD hS hl
theorem g_isub (hX : Ok X cc nL k own tys) {a b : Int} (hdg : decode cc pc = .ok (.isub, 1)) (kk : G X nL ws lv (pc + 1) (.int (iI (a - b)) :: rest)) : G X nL ws lv pc (.int (iI b) :: .int (iI a) :: rest) := by
  obtain ⟨p, l, e, R, s, m, args, below, meth, c, Q, D, A, ce, sl⟩ := X
  intro H locs ls hP hD hS hl
  refine lv_isub hX.1 hX.2.1 hdg ?_
  rw [iI_sub]
  exact kk H locs ls hP hD hS hl
theorem g_imul (hX : Ok X cc nL k own tys) {a b : Int} (hdg : decode cc pc = .ok (.imul, 1)) (kk : G X nL ws lv (pc + 1) (.int (iI (a * b)) :: rest)) : G X nL ws lv pc (.int (iI b) :: .int (iI a) :: rest) := by
  obtain ⟨p, l, e, R, s, m, args, below, meth, c, Q, D, A, ce, sl⟩ := X
  intro H locs ls hP hD hS hl
  refine lv_imul hX.1 hX.2.1 hdg ?_
  rw [iI_mul]
  exact kk H locs ls hP hD hS hl
theorem g_iand (hX : Ok X cc nL k own tys) {x y : Int32} (hdg : decode cc pc = .ok (.iand, 1)) (kk : G X nL ws lv (pc + 1) (.int (x &&& y) :: rest)) : G X nL ws lv pc (.int y :: .int x :: rest) := by
  obtain ⟨p, l, e, R, s, m, args, below, meth, c, Q, D, A, ce, sl⟩ := X
  intro H locs ls hP hD hS hl
  exact lv_iand hX.1 hX.2.1 hdg (kk H locs ls hP hD hS hl)
theorem g_ior (hX : Ok X cc nL k own tys) {x y : Int32} (hdg : decode cc pc = .ok (.ior, 1)) (kk : G X nL ws lv (pc + 1) (.int (x ||| y) :: rest)) : G X nL ws lv pc (.int y :: .int x :: rest) := by
  obtain ⟨p, l, e, R, s, m, args, below, meth, c, Q, D, A, ce, sl⟩ := X
  intro H locs ls hP hD hS hl
  exact lv_ior hX.1 hX.2.1 hdg (kk H locs ls hP hD hS hl)
theorem g_ixor (hX : Ok X cc nL k own tys) {x y : Int32} (hdg : decode cc pc = .ok (.ixor, 1)) (kk : G X nL ws lv (pc + 1) (.int (x ^^^ y) :: rest)) : G X nL ws lv pc (.int y :: .int x :: rest) := by
  obtain ⟨p, l, e, R, s, m, args, below, meth, c, Q, D, A, ce, sl⟩ := X
  intro H locs ls hP hD hS hl
  exact lv_ixor hX.1 hX.2.1 hdg (kk H locs ls hP hD hS hl)
theorem g_ishl (hX : Ok X cc nL k own tys) {x y : Int32} (hdg : decode cc pc = .ok (.ishl, 1)) (kk : G X nL ws lv (pc + 1) (.int (x <<< (y &&& 31)) :: rest)) : G X nL ws lv pc (.int y :: .int x :: rest) := by
  obtain ⟨p, l, e, R, s, m, args, below, meth, c, Q, D, A, ce, sl⟩ := X
  intro H locs ls hP hD hS hl
  exact lv_ishl hX.1 hX.2.1 hdg (kk H locs ls hP hD hS hl)
theorem g_ishr (hX : Ok X cc nL k own tys) {x y : Int32} (hdg : decode cc pc = .ok (.ishr, 1)) (kk : G X nL ws lv (pc + 1) (.int (x >>> (y &&& 31)) :: rest)) : G X nL ws lv pc (.int y :: .int x :: rest) := by
  obtain ⟨p, l, e, R, s, m, args, below, meth, c, Q, D, A, ce, sl⟩ := X
  intro H locs ls hP hD hS hl
  exact lv_ishr hX.1 hX.2.1 hdg (kk H locs ls hP hD hS hl)
theorem g_idiv (hX : Ok X cc nL k own tys) {a b : Int} (hdg : decode cc pc = .ok (.idiv, 1)) (ha : 0 ≤ a ∧ a ≤ 2147483647) (hb : 0 < b ∧ b ≤ 2147483647) (kk : G X nL ws lv (pc + 1) (.int (iI (a / b)) :: rest)) : G X nL ws lv pc (.int (iI b) :: .int (iI a) :: rest) := by
  obtain ⟨p, l, e, R, s, m, args, below, meth, c, Q, D, A, ce, sl⟩ := X
  intro H locs ls hP hD hS hl
  refine lv_idiv hX.1 hX.2.1 hdg (fun q => ?_) ?_
  · have := (iI_eq (a := b) (b := 0) (by omega) (by omega)).mp q
    omega
  · rw [iI_div (by omega) hb, Int.tdiv_eq_ediv_of_nonneg ha.1]
    exact kk H locs ls hP hD hS hl
theorem g_irem (hX : Ok X cc nL k own tys) {a b : Int} (hdg : decode cc pc = .ok (.irem, 1)) (ha : 0 ≤ a ∧ a ≤ 2147483647) (hb : 0 < b ∧ b ≤ 2147483647) (kk : G X nL ws lv (pc + 1) (.int (iI (a % b)) :: rest)) : G X nL ws lv pc (.int (iI b) :: .int (iI a) :: rest) := by
  obtain ⟨p, l, e, R, s, m, args, below, meth, c, Q, D, A, ce, sl⟩ := X
  intro H locs ls hP hD hS hl
  refine lv_irem hX.1 hX.2.1 hdg (fun q => ?_) ?_
  · have := (iI_eq (a := b) (b := 0) (by omega) (by omega)).mp q
    omega
  · rw [iI_div (by omega) hb, Int.tdiv_eq_ediv_of_nonneg ha.1, iI_mul, iI_sub, show a - a / b * b = a % b by rw [Int.emod_def, Int.mul_comm]]
    exact kk H locs ls hP hD hS hl
theorem g_i2b (hX : Ok X cc nL k own tys) {z : Int} (hdg : decode cc pc = .ok (.i2b, 1)) (hz : -128 ≤ z ∧ z ≤ 127) (kk : G X nL ws lv (pc + 1) (.int (iI z) :: rest)) : G X nL ws lv pc (.int (iI z) :: rest) := by
  obtain ⟨p, l, e, R, s, m, args, below, meth, c, Q, D, A, ce, sl⟩ := X
  intro H locs ls hP hD hS hl
  exact lv_i2b hX.1 hX.2.1 hdg (iI_byte hz) (kk H locs ls hP hD hS hl)
theorem g_int {x : Int32} {z : Int} (h : x = iI z) (kk : G X nL ws lv pc (.int (iI z) :: rest)) : G X nL ws lv pc (.int x :: rest) := by
  rw [h]
  exact kk
theorem g_z {z z' : Int} (h : z = z') (kk : G X nL ws lv pc (.int (iI z') :: rest)) : G X nL ws lv pc (.int (iI z) :: rest) := by
  rw [h]
  exact kk
theorem g_nm {z : Int} (kk : ∀ z' : Int, z' = z → G X nL ws lv pc (.int (iI z') :: rest)) : G X nL ws lv pc (.int (iI z) :: rest) := kk z rfl
theorem g_ws {ws' : va_W} (h : ws = ws') (kk : G X nL ws' lv pc st) : G X nL ws lv pc st := by
  rw [h]
  exact kk
theorem g_lv {lv' : List (Option Value)} (kk : G X nL ws lv' pc st) (hs : ∀ (i : Nat) (v : Value), lv'[i]? = some (some v) → lv[i]? = some (some v)) : G X nL ws lv pc st := by
  obtain ⟨p, l, e, R, s, m, args, below, meth, c, Q, D, A, ce, sl⟩ := X
  intro H locs ls hP hD hS hl
  exact kk H locs ls hP hD hS (hl.fewer hs)
theorem g_iconst (hX : Ok X cc nL k own tys) {n : Int} (hdg : decode cc pc = .ok (.iconst n, 1)) (kk : G X nL ws lv (pc + 1) (.int (iI n) :: st)) : G X nL ws lv pc st := by
  obtain ⟨p, l, e, R, s, m, args, below, meth, c, Q, D, A, ce, sl⟩ := X
  intro H locs ls hP hD hS hl
  exact lv_iconst hX.1 hX.2.1 hdg rfl (kk H locs ls hP hD hS hl)
theorem g_bipush (hX : Ok X cc nL k own tys) {n : Int} (hdg : decode cc pc = .ok (.bipush n, 2)) (hv : (Int8.ofInt n).toInt32 = iI n) (kk : G X nL ws lv (pc + 2) (.int (iI n) :: st)) : G X nL ws lv pc st := by
  obtain ⟨p, l, e, R, s, m, args, below, meth, c, Q, D, A, ce, sl⟩ := X
  intro H locs ls hP hD hS hl
  exact lv_bipush hX.1 hX.2.1 hdg hv (kk H locs ls hP hD hS hl)
theorem g_sipush (hX : Ok X cc nL k own tys) {n : Int} (hdg : decode cc pc = .ok (.sipush n, 3)) (hv : (Int16.ofInt n).toInt32 = iI n) (kk : G X nL ws lv (pc + 3) (.int (iI n) :: st)) : G X nL ws lv pc st := by
  obtain ⟨p, l, e, R, s, m, args, below, meth, c, Q, D, A, ce, sl⟩ := X
  intro H locs ls hP hD hS hl
  exact lv_sipush hX.1 hX.2.1 hdg hv (kk H locs ls hP hD hS hl)
theorem g_ldc (hX : Ok X cc nL k own tys) {idx : Nat} {z : Int} {v : Int32} (hw : Cond.constant own idx v ∈ lw_all) (hz : v = iI z) (hdg : decode cc pc = .ok (.ldc idx, 2)) (kk : G X nL ws lv (pc + 2) (.int (iI z) :: st)) : G X nL ws lv pc st := by
  obtain ⟨p, l, e, R, s, m, args, below, meth, c, Q, D, A, ce, sl⟩ := X
  intro H locs ls hP hD hS hl
  subst hz
  exact lv_ldc hX.1 hX.2.1 hX.2.2.2.1 (hX.2.2.2.2.1 _ hw) hdg (kk H locs ls hP hD hS hl)
theorem g_iload_n (hX : Ok X cc nL k own tys) {j : Fin 4} {x : Int32} (hdg : decode cc pc = .ok (.iload_n j, 1)) (hv : lv[(j : Nat)]? = some (some (.int x))) (kk : G X nL ws lv (pc + 1) (.int x :: st)) : G X nL ws lv pc st := by
  obtain ⟨p, l, e, R, s, m, args, below, meth, c, Q, D, A, ce, sl⟩ := X
  intro H locs ls hP hD hS hl
  exact lv_iload_n hX.1 hX.2.1 hdg rfl (hl.at hv) (kk H locs ls hP hD hS hl)
theorem g_iload (hX : Ok X cc nL k own tys) {j : Nat} {x : Int32} (hdg : decode cc pc = .ok (.iload j, 2)) (hv : lv[j]? = some (some (.int x))) (kk : G X nL ws lv (pc + 2) (.int x :: st)) : G X nL ws lv pc st := by
  obtain ⟨p, l, e, R, s, m, args, below, meth, c, Q, D, A, ce, sl⟩ := X
  intro H locs ls hP hD hS hl
  exact lv_iload hX.1 hX.2.1 hdg (hl.at hv) (kk H locs ls hP hD hS hl)
theorem g_aload_n (hX : Ok X cc nL k own tys) {j : Fin 4} {x : Nat} (hdg : decode cc pc = .ok (.aload_n j, 1)) (hv : lv[(j : Nat)]? = some (some (.ref x))) (kk : G X nL ws lv (pc + 1) (.ref x :: st)) : G X nL ws lv pc st := by
  obtain ⟨p, l, e, R, s, m, args, below, meth, c, Q, D, A, ce, sl⟩ := X
  intro H locs ls hP hD hS hl
  exact lv_aload_n hX.1 hX.2.1 hdg rfl (hl.at hv) (kk H locs ls hP hD hS hl)
theorem g_istore_n (hX : Ok X cc nL k own tys) {j : Fin 4} {x : Int32} (hdg : decode cc pc = .ok (.istore_n j, 1)) (hn : (j : Nat) < nL) (kk : G X nL ws (lv.set (j : Nat) (some (.int x))) (pc + 1) rest) : G X nL ws lv pc (.int x :: rest) := by
  obtain ⟨p, l, e, R, s, m, args, below, meth, c, Q, D, A, ce, sl⟩ := X
  intro H locs ls hP hD hS hl
  obtain ⟨l0, h1, h2, h3⟩ := hl
  exact lv_istore_n hX.1 hX.2.1 hdg rfl h1 hn rfl (fun ls1 h => kk H locs ls1 hP hD hS (gl.put rfl h2 h3 h))
theorem g_istore (hX : Ok X cc nL k own tys) {j : Nat} {x : Int32} (hdg : decode cc pc = .ok (.istore j, 2)) (hn : j < nL) (kk : G X nL ws (lv.set j (some (.int x))) (pc + 2) rest) : G X nL ws lv pc (.int x :: rest) := by
  obtain ⟨p, l, e, R, s, m, args, below, meth, c, Q, D, A, ce, sl⟩ := X
  intro H locs ls hP hD hS hl
  obtain ⟨l0, h1, h2, h3⟩ := hl
  exact lv_istore hX.1 hX.2.1 hdg h1 hn rfl (fun ls1 h => kk H locs ls1 hP hD hS (gl.put rfl h2 h3 h))
theorem g_astore_n (hX : Ok X cc nL k own tys) {j : Fin 4} {x : Nat} (hdg : decode cc pc = .ok (.astore_n j, 1)) (hn : (j : Nat) < nL) (kk : G X nL ws (lv.set (j : Nat) (some (.ref x))) (pc + 1) rest) : G X nL ws lv pc (.ref x :: rest) := by
  obtain ⟨p, l, e, R, s, m, args, below, meth, c, Q, D, A, ce, sl⟩ := X
  intro H locs ls hP hD hS hl
  obtain ⟨l0, h1, h2, h3⟩ := hl
  exact lv_astore_n hX.1 hX.2.1 hdg rfl h1 hn rfl (fun ls1 h => kk H locs ls1 hP hD hS (gl.put rfl h2 h3 h))
theorem g_iinc (hX : Ok X cc nL k own tys) {j : Nat} {n z : Int} (hdg : decode cc pc = .ok (.iinc j n, 3)) (hv : lv[j]? = some (some (.int (iI z)))) (hn : j < nL) (kk : G X nL ws (lv.set j (some (.int (iI (z + n))))) (pc + 3) st) : G X nL ws lv pc st := by
  obtain ⟨p, l, e, R, s, m, args, below, meth, c, Q, D, A, ce, sl⟩ := X
  intro H locs ls hP hD hS hl
  obtain ⟨l0, h1, h2, h3⟩ := hl
  obtain ⟨i0, hi0⟩ := List.getElem?_of_mem (h3 j _ hv)
  exact lv_iinc hX.1 hX.2.1 hdg h1 hi0 (iI_add z n) hn rfl (fun ls1 h => kk H locs ls1 hP hD hS (gl.put rfl h2 h3 h))
theorem g_dup (hX : Ok X cc nL k own tys) {v : Value} (hdg : decode cc pc = .ok (.dup, 1)) (hv : v.category = 1) (kk : G X nL ws lv (pc + 1) (v :: v :: rest)) : G X nL ws lv pc (v :: rest) := by
  obtain ⟨p, l, e, R, s, m, args, below, meth, c, Q, D, A, ce, sl⟩ := X
  intro H locs ls hP hD hS hl
  exact lv_dup hX.1 hX.2.1 hdg hv (kk H locs ls hP hD hS hl)
theorem g_dup2 (hX : Ok X cc nL k own tys) {v w : Value} (hdg : decode cc pc = .ok (.dup2, 1)) (hv : v.category = 1) (hw : w.category = 1) (kk : G X nL ws lv (pc + 1) (v :: w :: v :: w :: rest)) : G X nL ws lv pc (v :: w :: rest) := by
  obtain ⟨p, l, e, R, s, m, args, below, meth, c, Q, D, A, ce, sl⟩ := X
  intro H locs ls hP hD hS hl
  exact lv_dup2_11 hX.1 hX.2.1 hdg hv hw (kk H locs ls hP hD hS hl)
theorem g_goto (hX : Ok X cc nL k own tys) {off : Int} {tgt : Nat} (hdg : decode cc pc = .ok (.goto off, 3)) (ht : (pc : Int) + off = (tgt : Int)) (kk : G X nL ws lv tgt st) : G X nL ws lv pc st := by
  obtain ⟨p, l, e, R, s, m, args, below, meth, c, Q, D, A, ce, sl⟩ := X
  intro H locs ls hP hD hS hl
  exact lv_goto hX.1 hX.2.1 hdg ht (kk H locs ls hP hD hS hl)
theorem g_icmp_eq (hX : Ok X cc nL k own tys) {a b : Int} {off : Int} {tgt : Nat} (hdg : decode cc pc = .ok (.if_icmp .eq off, 3)) (ht : (pc : Int) + off = (tgt : Int)) (ha : -2147483648 ≤ a ∧ a ≤ 2147483647) (hb : -2147483648 ≤ b ∧ b ≤ 2147483647) (kt : a = b → G X nL ws lv tgt rest) (kf : ¬ a = b → G X nL ws lv (pc + 3) rest) : G X nL ws lv pc (.int (iI b) :: .int (iI a) :: rest) := by
  obtain ⟨p, l, e, R, s, m, args, below, meth, c, Q, D, A, ce, sl⟩ := X
  intro H locs ls hP hD hS hl
  exact lv_icmp_eq hX.1 hX.2.1 hdg ht (fun h => kt ((iI_eq ha hb).mp h) H locs ls hP hD hS hl) (fun h => kf (fun q => h ((iI_eq ha hb).mpr q)) H locs ls hP hD hS hl)
theorem g_if_eq (hX : Ok X cc nL k own tys) {a : Int} {off : Int} {tgt : Nat} (hdg : decode cc pc = .ok (.ifCond .eq off, 3)) (ht : (pc : Int) + off = (tgt : Int)) (ha : -2147483648 ≤ a ∧ a ≤ 2147483647) (kt : a = 0 → G X nL ws lv tgt rest) (kf : ¬ a = 0 → G X nL ws lv (pc + 3) rest) : G X nL ws lv pc (.int (iI a) :: rest) := by
  obtain ⟨p, l, e, R, s, m, args, below, meth, c, Q, D, A, ce, sl⟩ := X
  intro H locs ls hP hD hS hl
  exact lv_if_eq hX.1 hX.2.1 hdg ht (fun h => kt ((iI_eq ha (show -2147483648 ≤ (0 : Int) ∧ (0 : Int) ≤ 2147483647 by omega)).mp h) H locs ls hP hD hS hl) (fun h => kf (fun q => h ((iI_eq ha (show -2147483648 ≤ (0 : Int) ∧ (0 : Int) ≤ 2147483647 by omega)).mpr q)) H locs ls hP hD hS hl)
theorem g_icmp_ne (hX : Ok X cc nL k own tys) {a b : Int} {off : Int} {tgt : Nat} (hdg : decode cc pc = .ok (.if_icmp .ne off, 3)) (ht : (pc : Int) + off = (tgt : Int)) (ha : -2147483648 ≤ a ∧ a ≤ 2147483647) (hb : -2147483648 ≤ b ∧ b ≤ 2147483647) (kt : ¬ a = b → G X nL ws lv tgt rest) (kf : a = b → G X nL ws lv (pc + 3) rest) : G X nL ws lv pc (.int (iI b) :: .int (iI a) :: rest) := by
  obtain ⟨p, l, e, R, s, m, args, below, meth, c, Q, D, A, ce, sl⟩ := X
  intro H locs ls hP hD hS hl
  exact lv_icmp_ne hX.1 hX.2.1 hdg ht (fun h => kt (fun q => h ((iI_eq ha hb).mpr q)) H locs ls hP hD hS hl) (fun h => kf ((iI_eq ha hb).mp h) H locs ls hP hD hS hl)
theorem g_if_ne (hX : Ok X cc nL k own tys) {a : Int} {off : Int} {tgt : Nat} (hdg : decode cc pc = .ok (.ifCond .ne off, 3)) (ht : (pc : Int) + off = (tgt : Int)) (ha : -2147483648 ≤ a ∧ a ≤ 2147483647) (kt : ¬ a = 0 → G X nL ws lv tgt rest) (kf : a = 0 → G X nL ws lv (pc + 3) rest) : G X nL ws lv pc (.int (iI a) :: rest) := by
  obtain ⟨p, l, e, R, s, m, args, below, meth, c, Q, D, A, ce, sl⟩ := X
  intro H locs ls hP hD hS hl
  exact lv_if_ne hX.1 hX.2.1 hdg ht (fun h => kt (fun q => h ((iI_eq ha (show -2147483648 ≤ (0 : Int) ∧ (0 : Int) ≤ 2147483647 by omega)).mpr q)) H locs ls hP hD hS hl) (fun h => kf ((iI_eq ha (show -2147483648 ≤ (0 : Int) ∧ (0 : Int) ≤ 2147483647 by omega)).mp h) H locs ls hP hD hS hl)
theorem g_icmp_lt (hX : Ok X cc nL k own tys) {a b : Int} {off : Int} {tgt : Nat} (hdg : decode cc pc = .ok (.if_icmp .lt off, 3)) (ht : (pc : Int) + off = (tgt : Int)) (ha : -2147483648 ≤ a ∧ a ≤ 2147483647) (hb : -2147483648 ≤ b ∧ b ≤ 2147483647) (kt : a < b → G X nL ws lv tgt rest) (kf : b ≤ a → G X nL ws lv (pc + 3) rest) : G X nL ws lv pc (.int (iI b) :: .int (iI a) :: rest) := by
  obtain ⟨p, l, e, R, s, m, args, below, meth, c, Q, D, A, ce, sl⟩ := X
  intro H locs ls hP hD hS hl
  exact lv_icmp_lt hX.1 hX.2.1 hdg ht (fun h => kt ((iI_lt ha hb).mp h) H locs ls hP hD hS hl) (fun h => kf (Int.not_lt.mp (fun z => h ((iI_lt ha hb).mpr z))) H locs ls hP hD hS hl)
theorem g_if_lt (hX : Ok X cc nL k own tys) {a : Int} {off : Int} {tgt : Nat} (hdg : decode cc pc = .ok (.ifCond .lt off, 3)) (ht : (pc : Int) + off = (tgt : Int)) (ha : -2147483648 ≤ a ∧ a ≤ 2147483647) (kt : a < 0 → G X nL ws lv tgt rest) (kf : 0 ≤ a → G X nL ws lv (pc + 3) rest) : G X nL ws lv pc (.int (iI a) :: rest) := by
  obtain ⟨p, l, e, R, s, m, args, below, meth, c, Q, D, A, ce, sl⟩ := X
  intro H locs ls hP hD hS hl
  exact lv_if_lt hX.1 hX.2.1 hdg ht (fun h => kt ((iI_lt ha (show -2147483648 ≤ (0 : Int) ∧ (0 : Int) ≤ 2147483647 by omega)).mp h) H locs ls hP hD hS hl) (fun h => kf (Int.not_lt.mp (fun z => h ((iI_lt ha (show -2147483648 ≤ (0 : Int) ∧ (0 : Int) ≤ 2147483647 by omega)).mpr z))) H locs ls hP hD hS hl)
theorem g_icmp_ge (hX : Ok X cc nL k own tys) {a b : Int} {off : Int} {tgt : Nat} (hdg : decode cc pc = .ok (.if_icmp .ge off, 3)) (ht : (pc : Int) + off = (tgt : Int)) (ha : -2147483648 ≤ a ∧ a ≤ 2147483647) (hb : -2147483648 ≤ b ∧ b ≤ 2147483647) (kt : b ≤ a → G X nL ws lv tgt rest) (kf : a < b → G X nL ws lv (pc + 3) rest) : G X nL ws lv pc (.int (iI b) :: .int (iI a) :: rest) := by
  obtain ⟨p, l, e, R, s, m, args, below, meth, c, Q, D, A, ce, sl⟩ := X
  intro H locs ls hP hD hS hl
  exact lv_icmp_ge hX.1 hX.2.1 hdg ht (fun h => kt ((iI_le hb ha).mp h) H locs ls hP hD hS hl) (fun h => kf (Int.not_le.mp (fun z => h ((iI_le hb ha).mpr z))) H locs ls hP hD hS hl)
theorem g_if_ge (hX : Ok X cc nL k own tys) {a : Int} {off : Int} {tgt : Nat} (hdg : decode cc pc = .ok (.ifCond .ge off, 3)) (ht : (pc : Int) + off = (tgt : Int)) (ha : -2147483648 ≤ a ∧ a ≤ 2147483647) (kt : 0 ≤ a → G X nL ws lv tgt rest) (kf : a < 0 → G X nL ws lv (pc + 3) rest) : G X nL ws lv pc (.int (iI a) :: rest) := by
  obtain ⟨p, l, e, R, s, m, args, below, meth, c, Q, D, A, ce, sl⟩ := X
  intro H locs ls hP hD hS hl
  exact lv_if_ge hX.1 hX.2.1 hdg ht (fun h => kt ((iI_le (show -2147483648 ≤ (0 : Int) ∧ (0 : Int) ≤ 2147483647 by omega) ha).mp h) H locs ls hP hD hS hl) (fun h => kf (Int.not_le.mp (fun z => h ((iI_le (show -2147483648 ≤ (0 : Int) ∧ (0 : Int) ≤ 2147483647 by omega) ha).mpr z))) H locs ls hP hD hS hl)
theorem g_icmp_gt (hX : Ok X cc nL k own tys) {a b : Int} {off : Int} {tgt : Nat} (hdg : decode cc pc = .ok (.if_icmp .gt off, 3)) (ht : (pc : Int) + off = (tgt : Int)) (ha : -2147483648 ≤ a ∧ a ≤ 2147483647) (hb : -2147483648 ≤ b ∧ b ≤ 2147483647) (kt : b < a → G X nL ws lv tgt rest) (kf : a ≤ b → G X nL ws lv (pc + 3) rest) : G X nL ws lv pc (.int (iI b) :: .int (iI a) :: rest) := by
  obtain ⟨p, l, e, R, s, m, args, below, meth, c, Q, D, A, ce, sl⟩ := X
  intro H locs ls hP hD hS hl
  exact lv_icmp_gt hX.1 hX.2.1 hdg ht (fun h => kt ((iI_lt hb ha).mp h) H locs ls hP hD hS hl) (fun h => kf (Int.not_lt.mp (fun z => h ((iI_lt hb ha).mpr z))) H locs ls hP hD hS hl)
theorem g_if_gt (hX : Ok X cc nL k own tys) {a : Int} {off : Int} {tgt : Nat} (hdg : decode cc pc = .ok (.ifCond .gt off, 3)) (ht : (pc : Int) + off = (tgt : Int)) (ha : -2147483648 ≤ a ∧ a ≤ 2147483647) (kt : 0 < a → G X nL ws lv tgt rest) (kf : a ≤ 0 → G X nL ws lv (pc + 3) rest) : G X nL ws lv pc (.int (iI a) :: rest) := by
  obtain ⟨p, l, e, R, s, m, args, below, meth, c, Q, D, A, ce, sl⟩ := X
  intro H locs ls hP hD hS hl
  exact lv_if_gt hX.1 hX.2.1 hdg ht (fun h => kt ((iI_lt (show -2147483648 ≤ (0 : Int) ∧ (0 : Int) ≤ 2147483647 by omega) ha).mp h) H locs ls hP hD hS hl) (fun h => kf (Int.not_lt.mp (fun z => h ((iI_lt (show -2147483648 ≤ (0 : Int) ∧ (0 : Int) ≤ 2147483647 by omega) ha).mpr z))) H locs ls hP hD hS hl)
theorem g_icmp_le (hX : Ok X cc nL k own tys) {a b : Int} {off : Int} {tgt : Nat} (hdg : decode cc pc = .ok (.if_icmp .le off, 3)) (ht : (pc : Int) + off = (tgt : Int)) (ha : -2147483648 ≤ a ∧ a ≤ 2147483647) (hb : -2147483648 ≤ b ∧ b ≤ 2147483647) (kt : a ≤ b → G X nL ws lv tgt rest) (kf : b < a → G X nL ws lv (pc + 3) rest) : G X nL ws lv pc (.int (iI b) :: .int (iI a) :: rest) := by
  obtain ⟨p, l, e, R, s, m, args, below, meth, c, Q, D, A, ce, sl⟩ := X
  intro H locs ls hP hD hS hl
  exact lv_icmp_le hX.1 hX.2.1 hdg ht (fun h => kt ((iI_le ha hb).mp h) H locs ls hP hD hS hl) (fun h => kf (Int.not_le.mp (fun z => h ((iI_le ha hb).mpr z))) H locs ls hP hD hS hl)
theorem g_if_le (hX : Ok X cc nL k own tys) {a : Int} {off : Int} {tgt : Nat} (hdg : decode cc pc = .ok (.ifCond .le off, 3)) (ht : (pc : Int) + off = (tgt : Int)) (ha : -2147483648 ≤ a ∧ a ≤ 2147483647) (kt : a ≤ 0 → G X nL ws lv tgt rest) (kf : 0 < a → G X nL ws lv (pc + 3) rest) : G X nL ws lv pc (.int (iI a) :: rest) := by
  obtain ⟨p, l, e, R, s, m, args, below, meth, c, Q, D, A, ce, sl⟩ := X
  intro H locs ls hP hD hS hl
  exact lv_if_le hX.1 hX.2.1 hdg ht (fun h => kt ((iI_le ha (show -2147483648 ≤ (0 : Int) ∧ (0 : Int) ≤ 2147483647 by omega)).mp h) H locs ls hP hD hS hl) (fun h => kf (Int.not_le.mp (fun z => h ((iI_le ha (show -2147483648 ≤ (0 : Int) ∧ (0 : Int) ≤ 2147483647 by omega)).mpr z))) H locs ls hP hD hS hl)
end
end
section
/-! CONTRACTS over G: Ct (int or boolean answer), CtV (void) -/
section
def rmx (k : Nat) : Room := { frames := k, cells := 0, slots := 0, locals := 30 * k }
/-- y, with arguments As, in the world ws: returns iI z, leaves the world wf u, with post z u -/
def Ct {S : Type} (y : MethodName) (cc : ByteArray) (nL : Nat) (rt : Option FieldType) (k : Nat) (tys : List (ClassId × FieldType)) (ws : va_W) (wf : S → va_W) (As : List Value) (post : Int → S → Prop) : Prop :=
  ∀ (l : Launch) (D : va_G) (sz : Nat), Met l y (ws_ y cc nL rt) (rmx k) (va_Pc As (fun U => U.heap.size = sz ∧ va_P D vwCl ws U.heap ∧ va_K D vwCl tys U ∧ va_D (fun _ => True) ws)) (va_Qi (fun (r : Int32) (u : S) => ∃ z : Int, r = iI z ∧ post z u) (fun u t => va_P D vwCl (wf u) t.heap ∧ va_K D vwCl tys t ∧ va_D (va_A ws sz) (wf u)) (va_A ws sz)) 0 0 (va_A ws sz)
def CtV {S : Type} (y : MethodName) (cc : ByteArray) (nL : Nat) (k : Nat) (tys : List (ClassId × FieldType)) (ws : va_W) (wf : S → va_W) (As : List Value) (post : S → Prop) : Prop :=
  ∀ (l : Launch) (D : va_G) (sz : Nat), Met l y (ws_ y cc nL none) (rmx k) (va_Pc As (fun U => U.heap.size = sz ∧ va_P D vwCl ws U.heap ∧ va_K D vwCl tys U ∧ va_D (fun _ => True) ws)) (va_Qv (fun (u : S) => post u) (fun u t => va_P D vwCl (wf u) t.heap ∧ va_K D vwCl tys t ∧ va_D (va_A ws sz) (wf u)) (va_A ws sz)) 0 0 (va_A ws sz)
variable {X : Cx} {cc : ByteArray} {nL k : Nat} {own : String} {tys : List (ClassId × FieldType)} {ws : va_W} {lv : List (Option Value)} {pc : Nat} {st rest : List Value}
theorem cat_all {As : List Value} (h : As.all (fun v => v.category == 1) = true) : ∀ v ∈ As, v.category = 1 := fun v hv => by
  have := List.all_eq_true.mp h v hv
  simpa using this
theorem lv_of {As : List Value} {n : Nat} (i : Nat) (v : Value) (h : (As.map some ++ List.replicate n none)[i]? = some (some v)) : As[i]? = some v := by
  by_cases hi : i < As.length
  · rw [List.getElem?_append_left (by simpa using hi), List.getElem?_map] at h
    cases ha : As[i]? with
    | none => rw [ha] at h; simp at h
    | some w => rw [ha] at h; simp at h; rw [h]
  · rw [List.getElem?_append_right (by simpa using hi), List.getElem?_replicate] at h
    split at h <;> simp at h
/-- a truth value z for c -/
def bz (z : Int) (c : Prop) : Prop := (z = 0 ∧ ¬ c) ∨ (z = 1 ∧ c)
theorem bz.b {z : Int} {c : Prop} (h : bz z c) : z = 0 ∨ z = 1 := by
  rcases h with h | h
  · exact Or.inl h.1
  · exact Or.inr h.1
theorem bz.no {z : Int} {c : Prop} (h : bz z c) (e : z = 0) : ¬ c := by
  rcases h with h | h
  · exact h.2
  · omega
theorem bz.yes {z : Int} {c : Prop} (h : bz z c) (e : ¬ z = 0) : c := by
  rcases h with h | h
  · exact absurd h.1 e
  · exact h.2
theorem bz.r {z : Int} {c : Prop} (h : bz z c) : -2147483648 ≤ z ∧ z ≤ 2147483647 := by
  have := h.b
  omega
theorem bz_t {c : Prop} (h : c) : bz 1 c := Or.inr ⟨rfl, h⟩
theorem bz_f {c : Prop} (h : ¬ c) : bz 0 c := Or.inl ⟨rfl, h⟩
set_option maxHeartbeats 1000000 in
/-- an int method's contract, out of its walk -/
theorem ct_int {S : Type} {y : MethodName} {wf : S → va_W} {As : List Value} {post : Int → S → Prop} (hy : plainName y.cls = true) (hc : As.all (fun v => v.category == 1) = true) (hn : (lg_sl As).length ≤ nL)
    (body : ∀ X : Cx, Ok X cc nL k y.cls tys → (∀ (z : Int) (u : S) (lv : List (Option Value)) (pc : Nat), decode cc pc = .ok (.ireturn, 1) → post z u → G X nL (wf u) lv pc [.int (iI z)]) → G X nL ws (As.map some ++ List.replicate (nL - As.length) none) 0 []) : Ct y cc nL (some .int) k tys ws wf As post := by
  intro l D sz
  refine Met.ofW (cc := cc) (maxL := nL) (ret := some .int) hy rfl ?_
  intro p e s m args below meth c s₁ B hml hv
  obtain ⟨rfl, hsz, hP, hK, hD0⟩ := hv
  subst hsz
  have hts := atoms_spec (ws := ws_ y cc nL (some .int)) B.pre
  have hts : ∀ w ∈ lw_all, w.before _ s = true := fun w h => hts w (List.mem_cons_of_mem _ h)
  have hown : s.vm.findClass y.cls = some m.cls := findClass_of_methodNamed B.named
  have hD := hD0.self (sz := s.heap.size)
  rw [lg_entry_eq]
  refine body (p, l, e, _, s, m, _, below, meth, c, _, D, va_A ws s.heap.size, 0, 0) ⟨B.exec, B.bytes, hml, hown, hts, hK, fun q h => Or.inr h, Nat.le_refl _, Nat.le_refl _, Nat.zero_le _, Nat.zero_le _⟩ ?_ s.heap [] _ hP hD va_S.rf (gl.entry As (cat_all hc) hn lv_of)
  intro z u lv pc hdg hpost H locs ls hP hD hS hl
  exact W.iret (v := iI z) B.exec B.bytes B.returns (fun t ht hW => ⟨⟨iI z, u, rfl, ⟨z, rfl, hpost⟩, by rw [ht]; exact hP, va_K.moved hW.alike hK, hD⟩, hS.F ht⟩) hS.2.2 hdg
theorem nar01 {z : Int} (h : z = 0 ∨ z = 1) : narrow .boolean (.int (iI z)) = .int (iI z) := by
  rcases h with rfl | rfl <;> rfl
set_option maxHeartbeats 1000000 in
theorem ct_bool {S : Type} {y : MethodName} {wf : S → va_W} {As : List Value} {post : Int → S → Prop} (hy : plainName y.cls = true) (hc : As.all (fun v => v.category == 1) = true) (hn : (lg_sl As).length ≤ nL)
    (body : ∀ X : Cx, Ok X cc nL k y.cls tys → (∀ (z : Int) (u : S) (lv : List (Option Value)) (pc : Nat), decode cc pc = .ok (.ireturn, 1) → (z = 0 ∨ z = 1) → post z u → G X nL (wf u) lv pc [.int (iI z)]) → G X nL ws (As.map some ++ List.replicate (nL - As.length) none) 0 []) : Ct y cc nL (some .boolean) k tys ws wf As post := by
  intro l D sz
  refine Met.ofW (cc := cc) (maxL := nL) (ret := some .boolean) hy rfl ?_
  intro p e s m args below meth c s₁ B hml hv
  obtain ⟨rfl, hsz, hP, hK, hD0⟩ := hv
  subst hsz
  have hts := atoms_spec (ws := ws_ y cc nL (some .boolean)) B.pre
  have hts : ∀ w ∈ lw_all, w.before _ s = true := fun w h => hts w (List.mem_cons_of_mem _ h)
  have hown : s.vm.findClass y.cls = some m.cls := findClass_of_methodNamed B.named
  have hD := hD0.self (sz := s.heap.size)
  rw [lg_entry_eq]
  refine body (p, l, e, _, s, m, _, below, meth, c, _, D, va_A ws s.heap.size, 0, 0) ⟨B.exec, B.bytes, hml, hown, hts, hK, fun q h => Or.inr h, Nat.le_refl _, Nat.le_refl _, Nat.zero_le _, Nat.zero_le _⟩ ?_ s.heap [] _ hP hD va_S.rf (gl.entry As (cat_all hc) hn lv_of)
  intro z u lv pc hdg h01 hpost H locs ls hP hD hS hl
  exact W.zret (v := iI z) B.exec B.bytes B.returns (nar01 h01) (fun t ht hW => ⟨⟨iI z, u, rfl, ⟨z, rfl, hpost⟩, by rw [ht]; exact hP, va_K.moved hW.alike hK, hD⟩, hS.F ht⟩) hS.2.2 hdg
set_option maxHeartbeats 1000000 in
theorem ct_void {S : Type} {y : MethodName} {wf : S → va_W} {As : List Value} {post : S → Prop} (hy : plainName y.cls = true) (hc : As.all (fun v => v.category == 1) = true) (hn : (lg_sl As).length ≤ nL)
    (body : ∀ X : Cx, Ok X cc nL k y.cls tys → (∀ (u : S) (lv : List (Option Value)) (pc : Nat), decode cc pc = .ok (.return_, 1) → post u → G X nL (wf u) lv pc []) → G X nL ws (As.map some ++ List.replicate (nL - As.length) none) 0 []) : CtV y cc nL k tys ws wf As post := by
  intro l D sz
  refine Met.ofW (cc := cc) (maxL := nL) (ret := none) hy rfl ?_
  intro p e s m args below meth c s₁ B hml hv
  obtain ⟨rfl, hsz, hP, hK, hD0⟩ := hv
  subst hsz
  have hts := atoms_spec (ws := ws_ y cc nL none) B.pre
  have hts : ∀ w ∈ lw_all, w.before _ s = true := fun w h => hts w (List.mem_cons_of_mem _ h)
  have hown : s.vm.findClass y.cls = some m.cls := findClass_of_methodNamed B.named
  have hD := hD0.self (sz := s.heap.size)
  rw [lg_entry_eq]
  refine body (p, l, e, _, s, m, _, below, meth, c, _, D, va_A ws s.heap.size, 0, 0) ⟨B.exec, B.bytes, hml, hown, hts, hK, fun q h => Or.inr h, Nat.le_refl _, Nat.le_refl _, Nat.zero_le _, Nat.zero_le _⟩ ?_ s.heap [] _ hP hD va_S.rf (gl.entry As (cat_all hc) hn lv_of)
  intro u lv pc hdg hpost H locs ls hP hD hS hl
  exact W.vret B.exec B.bytes B.returns (fun t ht hW => ⟨⟨u, rfl, hpost, by rw [ht]; exact hP, va_K.moved hW.alike hK, hD⟩, hS.F ht⟩) hS.2.2 hdg
set_option maxHeartbeats 1000000 in
/-- a call through an object whose world is the caller's whole world -/
theorem g_call {S : Type} {y : MethodName} {cc' : ByteArray} {nL' k' idx ci : Nat} {C : String} {rt : Option FieldType} {wf : S → va_W} {As : List Value} {b : Nat} {fs : List Value} {qc : vw_C} {post : Int → S → Prop}
    (hX : Ok X cc nL k own tys) (hM : Ct y cc' nL' rt k' tys ws wf (.ref b :: As) post) (hk : k' + 1 ≤ k) (hn' : nL' ≤ 11)
    (hG : GoodIn lw_all (wsV own idx C y (ws_ y cc' nL' rt)))
    (hd : y.cls = C ∧ y.cls ≠ "java/lang/invoke/MethodHandle" ∧ y.cls ≠ "java/lang/invoke/VarHandle" ∧ (parseMethodDescriptor y.desc).map (fun d => d.parameters.length) = some As.length)
    (hcl : vwCl[ci]? = some qc) (hqc : qc.1 = C) (hrecv : ws[0]? = some (b, .inr (ci, fs)))
    (hst : st = As.reverse ++ .ref b :: rest) (hroom : (rest.map fun v => v.category).sum ≤ 8) (hdg : decode cc pc = .ok (.invokevirtual idx, 3))
    (kk : ∀ (z : Int) (u : S), post z u → G X nL (wf u) lv (pc + 3) (.int (iI z) :: rest)) : G X nL ws lv pc st := by
  obtain ⟨p, l, e, R, s, m, args, below, meth, c, Q, D, A, ce, sl⟩ := X
  intro H locs ls hP hD hS hl
  subst hst
  subst hqc
  obtain ⟨hx, hb, hml, hown, hts, hK, hA, hf, hlo, hce, hsl⟩ := hX
  have hFc : ∀ q, va_A ws H.size q → A q := by
    intro q h
    rcases h with ⟨k, e, h⟩ | h
    · exact hD.2 k (q, e) h
    · exact hA q (Nat.le_trans hS.1 h)
  refine va_calli (va_runV (C := qc.1) (As := As) (rest := rest) ⟨hx, hb, hml, hown, hts⟩ (hM l D H.size) (cwV As.length hts hG rfl rfl rfl hd ⟨by show k' + 1 ≤ R.frames; omega, by show 8 + (nL' + 11) + 30 * k' ≤ R.locals; omega⟩) ⟨fun a U g mk q => by obtain ⟨q0, q1, qP, qK, qD⟩ := q; exact ⟨q0, q1, qP, va_K.moved (u := U) (U := U.calling g mk a) (Vm.Alike.refl U.vm) qK, qD⟩, va_recv hK hP hcl hrecv, fun U hU hW => ⟨rfl, by rw [hU], by rw [hU]; exact hP, va_K.moved hW.alike hK, hD.weaken (fun _ _ _ _ => trivial)⟩⟩ rfl rfl hl.size rfl (lv_room hroom) hdg ⟨hce, hsl⟩) hS (fun q _ h => hFc q h) hFc (fun r u t H1 locs1 ht hvm hw hB hz1 hk1 hS1 => ?_)
  obtain ⟨z, rfl, hp⟩ := hw
  obtain ⟨hP1, hK1, hD1⟩ := hB
  rw [ht] at hP1
  exact kk z u hp H1 locs1 ls hP1 (hD1.weaken (fun _ q _ h => hFc q.1 h)) hS1 hl
set_option maxHeartbeats 1000000 in
theorem g_callV {S : Type} {y : MethodName} {cc' : ByteArray} {nL' k' idx ci : Nat} {C : String} {wf : S → va_W} {As : List Value} {b : Nat} {fs : List Value} {qc : vw_C} {post : S → Prop}
    (hX : Ok X cc nL k own tys) (hM : CtV y cc' nL' k' tys ws wf (.ref b :: As) post) (hk : k' + 1 ≤ k) (hn' : nL' ≤ 11)
    (hG : GoodIn lw_all (wsV own idx C y (ws_ y cc' nL' none)))
    (hd : y.cls = C ∧ y.cls ≠ "java/lang/invoke/MethodHandle" ∧ y.cls ≠ "java/lang/invoke/VarHandle" ∧ (parseMethodDescriptor y.desc).map (fun d => d.parameters.length) = some As.length)
    (hcl : vwCl[ci]? = some qc) (hqc : qc.1 = C) (hrecv : ws[0]? = some (b, .inr (ci, fs)))
    (hst : st = As.reverse ++ .ref b :: rest) (hroom : (rest.map fun v => v.category).sum ≤ 8) (hdg : decode cc pc = .ok (.invokevirtual idx, 3))
    (kk : ∀ (u : S), post u → G X nL (wf u) lv (pc + 3) rest) : G X nL ws lv pc st := by
  obtain ⟨p, l, e, R, s, m, args, below, meth, c, Q, D, A, ce, sl⟩ := X
  intro H locs ls hP hD hS hl
  subst hst
  subst hqc
  obtain ⟨hx, hb, hml, hown, hts, hK, hA, hf, hlo, hce, hsl⟩ := hX
  have hFc : ∀ q, va_A ws H.size q → A q := by
    intro q h
    rcases h with ⟨k, e, h⟩ | h
    · exact hD.2 k (q, e) h
    · exact hA q (Nat.le_trans hS.1 h)
  refine va_callv (va_runV (C := qc.1) (As := As) (rest := rest) ⟨hx, hb, hml, hown, hts⟩ (hM l D H.size) (cwV As.length hts hG rfl rfl rfl hd ⟨by show k' + 1 ≤ R.frames; omega, by show 8 + (nL' + 11) + 30 * k' ≤ R.locals; omega⟩) ⟨fun a U g mk q => by obtain ⟨q0, q1, qP, qK, qD⟩ := q; exact ⟨q0, q1, qP, va_K.moved (u := U) (U := U.calling g mk a) (Vm.Alike.refl U.vm) qK, qD⟩, va_recv hK hP hcl hrecv, fun U hU hW => ⟨rfl, by rw [hU], by rw [hU]; exact hP, va_K.moved hW.alike hK, hD.weaken (fun _ _ _ _ => trivial)⟩⟩ rfl rfl hl.size rfl (lv_room hroom) hdg ⟨hce, hsl⟩) hS (fun q _ h => hFc q h) hFc (fun u t H1 locs1 ht hvm hp hB hz1 hk1 hS1 => ?_)
  obtain ⟨hP1, hK1, hD1⟩ := hB
  rw [ht] at hP1
  exact kk u hp H1 locs1 ls hP1 (hD1.weaken (fun _ q _ h => hFc q.1 h)) hS1 hl
set_option maxHeartbeats 1000000 in
/-- a static call that needs no cell -/
theorem g_callS {S : Type} {y : MethodName} {cc' : ByteArray} {nL' k' idx : Nat} {rt : Option FieldType} {As : List Value} {post : Int → S → Prop}
    (hX : Ok X cc nL k own tys) (hM : Ct y cc' nL' rt k' [] [] (fun _ : S => []) As post) (hk : k' + 1 ≤ k) (hn' : nL' ≤ 11)
    (hG : GoodIn lw_all (va_wsS own idx y (ws_ y cc' nL' rt)))
    (hd : y.cls ≠ "java/lang/invoke/MethodHandle" ∧ y.cls ≠ "java/lang/invoke/VarHandle" ∧ (parseMethodDescriptor y.desc).map (fun d => d.parameters.length) = some As.length)
    (hst : st = As.reverse ++ rest) (hroom : (rest.map fun v => v.category).sum ≤ 8) (hdg : decode cc pc = .ok (.invokestatic idx, 3))
    (kk : ∀ (z : Int) (u : S), post z u → G X nL ws lv (pc + 3) (.int (iI z) :: rest)) : G X nL ws lv pc st := by
  obtain ⟨p, l, e, R, s, m, args, below, meth, c, Q, D, A, ce, sl⟩ := X
  intro H locs ls hP hD hS hl
  subst hst
  obtain ⟨hx, hb, hml, hown, hts, hK, hA, hf, hlo, hce, hsl⟩ := hX
  have hKc := hK.sub (tys' := []) [] rfl
  have hPc : va_P D vwCl [] H := fun k q h => by simp at h
  have hDc : va_D (fun _ => True) [] := ⟨fun i j p q h => by simp at h, fun k q h => by simp at h⟩
  have hFc : ∀ q, va_A [] H.size q → A q := by
    intro q h
    rcases h with ⟨k, e, h⟩ | h
    · simp at h
    · exact hA q (Nat.le_trans hS.1 h)
  refine va_calli (va_runS (As := As) (rest := rest) ⟨hx, hb, hml, hown, hts⟩ (hM l D H.size) (va_cwS As.length hts hG rfl rfl rfl hd ⟨by show k' + 1 ≤ R.frames; omega, by show 8 + (nL' + 11) + 30 * k' ≤ R.locals; omega⟩) ⟨fun a U g mk q => by obtain ⟨q0, q1, qP, qK, qD⟩ := q; exact ⟨q0, q1, qP, va_K.moved (u := U) (U := U.calling g mk a) (Vm.Alike.refl U.vm) qK, qD⟩, fun U hU hW => ⟨rfl, by rw [hU], by rw [hU]; exact hPc, va_K.moved hW.alike hKc, hDc⟩⟩ rfl rfl hl.size rfl (lv_room hroom) hdg ⟨hce, hsl⟩) hS (fun q _ h => hFc q h) hFc (fun r u t H1 locs1 ht hvm hw hB hz1 hk1 hS1 => ?_)
  obtain ⟨z, rfl, hp⟩ := hw
  refine kk z u hp H1 locs1 ls (fun k q hq => ?_) hD hS1 hl
  have hlt := (hP k q hq).lt
  refine (hP k q hq).kept (hk1 q.1 hlt (fun h => ?_))
  rcases h with ⟨k2, e2, h⟩ | h
  · simp at h
  · omega
end
end
section
/-! THE TWO WORLDS: an object's state is d : Nat → Int → Int (field number, element; a scalar stands at element 0) -/
section
abbrev DS : Type := Nat → Int → Int
def st1 (d : DS) (k : Nat) (z v : Int) : DS := fun a b => if a = k ∧ b = z then v else d a b
def ar (d : DS) (k : Nat) : Nat → Int32 := fun j => iI (d k (j : Int))
theorem st1_ne {d : DS} {k a : Nat} {z v : Int} (h : a ≠ k) : st1 d k z v a = d a := by
  funext b
  simp [st1, h]
theorem st1_eq {d : DS} {k : Nat} {z v : Int} : st1 d k z v k z = v := by simp [st1]
theorem st1_at {d : DS} {k : Nat} {z v b : Int} : st1 d k z v k b = if b = z then v else d k b := by simp [st1]
theorem st1_off {d : DS} {k : Nat} {z v b : Int} (h : b ≠ z) : st1 d k z v k b = d k b := by simp [st1, h]
theorem ar_ne {d : DS} {k a : Nat} {z v : Int} (h : a ≠ k) : ar (st1 d k z v) a = ar d a := by
  funext j
  simp [ar, st1_ne h]
theorem ar_eq {d : DS} {k : Nat} {z v : Int} (hz : 0 ≤ z) : upd (ar d k) z.toNat (iI v) = ar (st1 d k z v) k := by
  funext j
  by_cases h : j = z.toNat
  · have : ((z.toNat : Nat) : Int) = z := by omega
    subst h
    simp [upd, ar, st1_at, this]
  · have : ¬ (j : Int) = z := by omega
    simp [upd, ar, st1_at, this, h]
theorem ar_at {d : DS} {k : Nat} {z : Int} (hz : 0 ≤ z) (h : z ≤ 2147483647) : ar d k (iI z).toNatClampNeg = iI (d k z) := by
  rw [iI_clamp hz h]
  have : ((z.toNat : Nat) : Int) = z := by omega
  simp [ar, this]
theorem nar_b {z : Int} (h : -128 ≤ z ∧ z ≤ 127) : vp_nar .byte (iI z) = iI z := by rw [vp_nar_byte, iI_byte h]
theorem nar_z {z : Int} (h : z = 0 ∨ z = 1) : vp_nar .boolean (iI z) = iI z := by
  rcases h with rfl | rfl <;> rfl
/-- the cells of a RX1 at h -/
def WX (h : Nat) (q : Nat → Nat) (kA : Nat → ClassId) (d : DS) : va_W := [(h, .inr (0, [.int (iI (d 0 0)), .int (iI (d 1 0)), .ref (q 2), .ref (q 3), .int (iI (d 4 0)), .int (iI (d 5 0)), .int (iI (d 6 0)), .int (iI (d 7 0)), .ref (q 8), .ref (q 9), .ref (q 10), .ref (q 11), .ref (q 12), .ref (q 13), .ref (q 14), .int (iI (d 15 0)), .int (iI (d 16 0)), .ref (q 17)])), (q 2, .inl (kA 2, 15, .inl (ar d 2))), (q 3, .inl (kA 3, 5, .inl (ar d 3))), (q 8, .inl (kA 8, 6, .inl (ar d 8))), (q 9, .inl (kA 9, 6, .inl (ar d 9))), (q 10, .inl (kA 10, 24, .inl (ar d 10))), (q 11, .inl (kA 11, 24, .inl (ar d 11))), (q 12, .inl (kA 12, 24, .inl (ar d 12))), (q 13, .inl (kA 13, 24, .inl (ar d 13))), (q 14, .inl (kA 14, 24, .inl (ar d 14))), (q 17, .inl (kA 17, 5, .inl (ar d 17)))]
def TyX (kA : Nat → ClassId) : List (ClassId × FieldType) := [(kA 2, .byte), (kA 3, .byte), (kA 8, .byte), (kA 9, .int), (kA 10, .int), (kA 11, .byte), (kA 12, .byte), (kA 13, .int), (kA 14, .boolean), (kA 17, .byte)]
section
variable {X : Cx} {cc : ByteArray} {nL k : Nat} {lv : List (Option Value)} {pc : Nat} {st rest : List Value} {h : Nat} {q : Nat → Nat} {kA : Nat → ClassId} {d : DS}
/-- getfield machines -/
theorem gx_machines (hX : Ok X cc nL k RX1 (TyX kA)) (hdg : decode cc pc = .ok (.getfield 42, 3)) (kk : G X nL (WX h q kA d) lv (pc + 3) (.int (iI (d 0 0)) :: rest)) : G X nL (WX h q kA d) lv pc (.ref h :: rest) := by
  obtain ⟨p, l, e, R, s, m, args, below, meth, c, Q, D, A, ce, sl⟩ := X
  intro H locs ls hP hD hS hl
  obtain ⟨hx, hb, hml, hown, hts, hK, hA, hf, hlo, hce, hsl⟩ := hX
  exact va_get (ci := 0) (C := RX1) (T := TX1) (N := 18) hx hb hts in_X1 hown hK hP 0 rfl rfl 0 (by decide) (hts _ q31) (fun _ h9 => h9) rfl hdg (kk H locs ls hP hD hS hl)
/-- getfield present -/
theorem gx_present (hX : Ok X cc nL k RX1 (TyX kA)) (hdg : decode cc pc = .ok (.getfield 46, 3)) (kk : G X nL (WX h q kA d) lv (pc + 3) (.int (iI (d 1 0)) :: rest)) : G X nL (WX h q kA d) lv pc (.ref h :: rest) := by
  obtain ⟨p, l, e, R, s, m, args, below, meth, c, Q, D, A, ce, sl⟩ := X
  intro H locs ls hP hD hS hl
  obtain ⟨hx, hb, hml, hown, hts, hK, hA, hf, hlo, hce, hsl⟩ := hX
  exact va_get (ci := 0) (C := RX1) (T := TX1) (N := 18) hx hb hts in_X1 hown hK hP 0 rfl rfl 1 (by decide) (hts _ q32) (fun _ h9 => h9) rfl hdg (kk H locs ls hP hD hS hl)
/-- putfield present -/
theorem px_present (hX : Ok X cc nL k RX1 (TyX kA)) {v : Int} (hdg : decode cc pc = .ok (.putfield 46, 3)) (kk : G X nL (WX h q kA (st1 d 1 0 v)) lv (pc + 3) rest) : G X nL (WX h q kA d) lv pc (.int (iI v) :: .ref h :: rest) := by
  obtain ⟨p, l, e, R, s, m, args, below, meth, c, Q, D, A, ce, sl⟩ := X
  intro H locs ls hP hD hS hl
  obtain ⟨hx, hb, hml, hown, hts, hK, hA, hf, hlo, hce, hsl⟩ := hX
  have hw : WX h q kA (st1 d 1 0 v) = (WX h q kA d).set 0 (h, .inr (0, [.int (iI (d 0 0)), .int (iI (d 1 0)), .ref (q 2), .ref (q 3), .int (iI (d 4 0)), .int (iI (d 5 0)), .int (iI (d 6 0)), .int (iI (d 7 0)), .ref (q 8), .ref (q 9), .ref (q 10), .ref (q 11), .ref (q 12), .ref (q 13), .ref (q 14), .int (iI (d 15 0)), .int (iI (d 16 0)), .ref (q 17)].set 1 (.int (iI v)))) := by
    simp [WX, List.set, ar_ne, st1_ne, st1_eq]
  refine va_put (ci := 0) (v := .int (iI v)) (ty := tyX1 1) (C := RX1) (T := TX1) (N := 18) hx hb hts in_X1 tyX1 tyX1_ok nmX1 hown hK hP hD hS 0 rfl rfl 1 (by decide) (hts _ q32) (fun _ h9 => h9) rfl (by decide +kernel) rfl rfl (Nat.le_of_ble_eq_true rfl) hdg (fun H1 locs1 hP1 hD1 hS1 => ?_)
  exact kk H1 locs1 ls (by rw [hw]; exact hP1) (by rw [hw]; exact hD1) hS1 hl
/-- getfield times -/
theorem gx_times (hX : Ok X cc nL k RX1 (TyX kA)) (hdg : decode cc pc = .ok (.getfield 7, 3)) (kk : G X nL (WX h q kA d) lv (pc + 3) (.ref (q 2) :: rest)) : G X nL (WX h q kA d) lv pc (.ref h :: rest) := by
  obtain ⟨p, l, e, R, s, m, args, below, meth, c, Q, D, A, ce, sl⟩ := X
  intro H locs ls hP hD hS hl
  obtain ⟨hx, hb, hml, hown, hts, hK, hA, hf, hlo, hce, hsl⟩ := hX
  exact va_get (ci := 0) (C := RX1) (T := TX1) (N := 18) hx hb hts in_X1 hown hK hP 0 rfl rfl 2 (by decide) (hts _ q33) (fun _ h9 => h9) rfl hdg (kk H locs ls hP hD hS hl)
/-- getfield open -/
theorem gx_open (hX : Ok X cc nL k RX1 (TyX kA)) (hdg : decode cc pc = .ok (.getfield 13, 3)) (kk : G X nL (WX h q kA d) lv (pc + 3) (.ref (q 3) :: rest)) : G X nL (WX h q kA d) lv pc (.ref h :: rest) := by
  obtain ⟨p, l, e, R, s, m, args, below, meth, c, Q, D, A, ce, sl⟩ := X
  intro H locs ls hP hD hS hl
  obtain ⟨hx, hb, hml, hown, hts, hK, hA, hf, hlo, hce, hsl⟩ := hX
  exact va_get (ci := 0) (C := RX1) (T := TX1) (N := 18) hx hb hts in_X1 hown hK hP 0 rfl rfl 3 (by decide) (hts _ q34) (fun _ h9 => h9) rfl hdg (kk H locs ls hP hD hS hl)
/-- getfield doubled -/
theorem gx_doubled (hX : Ok X cc nL k RX1 (TyX kA)) (hdg : decode cc pc = .ok (.getfield 67, 3)) (kk : G X nL (WX h q kA d) lv (pc + 3) (.int (iI (d 4 0)) :: rest)) : G X nL (WX h q kA d) lv pc (.ref h :: rest) := by
  obtain ⟨p, l, e, R, s, m, args, below, meth, c, Q, D, A, ce, sl⟩ := X
  intro H locs ls hP hD hS hl
  obtain ⟨hx, hb, hml, hown, hts, hK, hA, hf, hlo, hce, hsl⟩ := hX
  exact va_get (ci := 0) (C := RX1) (T := TX1) (N := 18) hx hb hts in_X1 hown hK hP 0 rfl rfl 4 (by decide) (hts _ q35) (fun _ h9 => h9) rfl hdg (kk H locs ls hP hD hS hl)
/-- putfield doubled -/
theorem px_doubled (hX : Ok X cc nL k RX1 (TyX kA)) {v : Int} (hdg : decode cc pc = .ok (.putfield 67, 3)) (kk : G X nL (WX h q kA (st1 d 4 0 v)) lv (pc + 3) rest) : G X nL (WX h q kA d) lv pc (.int (iI v) :: .ref h :: rest) := by
  obtain ⟨p, l, e, R, s, m, args, below, meth, c, Q, D, A, ce, sl⟩ := X
  intro H locs ls hP hD hS hl
  obtain ⟨hx, hb, hml, hown, hts, hK, hA, hf, hlo, hce, hsl⟩ := hX
  have hw : WX h q kA (st1 d 4 0 v) = (WX h q kA d).set 0 (h, .inr (0, [.int (iI (d 0 0)), .int (iI (d 1 0)), .ref (q 2), .ref (q 3), .int (iI (d 4 0)), .int (iI (d 5 0)), .int (iI (d 6 0)), .int (iI (d 7 0)), .ref (q 8), .ref (q 9), .ref (q 10), .ref (q 11), .ref (q 12), .ref (q 13), .ref (q 14), .int (iI (d 15 0)), .int (iI (d 16 0)), .ref (q 17)].set 4 (.int (iI v)))) := by
    simp [WX, List.set, ar_ne, st1_ne, st1_eq]
  refine va_put (ci := 0) (v := .int (iI v)) (ty := tyX1 4) (C := RX1) (T := TX1) (N := 18) hx hb hts in_X1 tyX1 tyX1_ok nmX1 hown hK hP hD hS 0 rfl rfl 4 (by decide) (hts _ q35) (fun _ h9 => h9) rfl (by decide +kernel) rfl rfl (Nat.le_of_ble_eq_true rfl) hdg (fun H1 locs1 hP1 hD1 hS1 => ?_)
  exact kk H1 locs1 ls (by rw [hw]; exact hP1) (by rw [hw]; exact hD1) hS1 hl
/-- getfield liked -/
theorem gx_liked (hX : Ok X cc nL k RX1 (TyX kA)) (hdg : decode cc pc = .ok (.getfield 70, 3)) (kk : G X nL (WX h q kA d) lv (pc + 3) (.int (iI (d 5 0)) :: rest)) : G X nL (WX h q kA d) lv pc (.ref h :: rest) := by
  obtain ⟨p, l, e, R, s, m, args, below, meth, c, Q, D, A, ce, sl⟩ := X
  intro H locs ls hP hD hS hl
  obtain ⟨hx, hb, hml, hown, hts, hK, hA, hf, hlo, hce, hsl⟩ := hX
  exact va_get (ci := 0) (C := RX1) (T := TX1) (N := 18) hx hb hts in_X1 hown hK hP 0 rfl rfl 5 (by decide) (hts _ q36) (fun _ h9 => h9) rfl hdg (kk H locs ls hP hD hS hl)
/-- putfield liked -/
theorem px_liked (hX : Ok X cc nL k RX1 (TyX kA)) {v : Int} (hdg : decode cc pc = .ok (.putfield 70, 3)) (kk : G X nL (WX h q kA (st1 d 5 0 v)) lv (pc + 3) rest) : G X nL (WX h q kA d) lv pc (.int (iI v) :: .ref h :: rest) := by
  obtain ⟨p, l, e, R, s, m, args, below, meth, c, Q, D, A, ce, sl⟩ := X
  intro H locs ls hP hD hS hl
  obtain ⟨hx, hb, hml, hown, hts, hK, hA, hf, hlo, hce, hsl⟩ := hX
  have hw : WX h q kA (st1 d 5 0 v) = (WX h q kA d).set 0 (h, .inr (0, [.int (iI (d 0 0)), .int (iI (d 1 0)), .ref (q 2), .ref (q 3), .int (iI (d 4 0)), .int (iI (d 5 0)), .int (iI (d 6 0)), .int (iI (d 7 0)), .ref (q 8), .ref (q 9), .ref (q 10), .ref (q 11), .ref (q 12), .ref (q 13), .ref (q 14), .int (iI (d 15 0)), .int (iI (d 16 0)), .ref (q 17)].set 5 (.int (iI v)))) := by
    simp [WX, List.set, ar_ne, st1_ne, st1_eq]
  refine va_put (ci := 0) (v := .int (iI v)) (ty := tyX1 5) (C := RX1) (T := TX1) (N := 18) hx hb hts in_X1 tyX1 tyX1_ok nmX1 hown hK hP hD hS 0 rfl rfl 5 (by decide) (hts _ q36) (fun _ h9 => h9) rfl (by decide +kernel) rfl rfl (Nat.le_of_ble_eq_true rfl) hdg (fun H1 locs1 hP1 hD1 hS1 => ?_)
  exact kk H1 locs1 ls (by rw [hw]; exact hP1) (by rw [hw]; exact hD1) hS1 hl
/-- getfield rows -/
theorem gx_rows (hX : Ok X cc nL k RX1 (TyX kA)) (hdg : decode cc pc = .ok (.getfield 77, 3)) (kk : G X nL (WX h q kA d) lv (pc + 3) (.int (iI (d 6 0)) :: rest)) : G X nL (WX h q kA d) lv pc (.ref h :: rest) := by
  obtain ⟨p, l, e, R, s, m, args, below, meth, c, Q, D, A, ce, sl⟩ := X
  intro H locs ls hP hD hS hl
  obtain ⟨hx, hb, hml, hown, hts, hK, hA, hf, hlo, hce, hsl⟩ := hX
  exact va_get (ci := 0) (C := RX1) (T := TX1) (N := 18) hx hb hts in_X1 hown hK hP 0 rfl rfl 6 (by decide) (hts _ q37) (fun _ h9 => h9) rfl hdg (kk H locs ls hP hD hS hl)
/-- putfield rows -/
theorem px_rows (hX : Ok X cc nL k RX1 (TyX kA)) {v : Int} (hdg : decode cc pc = .ok (.putfield 77, 3)) (kk : G X nL (WX h q kA (st1 d 6 0 v)) lv (pc + 3) rest) : G X nL (WX h q kA d) lv pc (.int (iI v) :: .ref h :: rest) := by
  obtain ⟨p, l, e, R, s, m, args, below, meth, c, Q, D, A, ce, sl⟩ := X
  intro H locs ls hP hD hS hl
  obtain ⟨hx, hb, hml, hown, hts, hK, hA, hf, hlo, hce, hsl⟩ := hX
  have hw : WX h q kA (st1 d 6 0 v) = (WX h q kA d).set 0 (h, .inr (0, [.int (iI (d 0 0)), .int (iI (d 1 0)), .ref (q 2), .ref (q 3), .int (iI (d 4 0)), .int (iI (d 5 0)), .int (iI (d 6 0)), .int (iI (d 7 0)), .ref (q 8), .ref (q 9), .ref (q 10), .ref (q 11), .ref (q 12), .ref (q 13), .ref (q 14), .int (iI (d 15 0)), .int (iI (d 16 0)), .ref (q 17)].set 6 (.int (iI v)))) := by
    simp [WX, List.set, ar_ne, st1_ne, st1_eq]
  refine va_put (ci := 0) (v := .int (iI v)) (ty := tyX1 6) (C := RX1) (T := TX1) (N := 18) hx hb hts in_X1 tyX1 tyX1_ok nmX1 hown hK hP hD hS 0 rfl rfl 6 (by decide) (hts _ q37) (fun _ h9 => h9) rfl (by decide +kernel) rfl rfl (Nat.le_of_ble_eq_true rfl) hdg (fun H1 locs1 hP1 hD1 hS1 => ?_)
  exact kk H1 locs1 ls (by rw [hw]; exact hP1) (by rw [hw]; exact hD1) hS1 hl
/-- getfield columns -/
theorem gx_columns (hX : Ok X cc nL k RX1 (TyX kA)) (hdg : decode cc pc = .ok (.getfield 80, 3)) (kk : G X nL (WX h q kA d) lv (pc + 3) (.int (iI (d 7 0)) :: rest)) : G X nL (WX h q kA d) lv pc (.ref h :: rest) := by
  obtain ⟨p, l, e, R, s, m, args, below, meth, c, Q, D, A, ce, sl⟩ := X
  intro H locs ls hP hD hS hl
  obtain ⟨hx, hb, hml, hown, hts, hK, hA, hf, hlo, hce, hsl⟩ := hX
  exact va_get (ci := 0) (C := RX1) (T := TX1) (N := 18) hx hb hts in_X1 hown hK hP 0 rfl rfl 7 (by decide) (hts _ q38) (fun _ h9 => h9) rfl hdg (kk H locs ls hP hD hS hl)
/-- putfield columns -/
theorem px_columns (hX : Ok X cc nL k RX1 (TyX kA)) {v : Int} (hdg : decode cc pc = .ok (.putfield 80, 3)) (kk : G X nL (WX h q kA (st1 d 7 0 v)) lv (pc + 3) rest) : G X nL (WX h q kA d) lv pc (.int (iI v) :: .ref h :: rest) := by
  obtain ⟨p, l, e, R, s, m, args, below, meth, c, Q, D, A, ce, sl⟩ := X
  intro H locs ls hP hD hS hl
  obtain ⟨hx, hb, hml, hown, hts, hK, hA, hf, hlo, hce, hsl⟩ := hX
  have hw : WX h q kA (st1 d 7 0 v) = (WX h q kA d).set 0 (h, .inr (0, [.int (iI (d 0 0)), .int (iI (d 1 0)), .ref (q 2), .ref (q 3), .int (iI (d 4 0)), .int (iI (d 5 0)), .int (iI (d 6 0)), .int (iI (d 7 0)), .ref (q 8), .ref (q 9), .ref (q 10), .ref (q 11), .ref (q 12), .ref (q 13), .ref (q 14), .int (iI (d 15 0)), .int (iI (d 16 0)), .ref (q 17)].set 7 (.int (iI v)))) := by
    simp [WX, List.set, ar_ne, st1_ne, st1_eq]
  refine va_put (ci := 0) (v := .int (iI v)) (ty := tyX1 7) (C := RX1) (T := TX1) (N := 18) hx hb hts in_X1 tyX1 tyX1_ok nmX1 hown hK hP hD hS 0 rfl rfl 7 (by decide) (hts _ q38) (fun _ h9 => h9) rfl (by decide +kernel) rfl rfl (Nat.le_of_ble_eq_true rfl) hdg (fun H1 locs1 hP1 hD1 hS1 => ?_)
  exact kk H1 locs1 ls (by rw [hw]; exact hP1) (by rw [hw]; exact hD1) hS1 hl
/-- getfield rowJob -/
theorem gx_rowJob (hX : Ok X cc nL k RX1 (TyX kA)) (hdg : decode cc pc = .ok (.getfield 16, 3)) (kk : G X nL (WX h q kA d) lv (pc + 3) (.ref (q 8) :: rest)) : G X nL (WX h q kA d) lv pc (.ref h :: rest) := by
  obtain ⟨p, l, e, R, s, m, args, below, meth, c, Q, D, A, ce, sl⟩ := X
  intro H locs ls hP hD hS hl
  obtain ⟨hx, hb, hml, hown, hts, hK, hA, hf, hlo, hce, hsl⟩ := hX
  exact va_get (ci := 0) (C := RX1) (T := TX1) (N := 18) hx hb hts in_X1 hown hK hP 0 rfl rfl 8 (by decide) (hts _ q39) (fun _ h9 => h9) rfl hdg (kk H locs ls hP hD hS hl)
/-- getfield rowPrice -/
theorem gx_rowPrice (hX : Ok X cc nL k RX1 (TyX kA)) (hdg : decode cc pc = .ok (.getfield 19, 3)) (kk : G X nL (WX h q kA d) lv (pc + 3) (.ref (q 9) :: rest)) : G X nL (WX h q kA d) lv pc (.ref h :: rest) := by
  obtain ⟨p, l, e, R, s, m, args, below, meth, c, Q, D, A, ce, sl⟩ := X
  intro H locs ls hP hD hS hl
  obtain ⟨hx, hb, hml, hown, hts, hK, hA, hf, hlo, hce, hsl⟩ := hX
  exact va_get (ci := 0) (C := RX1) (T := TX1) (N := 18) hx hb hts in_X1 hown hK hP 0 rfl rfl 9 (by decide) (hts _ q40) (fun _ h9 => h9) rfl hdg (kk H locs ls hP hD hS hl)
/-- getfield columnPrice -/
theorem gx_columnPrice (hX : Ok X cc nL k RX1 (TyX kA)) (hdg : decode cc pc = .ok (.getfield 23, 3)) (kk : G X nL (WX h q kA d) lv (pc + 3) (.ref (q 10) :: rest)) : G X nL (WX h q kA d) lv pc (.ref h :: rest) := by
  obtain ⟨p, l, e, R, s, m, args, below, meth, c, Q, D, A, ce, sl⟩ := X
  intro H locs ls hP hD hS hl
  obtain ⟨hx, hb, hml, hown, hts, hK, hA, hf, hlo, hce, hsl⟩ := hX
  exact va_get (ci := 0) (C := RX1) (T := TX1) (N := 18) hx hb hts in_X1 hown hK hP 0 rfl rfl 10 (by decide) (hts _ q41) (fun _ h9 => h9) rfl hdg (kk H locs ls hP hD hS hl)
/-- getfield rowOf -/
theorem gx_rowOf (hX : Ok X cc nL k RX1 (TyX kA)) (hdg : decode cc pc = .ok (.getfield 26, 3)) (kk : G X nL (WX h q kA d) lv (pc + 3) (.ref (q 11) :: rest)) : G X nL (WX h q kA d) lv pc (.ref h :: rest) := by
  obtain ⟨p, l, e, R, s, m, args, below, meth, c, Q, D, A, ce, sl⟩ := X
  intro H locs ls hP hD hS hl
  obtain ⟨hx, hb, hml, hown, hts, hK, hA, hf, hlo, hce, hsl⟩ := hX
  exact va_get (ci := 0) (C := RX1) (T := TX1) (N := 18) hx hb hts in_X1 hown hK hP 0 rfl rfl 11 (by decide) (hts _ q42) (fun _ h9 => h9) rfl hdg (kk H locs ls hP hD hS hl)
/-- getfield cameFrom -/
theorem gx_cameFrom (hX : Ok X cc nL k RX1 (TyX kA)) (hdg : decode cc pc = .ok (.getfield 29, 3)) (kk : G X nL (WX h q kA d) lv (pc + 3) (.ref (q 12) :: rest)) : G X nL (WX h q kA d) lv pc (.ref h :: rest) := by
  obtain ⟨p, l, e, R, s, m, args, below, meth, c, Q, D, A, ce, sl⟩ := X
  intro H locs ls hP hD hS hl
  obtain ⟨hx, hb, hml, hown, hts, hK, hA, hf, hlo, hce, hsl⟩ := hX
  exact va_get (ci := 0) (C := RX1) (T := TX1) (N := 18) hx hb hts in_X1 hown hK hP 0 rfl rfl 12 (by decide) (hts _ q43) (fun _ h9 => h9) rfl hdg (kk H locs ls hP hD hS hl)
/-- getfield slack -/
theorem gx_slack (hX : Ok X cc nL k RX1 (TyX kA)) (hdg : decode cc pc = .ok (.getfield 32, 3)) (kk : G X nL (WX h q kA d) lv (pc + 3) (.ref (q 13) :: rest)) : G X nL (WX h q kA d) lv pc (.ref h :: rest) := by
  obtain ⟨p, l, e, R, s, m, args, below, meth, c, Q, D, A, ce, sl⟩ := X
  intro H locs ls hP hD hS hl
  obtain ⟨hx, hb, hml, hown, hts, hK, hA, hf, hlo, hce, hsl⟩ := hX
  exact va_get (ci := 0) (C := RX1) (T := TX1) (N := 18) hx hb hts in_X1 hown hK hP 0 rfl rfl 13 (by decide) (hts _ q44) (fun _ h9 => h9) rfl hdg (kk H locs ls hP hD hS hl)
/-- getfield reached -/
theorem gx_reached (hX : Ok X cc nL k RX1 (TyX kA)) (hdg : decode cc pc = .ok (.getfield 35, 3)) (kk : G X nL (WX h q kA d) lv (pc + 3) (.ref (q 14) :: rest)) : G X nL (WX h q kA d) lv pc (.ref h :: rest) := by
  obtain ⟨p, l, e, R, s, m, args, below, meth, c, Q, D, A, ce, sl⟩ := X
  intro H locs ls hP hD hS hl
  obtain ⟨hx, hb, hml, hown, hts, hK, hA, hf, hlo, hce, hsl⟩ := hX
  exact va_get (ci := 0) (C := RX1) (T := TX1) (N := 18) hx hb hts in_X1 hown hK hP 0 rfl rfl 14 (by decide) (hts _ q45) (fun _ h9 => h9) rfl hdg (kk H locs ls hP hD hS hl)
/-- getfield known -/
theorem gx_known (hX : Ok X cc nL k RX1 (TyX kA)) (hdg : decode cc pc = .ok (.getfield 56, 3)) (kk : G X nL (WX h q kA d) lv (pc + 3) (.int (iI (d 15 0)) :: rest)) : G X nL (WX h q kA d) lv pc (.ref h :: rest) := by
  obtain ⟨p, l, e, R, s, m, args, below, meth, c, Q, D, A, ce, sl⟩ := X
  intro H locs ls hP hD hS hl
  obtain ⟨hx, hb, hml, hown, hts, hK, hA, hf, hlo, hce, hsl⟩ := hX
  exact va_get (ci := 0) (C := RX1) (T := TX1) (N := 18) hx hb hts in_X1 hown hK hP 0 rfl rfl 15 (by decide) (hts _ q46) (fun _ h9 => h9) rfl hdg (kk H locs ls hP hD hS hl)
/-- putfield known -/
theorem px_known (hX : Ok X cc nL k RX1 (TyX kA)) {v : Int} (hv : v = 0 ∨ v = 1) (hdg : decode cc pc = .ok (.putfield 56, 3)) (kk : G X nL (WX h q kA (st1 d 15 0 v)) lv (pc + 3) rest) : G X nL (WX h q kA d) lv pc (.int (iI v) :: .ref h :: rest) := by
  obtain ⟨p, l, e, R, s, m, args, below, meth, c, Q, D, A, ce, sl⟩ := X
  intro H locs ls hP hD hS hl
  obtain ⟨hx, hb, hml, hown, hts, hK, hA, hf, hlo, hce, hsl⟩ := hX
  have hw : WX h q kA (st1 d 15 0 v) = (WX h q kA d).set 0 (h, .inr (0, [.int (iI (d 0 0)), .int (iI (d 1 0)), .ref (q 2), .ref (q 3), .int (iI (d 4 0)), .int (iI (d 5 0)), .int (iI (d 6 0)), .int (iI (d 7 0)), .ref (q 8), .ref (q 9), .ref (q 10), .ref (q 11), .ref (q 12), .ref (q 13), .ref (q 14), .int (iI (d 15 0)), .int (iI (d 16 0)), .ref (q 17)].set 15 (.int (iI v)))) := by
    simp [WX, List.set, ar_ne, st1_ne, st1_eq]
  refine va_put (ci := 0) (v := .int (iI v)) (ty := tyX1 15) (C := RX1) (T := TX1) (N := 18) hx hb hts in_X1 tyX1 tyX1_ok nmX1 hown hK hP hD hS 0 rfl rfl 15 (by decide) (hts _ q46) (fun _ h9 => h9) rfl (by decide +kernel) (nar01 hv) (by rcases hv with rfl | rfl <;> rfl) (Nat.le_of_ble_eq_true rfl) hdg (fun H1 locs1 hP1 hD1 hS1 => ?_)
  exact kk H1 locs1 ls (by rw [hw]; exact hP1) (by rw [hw]; exact hD1) hS1 hl
/-- getfield leastTotal -/
theorem gx_leastTotal (hX : Ok X cc nL k RX1 (TyX kA)) (hdg : decode cc pc = .ok (.getfield 104, 3)) (kk : G X nL (WX h q kA d) lv (pc + 3) (.int (iI (d 16 0)) :: rest)) : G X nL (WX h q kA d) lv pc (.ref h :: rest) := by
  obtain ⟨p, l, e, R, s, m, args, below, meth, c, Q, D, A, ce, sl⟩ := X
  intro H locs ls hP hD hS hl
  obtain ⟨hx, hb, hml, hown, hts, hK, hA, hf, hlo, hce, hsl⟩ := hX
  exact va_get (ci := 0) (C := RX1) (T := TX1) (N := 18) hx hb hts in_X1 hown hK hP 0 rfl rfl 16 (by decide) (hts _ q47) (fun _ h9 => h9) rfl hdg (kk H locs ls hP hD hS hl)
/-- putfield leastTotal -/
theorem px_leastTotal (hX : Ok X cc nL k RX1 (TyX kA)) {v : Int} (hdg : decode cc pc = .ok (.putfield 104, 3)) (kk : G X nL (WX h q kA (st1 d 16 0 v)) lv (pc + 3) rest) : G X nL (WX h q kA d) lv pc (.int (iI v) :: .ref h :: rest) := by
  obtain ⟨p, l, e, R, s, m, args, below, meth, c, Q, D, A, ce, sl⟩ := X
  intro H locs ls hP hD hS hl
  obtain ⟨hx, hb, hml, hown, hts, hK, hA, hf, hlo, hce, hsl⟩ := hX
  have hw : WX h q kA (st1 d 16 0 v) = (WX h q kA d).set 0 (h, .inr (0, [.int (iI (d 0 0)), .int (iI (d 1 0)), .ref (q 2), .ref (q 3), .int (iI (d 4 0)), .int (iI (d 5 0)), .int (iI (d 6 0)), .int (iI (d 7 0)), .ref (q 8), .ref (q 9), .ref (q 10), .ref (q 11), .ref (q 12), .ref (q 13), .ref (q 14), .int (iI (d 15 0)), .int (iI (d 16 0)), .ref (q 17)].set 16 (.int (iI v)))) := by
    simp [WX, List.set, ar_ne, st1_ne, st1_eq]
  refine va_put (ci := 0) (v := .int (iI v)) (ty := tyX1 16) (C := RX1) (T := TX1) (N := 18) hx hb hts in_X1 tyX1 tyX1_ok nmX1 hown hK hP hD hS 0 rfl rfl 16 (by decide) (hts _ q47) (fun _ h9 => h9) rfl (by decide +kernel) rfl rfl (Nat.le_of_ble_eq_true rfl) hdg (fun H1 locs1 hP1 hD1 hS1 => ?_)
  exact kk H1 locs1 ls (by rw [hw]; exact hP1) (by rw [hw]; exact hD1) hS1 hl
/-- getfield bestMachine -/
theorem gx_bestMachine (hX : Ok X cc nL k RX1 (TyX kA)) (hdg : decode cc pc = .ok (.getfield 39, 3)) (kk : G X nL (WX h q kA d) lv (pc + 3) (.ref (q 17) :: rest)) : G X nL (WX h q kA d) lv pc (.ref h :: rest) := by
  obtain ⟨p, l, e, R, s, m, args, below, meth, c, Q, D, A, ce, sl⟩ := X
  intro H locs ls hP hD hS hl
  obtain ⟨hx, hb, hml, hown, hts, hK, hA, hf, hlo, hce, hsl⟩ := hX
  exact va_get (ci := 0) (C := RX1) (T := TX1) (N := 18) hx hb hts in_X1 hown hK hP 0 rfl rfl 17 (by decide) (hts _ q48) (fun _ h9 => h9) rfl hdg (kk H locs ls hP hD hS hl)
/-- times[z] -/
theorem lx_times (hX : Ok X cc nL k RX1 (TyX kA)) {z : Int} (hdg : decode cc pc = .ok (.baload, 1)) (hz : 0 ≤ z ∧ z < 15) (kk : G X nL (WX h q kA d) lv (pc + 1) (.int (iI (d 2 z)) :: rest)) : G X nL (WX h q kA d) lv pc (.int (iI z) :: .ref (q 2) :: rest) := by
  obtain ⟨p, l, e, R, s, m, args, below, meth, c, Q, D, A, ce, sl⟩ := X
  intro H locs ls hP hD hS hl
  obtain ⟨hx, hb, hml, hown, hts, hK, hA, hf, hlo, hce, hsl⟩ := hX
  refine va_bald hx hb hK hP 1 0 rfl rfl (iI_in (n := 15) hz.1 (by omega) (by decide)) hdg ?_
  rw [ar_at hz.1 (by omega)]
  exact kk H locs ls hP hD hS hl
/-- times[z] = v -/
theorem sx_times (hX : Ok X cc nL k RX1 (TyX kA)) {z v : Int} (hdg : decode cc pc = .ok (.bastore, 1)) (hz : 0 ≤ z ∧ z < 15) (hv : -128 ≤ v ∧ v ≤ 127) (kk : G X nL (WX h q kA (st1 d 2 z v)) lv (pc + 1) rest) : G X nL (WX h q kA d) lv pc (.int (iI v) :: .int (iI z) :: .ref (q 2) :: rest) := by
  obtain ⟨p, l, e, R, s, m, args, below, meth, c, Q, D, A, ce, sl⟩ := X
  intro H locs ls hP hD hS hl
  obtain ⟨hx, hb, hml, hown, hts, hK, hA, hf, hlo, hce, hsl⟩ := hX
  have hw : WX h q kA (st1 d 2 z v) = (WX h q kA d).set 1 (q 2, .inl (kA 2, 15, .inl (upd (ar d 2) z.toNat (iI v)))) := by
    rw [ar_eq hz.1]
    simp [WX, List.set, ar_ne, st1_ne]
  refine va_bast hx hb hK hP hD hS 1 0 rfl rfl (iI_in (n := 15) hz.1 (by omega) (by decide)) hdg (fun H1 locs1 hP1 hD1 hS1 => ?_)
  rw [nar_b hv, iI_clamp hz.1 (by omega)] at hP1 hD1
  exact kk H1 locs1 ls (by rw [hw]; exact hP1) (by rw [hw]; exact hD1) hS1 hl
/-- open[z] -/
theorem lx_open (hX : Ok X cc nL k RX1 (TyX kA)) {z : Int} (hdg : decode cc pc = .ok (.baload, 1)) (hz : 0 ≤ z ∧ z < 5) (kk : G X nL (WX h q kA d) lv (pc + 1) (.int (iI (d 3 z)) :: rest)) : G X nL (WX h q kA d) lv pc (.int (iI z) :: .ref (q 3) :: rest) := by
  obtain ⟨p, l, e, R, s, m, args, below, meth, c, Q, D, A, ce, sl⟩ := X
  intro H locs ls hP hD hS hl
  obtain ⟨hx, hb, hml, hown, hts, hK, hA, hf, hlo, hce, hsl⟩ := hX
  refine va_bald hx hb hK hP 2 1 rfl rfl (iI_in (n := 5) hz.1 (by omega) (by decide)) hdg ?_
  rw [ar_at hz.1 (by omega)]
  exact kk H locs ls hP hD hS hl
/-- open[z] = v -/
theorem sx_open (hX : Ok X cc nL k RX1 (TyX kA)) {z v : Int} (hdg : decode cc pc = .ok (.bastore, 1)) (hz : 0 ≤ z ∧ z < 5) (hv : -128 ≤ v ∧ v ≤ 127) (kk : G X nL (WX h q kA (st1 d 3 z v)) lv (pc + 1) rest) : G X nL (WX h q kA d) lv pc (.int (iI v) :: .int (iI z) :: .ref (q 3) :: rest) := by
  obtain ⟨p, l, e, R, s, m, args, below, meth, c, Q, D, A, ce, sl⟩ := X
  intro H locs ls hP hD hS hl
  obtain ⟨hx, hb, hml, hown, hts, hK, hA, hf, hlo, hce, hsl⟩ := hX
  have hw : WX h q kA (st1 d 3 z v) = (WX h q kA d).set 2 (q 3, .inl (kA 3, 5, .inl (upd (ar d 3) z.toNat (iI v)))) := by
    rw [ar_eq hz.1]
    simp [WX, List.set, ar_ne, st1_ne]
  refine va_bast hx hb hK hP hD hS 2 1 rfl rfl (iI_in (n := 5) hz.1 (by omega) (by decide)) hdg (fun H1 locs1 hP1 hD1 hS1 => ?_)
  rw [nar_b hv, iI_clamp hz.1 (by omega)] at hP1 hD1
  exact kk H1 locs1 ls (by rw [hw]; exact hP1) (by rw [hw]; exact hD1) hS1 hl
/-- rowJob[z] -/
theorem lx_rowJob (hX : Ok X cc nL k RX1 (TyX kA)) {z : Int} (hdg : decode cc pc = .ok (.baload, 1)) (hz : 0 ≤ z ∧ z < 6) (kk : G X nL (WX h q kA d) lv (pc + 1) (.int (iI (d 8 z)) :: rest)) : G X nL (WX h q kA d) lv pc (.int (iI z) :: .ref (q 8) :: rest) := by
  obtain ⟨p, l, e, R, s, m, args, below, meth, c, Q, D, A, ce, sl⟩ := X
  intro H locs ls hP hD hS hl
  obtain ⟨hx, hb, hml, hown, hts, hK, hA, hf, hlo, hce, hsl⟩ := hX
  refine va_bald hx hb hK hP 3 2 rfl rfl (iI_in (n := 6) hz.1 (by omega) (by decide)) hdg ?_
  rw [ar_at hz.1 (by omega)]
  exact kk H locs ls hP hD hS hl
/-- rowJob[z] = v -/
theorem sx_rowJob (hX : Ok X cc nL k RX1 (TyX kA)) {z v : Int} (hdg : decode cc pc = .ok (.bastore, 1)) (hz : 0 ≤ z ∧ z < 6) (hv : -128 ≤ v ∧ v ≤ 127) (kk : G X nL (WX h q kA (st1 d 8 z v)) lv (pc + 1) rest) : G X nL (WX h q kA d) lv pc (.int (iI v) :: .int (iI z) :: .ref (q 8) :: rest) := by
  obtain ⟨p, l, e, R, s, m, args, below, meth, c, Q, D, A, ce, sl⟩ := X
  intro H locs ls hP hD hS hl
  obtain ⟨hx, hb, hml, hown, hts, hK, hA, hf, hlo, hce, hsl⟩ := hX
  have hw : WX h q kA (st1 d 8 z v) = (WX h q kA d).set 3 (q 8, .inl (kA 8, 6, .inl (upd (ar d 8) z.toNat (iI v)))) := by
    rw [ar_eq hz.1]
    simp [WX, List.set, ar_ne, st1_ne]
  refine va_bast hx hb hK hP hD hS 3 2 rfl rfl (iI_in (n := 6) hz.1 (by omega) (by decide)) hdg (fun H1 locs1 hP1 hD1 hS1 => ?_)
  rw [nar_b hv, iI_clamp hz.1 (by omega)] at hP1 hD1
  exact kk H1 locs1 ls (by rw [hw]; exact hP1) (by rw [hw]; exact hD1) hS1 hl
/-- rowPrice[z] -/
theorem lx_rowPrice (hX : Ok X cc nL k RX1 (TyX kA)) {z : Int} (hdg : decode cc pc = .ok (.iaload, 1)) (hz : 0 ≤ z ∧ z < 6) (kk : G X nL (WX h q kA d) lv (pc + 1) (.int (iI (d 9 z)) :: rest)) : G X nL (WX h q kA d) lv pc (.int (iI z) :: .ref (q 9) :: rest) := by
  obtain ⟨p, l, e, R, s, m, args, below, meth, c, Q, D, A, ce, sl⟩ := X
  intro H locs ls hP hD hS hl
  obtain ⟨hx, hb, hml, hown, hts, hK, hA, hf, hlo, hce, hsl⟩ := hX
  refine va_iald hx hb hK hP 4 3 rfl rfl (iI_in (n := 6) hz.1 (by omega) (by decide)) hdg ?_
  rw [ar_at hz.1 (by omega)]
  exact kk H locs ls hP hD hS hl
/-- rowPrice[z] = v -/
theorem sx_rowPrice (hX : Ok X cc nL k RX1 (TyX kA)) {z v : Int} (hdg : decode cc pc = .ok (.iastore, 1)) (hz : 0 ≤ z ∧ z < 6) (kk : G X nL (WX h q kA (st1 d 9 z v)) lv (pc + 1) rest) : G X nL (WX h q kA d) lv pc (.int (iI v) :: .int (iI z) :: .ref (q 9) :: rest) := by
  obtain ⟨p, l, e, R, s, m, args, below, meth, c, Q, D, A, ce, sl⟩ := X
  intro H locs ls hP hD hS hl
  obtain ⟨hx, hb, hml, hown, hts, hK, hA, hf, hlo, hce, hsl⟩ := hX
  have hw : WX h q kA (st1 d 9 z v) = (WX h q kA d).set 4 (q 9, .inl (kA 9, 6, .inl (upd (ar d 9) z.toNat (iI v)))) := by
    rw [ar_eq hz.1]
    simp [WX, List.set, ar_ne, st1_ne]
  refine va_iast hx hb hK hP hD hS 4 3 rfl rfl (iI_in (n := 6) hz.1 (by omega) (by decide)) hdg (fun H1 locs1 hP1 hD1 hS1 => ?_)
  rw [iI_clamp hz.1 (by omega)] at hP1 hD1
  exact kk H1 locs1 ls (by rw [hw]; exact hP1) (by rw [hw]; exact hD1) hS1 hl
/-- columnPrice[z] -/
theorem lx_columnPrice (hX : Ok X cc nL k RX1 (TyX kA)) {z : Int} (hdg : decode cc pc = .ok (.iaload, 1)) (hz : 0 ≤ z ∧ z < 24) (kk : G X nL (WX h q kA d) lv (pc + 1) (.int (iI (d 10 z)) :: rest)) : G X nL (WX h q kA d) lv pc (.int (iI z) :: .ref (q 10) :: rest) := by
  obtain ⟨p, l, e, R, s, m, args, below, meth, c, Q, D, A, ce, sl⟩ := X
  intro H locs ls hP hD hS hl
  obtain ⟨hx, hb, hml, hown, hts, hK, hA, hf, hlo, hce, hsl⟩ := hX
  refine va_iald hx hb hK hP 5 4 rfl rfl (iI_in (n := 24) hz.1 (by omega) (by decide)) hdg ?_
  rw [ar_at hz.1 (by omega)]
  exact kk H locs ls hP hD hS hl
/-- columnPrice[z] = v -/
theorem sx_columnPrice (hX : Ok X cc nL k RX1 (TyX kA)) {z v : Int} (hdg : decode cc pc = .ok (.iastore, 1)) (hz : 0 ≤ z ∧ z < 24) (kk : G X nL (WX h q kA (st1 d 10 z v)) lv (pc + 1) rest) : G X nL (WX h q kA d) lv pc (.int (iI v) :: .int (iI z) :: .ref (q 10) :: rest) := by
  obtain ⟨p, l, e, R, s, m, args, below, meth, c, Q, D, A, ce, sl⟩ := X
  intro H locs ls hP hD hS hl
  obtain ⟨hx, hb, hml, hown, hts, hK, hA, hf, hlo, hce, hsl⟩ := hX
  have hw : WX h q kA (st1 d 10 z v) = (WX h q kA d).set 5 (q 10, .inl (kA 10, 24, .inl (upd (ar d 10) z.toNat (iI v)))) := by
    rw [ar_eq hz.1]
    simp [WX, List.set, ar_ne, st1_ne]
  refine va_iast hx hb hK hP hD hS 5 4 rfl rfl (iI_in (n := 24) hz.1 (by omega) (by decide)) hdg (fun H1 locs1 hP1 hD1 hS1 => ?_)
  rw [iI_clamp hz.1 (by omega)] at hP1 hD1
  exact kk H1 locs1 ls (by rw [hw]; exact hP1) (by rw [hw]; exact hD1) hS1 hl
/-- rowOf[z] -/
theorem lx_rowOf (hX : Ok X cc nL k RX1 (TyX kA)) {z : Int} (hdg : decode cc pc = .ok (.baload, 1)) (hz : 0 ≤ z ∧ z < 24) (kk : G X nL (WX h q kA d) lv (pc + 1) (.int (iI (d 11 z)) :: rest)) : G X nL (WX h q kA d) lv pc (.int (iI z) :: .ref (q 11) :: rest) := by
  obtain ⟨p, l, e, R, s, m, args, below, meth, c, Q, D, A, ce, sl⟩ := X
  intro H locs ls hP hD hS hl
  obtain ⟨hx, hb, hml, hown, hts, hK, hA, hf, hlo, hce, hsl⟩ := hX
  refine va_bald hx hb hK hP 6 5 rfl rfl (iI_in (n := 24) hz.1 (by omega) (by decide)) hdg ?_
  rw [ar_at hz.1 (by omega)]
  exact kk H locs ls hP hD hS hl
/-- rowOf[z] = v -/
theorem sx_rowOf (hX : Ok X cc nL k RX1 (TyX kA)) {z v : Int} (hdg : decode cc pc = .ok (.bastore, 1)) (hz : 0 ≤ z ∧ z < 24) (hv : -128 ≤ v ∧ v ≤ 127) (kk : G X nL (WX h q kA (st1 d 11 z v)) lv (pc + 1) rest) : G X nL (WX h q kA d) lv pc (.int (iI v) :: .int (iI z) :: .ref (q 11) :: rest) := by
  obtain ⟨p, l, e, R, s, m, args, below, meth, c, Q, D, A, ce, sl⟩ := X
  intro H locs ls hP hD hS hl
  obtain ⟨hx, hb, hml, hown, hts, hK, hA, hf, hlo, hce, hsl⟩ := hX
  have hw : WX h q kA (st1 d 11 z v) = (WX h q kA d).set 6 (q 11, .inl (kA 11, 24, .inl (upd (ar d 11) z.toNat (iI v)))) := by
    rw [ar_eq hz.1]
    simp [WX, List.set, ar_ne, st1_ne]
  refine va_bast hx hb hK hP hD hS 6 5 rfl rfl (iI_in (n := 24) hz.1 (by omega) (by decide)) hdg (fun H1 locs1 hP1 hD1 hS1 => ?_)
  rw [nar_b hv, iI_clamp hz.1 (by omega)] at hP1 hD1
  exact kk H1 locs1 ls (by rw [hw]; exact hP1) (by rw [hw]; exact hD1) hS1 hl
/-- cameFrom[z] -/
theorem lx_cameFrom (hX : Ok X cc nL k RX1 (TyX kA)) {z : Int} (hdg : decode cc pc = .ok (.baload, 1)) (hz : 0 ≤ z ∧ z < 24) (kk : G X nL (WX h q kA d) lv (pc + 1) (.int (iI (d 12 z)) :: rest)) : G X nL (WX h q kA d) lv pc (.int (iI z) :: .ref (q 12) :: rest) := by
  obtain ⟨p, l, e, R, s, m, args, below, meth, c, Q, D, A, ce, sl⟩ := X
  intro H locs ls hP hD hS hl
  obtain ⟨hx, hb, hml, hown, hts, hK, hA, hf, hlo, hce, hsl⟩ := hX
  refine va_bald hx hb hK hP 7 6 rfl rfl (iI_in (n := 24) hz.1 (by omega) (by decide)) hdg ?_
  rw [ar_at hz.1 (by omega)]
  exact kk H locs ls hP hD hS hl
/-- cameFrom[z] = v -/
theorem sx_cameFrom (hX : Ok X cc nL k RX1 (TyX kA)) {z v : Int} (hdg : decode cc pc = .ok (.bastore, 1)) (hz : 0 ≤ z ∧ z < 24) (hv : -128 ≤ v ∧ v ≤ 127) (kk : G X nL (WX h q kA (st1 d 12 z v)) lv (pc + 1) rest) : G X nL (WX h q kA d) lv pc (.int (iI v) :: .int (iI z) :: .ref (q 12) :: rest) := by
  obtain ⟨p, l, e, R, s, m, args, below, meth, c, Q, D, A, ce, sl⟩ := X
  intro H locs ls hP hD hS hl
  obtain ⟨hx, hb, hml, hown, hts, hK, hA, hf, hlo, hce, hsl⟩ := hX
  have hw : WX h q kA (st1 d 12 z v) = (WX h q kA d).set 7 (q 12, .inl (kA 12, 24, .inl (upd (ar d 12) z.toNat (iI v)))) := by
    rw [ar_eq hz.1]
    simp [WX, List.set, ar_ne, st1_ne]
  refine va_bast hx hb hK hP hD hS 7 6 rfl rfl (iI_in (n := 24) hz.1 (by omega) (by decide)) hdg (fun H1 locs1 hP1 hD1 hS1 => ?_)
  rw [nar_b hv, iI_clamp hz.1 (by omega)] at hP1 hD1
  exact kk H1 locs1 ls (by rw [hw]; exact hP1) (by rw [hw]; exact hD1) hS1 hl
/-- slack[z] -/
theorem lx_slack (hX : Ok X cc nL k RX1 (TyX kA)) {z : Int} (hdg : decode cc pc = .ok (.iaload, 1)) (hz : 0 ≤ z ∧ z < 24) (kk : G X nL (WX h q kA d) lv (pc + 1) (.int (iI (d 13 z)) :: rest)) : G X nL (WX h q kA d) lv pc (.int (iI z) :: .ref (q 13) :: rest) := by
  obtain ⟨p, l, e, R, s, m, args, below, meth, c, Q, D, A, ce, sl⟩ := X
  intro H locs ls hP hD hS hl
  obtain ⟨hx, hb, hml, hown, hts, hK, hA, hf, hlo, hce, hsl⟩ := hX
  refine va_iald hx hb hK hP 8 7 rfl rfl (iI_in (n := 24) hz.1 (by omega) (by decide)) hdg ?_
  rw [ar_at hz.1 (by omega)]
  exact kk H locs ls hP hD hS hl
/-- slack[z] = v -/
theorem sx_slack (hX : Ok X cc nL k RX1 (TyX kA)) {z v : Int} (hdg : decode cc pc = .ok (.iastore, 1)) (hz : 0 ≤ z ∧ z < 24) (kk : G X nL (WX h q kA (st1 d 13 z v)) lv (pc + 1) rest) : G X nL (WX h q kA d) lv pc (.int (iI v) :: .int (iI z) :: .ref (q 13) :: rest) := by
  obtain ⟨p, l, e, R, s, m, args, below, meth, c, Q, D, A, ce, sl⟩ := X
  intro H locs ls hP hD hS hl
  obtain ⟨hx, hb, hml, hown, hts, hK, hA, hf, hlo, hce, hsl⟩ := hX
  have hw : WX h q kA (st1 d 13 z v) = (WX h q kA d).set 8 (q 13, .inl (kA 13, 24, .inl (upd (ar d 13) z.toNat (iI v)))) := by
    rw [ar_eq hz.1]
    simp [WX, List.set, ar_ne, st1_ne]
  refine va_iast hx hb hK hP hD hS 8 7 rfl rfl (iI_in (n := 24) hz.1 (by omega) (by decide)) hdg (fun H1 locs1 hP1 hD1 hS1 => ?_)
  rw [iI_clamp hz.1 (by omega)] at hP1 hD1
  exact kk H1 locs1 ls (by rw [hw]; exact hP1) (by rw [hw]; exact hD1) hS1 hl
/-- reached[z] -/
theorem lx_reached (hX : Ok X cc nL k RX1 (TyX kA)) {z : Int} (hdg : decode cc pc = .ok (.baload, 1)) (hz : 0 ≤ z ∧ z < 24) (kk : G X nL (WX h q kA d) lv (pc + 1) (.int (iI (d 14 z)) :: rest)) : G X nL (WX h q kA d) lv pc (.int (iI z) :: .ref (q 14) :: rest) := by
  obtain ⟨p, l, e, R, s, m, args, below, meth, c, Q, D, A, ce, sl⟩ := X
  intro H locs ls hP hD hS hl
  obtain ⟨hx, hb, hml, hown, hts, hK, hA, hf, hlo, hce, hsl⟩ := hX
  refine va_zald hx hb hK hP 9 8 rfl rfl (iI_in (n := 24) hz.1 (by omega) (by decide)) hdg ?_
  rw [ar_at hz.1 (by omega)]
  exact kk H locs ls hP hD hS hl
/-- reached[z] = v -/
theorem sx_reached (hX : Ok X cc nL k RX1 (TyX kA)) {z v : Int} (hdg : decode cc pc = .ok (.bastore, 1)) (hz : 0 ≤ z ∧ z < 24) (hv : v = 0 ∨ v = 1) (kk : G X nL (WX h q kA (st1 d 14 z v)) lv (pc + 1) rest) : G X nL (WX h q kA d) lv pc (.int (iI v) :: .int (iI z) :: .ref (q 14) :: rest) := by
  obtain ⟨p, l, e, R, s, m, args, below, meth, c, Q, D, A, ce, sl⟩ := X
  intro H locs ls hP hD hS hl
  obtain ⟨hx, hb, hml, hown, hts, hK, hA, hf, hlo, hce, hsl⟩ := hX
  have hw : WX h q kA (st1 d 14 z v) = (WX h q kA d).set 9 (q 14, .inl (kA 14, 24, .inl (upd (ar d 14) z.toNat (iI v)))) := by
    rw [ar_eq hz.1]
    simp [WX, List.set, ar_ne, st1_ne]
  refine va_zast hx hb hK hP hD hS 9 8 rfl rfl (iI_in (n := 24) hz.1 (by omega) (by decide)) hdg (fun H1 locs1 hP1 hD1 hS1 => ?_)
  rw [nar_z hv, iI_clamp hz.1 (by omega)] at hP1 hD1
  exact kk H1 locs1 ls (by rw [hw]; exact hP1) (by rw [hw]; exact hD1) hS1 hl
/-- bestMachine[z] -/
theorem lx_bestMachine (hX : Ok X cc nL k RX1 (TyX kA)) {z : Int} (hdg : decode cc pc = .ok (.baload, 1)) (hz : 0 ≤ z ∧ z < 5) (kk : G X nL (WX h q kA d) lv (pc + 1) (.int (iI (d 17 z)) :: rest)) : G X nL (WX h q kA d) lv pc (.int (iI z) :: .ref (q 17) :: rest) := by
  obtain ⟨p, l, e, R, s, m, args, below, meth, c, Q, D, A, ce, sl⟩ := X
  intro H locs ls hP hD hS hl
  obtain ⟨hx, hb, hml, hown, hts, hK, hA, hf, hlo, hce, hsl⟩ := hX
  refine va_bald hx hb hK hP 10 9 rfl rfl (iI_in (n := 5) hz.1 (by omega) (by decide)) hdg ?_
  rw [ar_at hz.1 (by omega)]
  exact kk H locs ls hP hD hS hl
/-- bestMachine[z] = v -/
theorem sx_bestMachine (hX : Ok X cc nL k RX1 (TyX kA)) {z v : Int} (hdg : decode cc pc = .ok (.bastore, 1)) (hz : 0 ≤ z ∧ z < 5) (hv : -128 ≤ v ∧ v ≤ 127) (kk : G X nL (WX h q kA (st1 d 17 z v)) lv (pc + 1) rest) : G X nL (WX h q kA d) lv pc (.int (iI v) :: .int (iI z) :: .ref (q 17) :: rest) := by
  obtain ⟨p, l, e, R, s, m, args, below, meth, c, Q, D, A, ce, sl⟩ := X
  intro H locs ls hP hD hS hl
  obtain ⟨hx, hb, hml, hown, hts, hK, hA, hf, hlo, hce, hsl⟩ := hX
  have hw : WX h q kA (st1 d 17 z v) = (WX h q kA d).set 10 (q 17, .inl (kA 17, 5, .inl (upd (ar d 17) z.toNat (iI v)))) := by
    rw [ar_eq hz.1]
    simp [WX, List.set, ar_ne, st1_ne]
  refine va_bast hx hb hK hP hD hS 10 9 rfl rfl (iI_in (n := 5) hz.1 (by omega) (by decide)) hdg (fun H1 locs1 hP1 hD1 hS1 => ?_)
  rw [nar_b hv, iI_clamp hz.1 (by omega)] at hP1 hD1
  exact kk H1 locs1 ls (by rw [hw]; exact hP1) (by rw [hw]; exact hD1) hS1 hl
end
/-- the cells of a RX2 at h -/
def WY (h : Nat) (q : Nat → Nat) (kA : Nat → ClassId) (d : DS) : va_W := [(h, .inr (1, [.int (iI (d 0 0)), .ref (q 1), .ref (q 2), .ref (q 3), .int (iI (d 4 0)), .int (iI (d 5 0)), .int (iI (d 6 0))])), (q 1, .inl (kA 1, 5, .inl (ar d 1))), (q 2, .inl (kA 2, 20, .inl (ar d 2))), (q 3, .inl (kA 3, 5, .inl (ar d 3)))]
def TyY (kA : Nat → ClassId) : List (ClassId × FieldType) := [(kA 1, .boolean), (kA 2, .int), (kA 3, .int)]
section
variable {X : Cx} {cc : ByteArray} {nL k : Nat} {lv : List (Option Value)} {pc : Nat} {st rest : List Value} {h : Nat} {q : Nat → Nat} {kA : Nat → ClassId} {d : DS}
/-- getfield crew -/
theorem gy_crew (hX : Ok X cc nL k RX2 (TyY kA)) (hdg : decode cc pc = .ok (.getfield 20, 3)) (kk : G X nL (WY h q kA d) lv (pc + 3) (.int (iI (d 0 0)) :: rest)) : G X nL (WY h q kA d) lv pc (.ref h :: rest) := by
  obtain ⟨p, l, e, R, s, m, args, below, meth, c, Q, D, A, ce, sl⟩ := X
  intro H locs ls hP hD hS hl
  obtain ⟨hx, hb, hml, hown, hts, hK, hA, hf, hlo, hce, hsl⟩ := hX
  exact va_get (ci := 1) (C := RX2) (T := TX2) (N := 7) hx hb hts in_X2 hown hK hP 0 rfl rfl 0 (by decide) (hts _ q203) (fun _ h9 => h9) rfl hdg (kk H locs ls hP hD hS hl)
/-- putfield crew -/
theorem py_crew (hX : Ok X cc nL k RX2 (TyY kA)) {v : Int} (hdg : decode cc pc = .ok (.putfield 20, 3)) (kk : G X nL (WY h q kA (st1 d 0 0 v)) lv (pc + 3) rest) : G X nL (WY h q kA d) lv pc (.int (iI v) :: .ref h :: rest) := by
  obtain ⟨p, l, e, R, s, m, args, below, meth, c, Q, D, A, ce, sl⟩ := X
  intro H locs ls hP hD hS hl
  obtain ⟨hx, hb, hml, hown, hts, hK, hA, hf, hlo, hce, hsl⟩ := hX
  have hw : WY h q kA (st1 d 0 0 v) = (WY h q kA d).set 0 (h, .inr (1, [.int (iI (d 0 0)), .ref (q 1), .ref (q 2), .ref (q 3), .int (iI (d 4 0)), .int (iI (d 5 0)), .int (iI (d 6 0))].set 0 (.int (iI v)))) := by
    simp [WY, List.set, ar_ne, st1_ne, st1_eq]
  refine va_put (ci := 1) (v := .int (iI v)) (ty := tyX2 0) (C := RX2) (T := TX2) (N := 7) hx hb hts in_X2 tyX2 tyX2_ok nmX2 hown hK hP hD hS 0 rfl rfl 0 (by decide) (hts _ q203) (fun _ h9 => h9) rfl (by decide +kernel) rfl rfl (Nat.le_of_ble_eq_true rfl) hdg (fun H1 locs1 hP1 hD1 hS1 => ?_)
  exact kk H1 locs1 ls (by rw [hw]; exact hP1) (by rw [hw]; exact hD1) hS1 hl
/-- getfield there -/
theorem gy_there (hX : Ok X cc nL k RX2 (TyY kA)) (hdg : decode cc pc = .ok (.getfield 7, 3)) (kk : G X nL (WY h q kA d) lv (pc + 3) (.ref (q 1) :: rest)) : G X nL (WY h q kA d) lv pc (.ref h :: rest) := by
  obtain ⟨p, l, e, R, s, m, args, below, meth, c, Q, D, A, ce, sl⟩ := X
  intro H locs ls hP hD hS hl
  obtain ⟨hx, hb, hml, hown, hts, hK, hA, hf, hlo, hce, hsl⟩ := hX
  exact va_get (ci := 1) (C := RX2) (T := TX2) (N := 7) hx hb hts in_X2 hown hK hP 0 rfl rfl 1 (by decide) (hts _ q204) (fun _ h9 => h9) rfl hdg (kk H locs ls hP hD hS hl)
/-- getfield times -/
theorem gy_times (hX : Ok X cc nL k RX2 (TyY kA)) (hdg : decode cc pc = .ok (.getfield 13, 3)) (kk : G X nL (WY h q kA d) lv (pc + 3) (.ref (q 2) :: rest)) : G X nL (WY h q kA d) lv pc (.ref h :: rest) := by
  obtain ⟨p, l, e, R, s, m, args, below, meth, c, Q, D, A, ce, sl⟩ := X
  intro H locs ls hP hD hS hl
  obtain ⟨hx, hb, hml, hown, hts, hK, hA, hf, hlo, hce, hsl⟩ := hX
  exact va_get (ci := 1) (C := RX2) (T := TX2) (N := 7) hx hb hts in_X2 hown hK hP 0 rfl rfl 2 (by decide) (hts _ q205) (fun _ h9 => h9) rfl hdg (kk H locs ls hP hD hS hl)
/-- getfield on -/
theorem gy_on (hX : Ok X cc nL k RX2 (TyY kA)) (hdg : decode cc pc = .ok (.getfield 17, 3)) (kk : G X nL (WY h q kA d) lv (pc + 3) (.ref (q 3) :: rest)) : G X nL (WY h q kA d) lv pc (.ref h :: rest) := by
  obtain ⟨p, l, e, R, s, m, args, below, meth, c, Q, D, A, ce, sl⟩ := X
  intro H locs ls hP hD hS hl
  obtain ⟨hx, hb, hml, hown, hts, hK, hA, hf, hlo, hce, hsl⟩ := hX
  exact va_get (ci := 1) (C := RX2) (T := TX2) (N := 7) hx hb hts in_X2 hown hK hP 0 rfl rfl 3 (by decide) (hts _ q206) (fun _ h9 => h9) rfl hdg (kk H locs ls hP hD hS hl)
/-- getfield allowed -/
theorem gy_allowed (hX : Ok X cc nL k RX2 (TyY kA)) (hdg : decode cc pc = .ok (.getfield 31, 3)) (kk : G X nL (WY h q kA d) lv (pc + 3) (.int (iI (d 4 0)) :: rest)) : G X nL (WY h q kA d) lv pc (.ref h :: rest) := by
  obtain ⟨p, l, e, R, s, m, args, below, meth, c, Q, D, A, ce, sl⟩ := X
  intro H locs ls hP hD hS hl
  obtain ⟨hx, hb, hml, hown, hts, hK, hA, hf, hlo, hce, hsl⟩ := hX
  exact va_get (ci := 1) (C := RX2) (T := TX2) (N := 7) hx hb hts in_X2 hown hK hP 0 rfl rfl 4 (by decide) (hts _ q207) (fun _ h9 => h9) rfl hdg (kk H locs ls hP hD hS hl)
/-- putfield allowed -/
theorem py_allowed (hX : Ok X cc nL k RX2 (TyY kA)) {v : Int} (hdg : decode cc pc = .ok (.putfield 31, 3)) (kk : G X nL (WY h q kA (st1 d 4 0 v)) lv (pc + 3) rest) : G X nL (WY h q kA d) lv pc (.int (iI v) :: .ref h :: rest) := by
  obtain ⟨p, l, e, R, s, m, args, below, meth, c, Q, D, A, ce, sl⟩ := X
  intro H locs ls hP hD hS hl
  obtain ⟨hx, hb, hml, hown, hts, hK, hA, hf, hlo, hce, hsl⟩ := hX
  have hw : WY h q kA (st1 d 4 0 v) = (WY h q kA d).set 0 (h, .inr (1, [.int (iI (d 0 0)), .ref (q 1), .ref (q 2), .ref (q 3), .int (iI (d 4 0)), .int (iI (d 5 0)), .int (iI (d 6 0))].set 4 (.int (iI v)))) := by
    simp [WY, List.set, ar_ne, st1_ne, st1_eq]
  refine va_put (ci := 1) (v := .int (iI v)) (ty := tyX2 4) (C := RX2) (T := TX2) (N := 7) hx hb hts in_X2 tyX2 tyX2_ok nmX2 hown hK hP hD hS 0 rfl rfl 4 (by decide) (hts _ q207) (fun _ h9 => h9) rfl (by decide +kernel) rfl rfl (Nat.le_of_ble_eq_true rfl) hdg (fun H1 locs1 hP1 hD1 hS1 => ?_)
  exact kk H1 locs1 ls (by rw [hw]; exact hP1) (by rw [hw]; exact hD1) hS1 hl
/-- getfield must -/
theorem gy_must (hX : Ok X cc nL k RX2 (TyY kA)) (hdg : decode cc pc = .ok (.getfield 34, 3)) (kk : G X nL (WY h q kA d) lv (pc + 3) (.int (iI (d 5 0)) :: rest)) : G X nL (WY h q kA d) lv pc (.ref h :: rest) := by
  obtain ⟨p, l, e, R, s, m, args, below, meth, c, Q, D, A, ce, sl⟩ := X
  intro H locs ls hP hD hS hl
  obtain ⟨hx, hb, hml, hown, hts, hK, hA, hf, hlo, hce, hsl⟩ := hX
  exact va_get (ci := 1) (C := RX2) (T := TX2) (N := 7) hx hb hts in_X2 hown hK hP 0 rfl rfl 5 (by decide) (hts _ q208) (fun _ h9 => h9) rfl hdg (kk H locs ls hP hD hS hl)
/-- putfield must -/
theorem py_must (hX : Ok X cc nL k RX2 (TyY kA)) {v : Int} (hdg : decode cc pc = .ok (.putfield 34, 3)) (kk : G X nL (WY h q kA (st1 d 5 0 v)) lv (pc + 3) rest) : G X nL (WY h q kA d) lv pc (.int (iI v) :: .ref h :: rest) := by
  obtain ⟨p, l, e, R, s, m, args, below, meth, c, Q, D, A, ce, sl⟩ := X
  intro H locs ls hP hD hS hl
  obtain ⟨hx, hb, hml, hown, hts, hK, hA, hf, hlo, hce, hsl⟩ := hX
  have hw : WY h q kA (st1 d 5 0 v) = (WY h q kA d).set 0 (h, .inr (1, [.int (iI (d 0 0)), .ref (q 1), .ref (q 2), .ref (q 3), .int (iI (d 4 0)), .int (iI (d 5 0)), .int (iI (d 6 0))].set 5 (.int (iI v)))) := by
    simp [WY, List.set, ar_ne, st1_ne, st1_eq]
  refine va_put (ci := 1) (v := .int (iI v)) (ty := tyX2 5) (C := RX2) (T := TX2) (N := 7) hx hb hts in_X2 tyX2 tyX2_ok nmX2 hown hK hP hD hS 0 rfl rfl 5 (by decide) (hts _ q208) (fun _ h9 => h9) rfl (by decide +kernel) rfl rfl (Nat.le_of_ble_eq_true rfl) hdg (fun H1 locs1 hP1 hD1 hS1 => ?_)
  exact kk H1 locs1 ls (by rw [hw]; exact hP1) (by rw [hw]; exact hD1) hS1 hl
/-- getfield mustBe -/
theorem gy_mustBe (hX : Ok X cc nL k RX2 (TyY kA)) (hdg : decode cc pc = .ok (.getfield 37, 3)) (kk : G X nL (WY h q kA d) lv (pc + 3) (.int (iI (d 6 0)) :: rest)) : G X nL (WY h q kA d) lv pc (.ref h :: rest) := by
  obtain ⟨p, l, e, R, s, m, args, below, meth, c, Q, D, A, ce, sl⟩ := X
  intro H locs ls hP hD hS hl
  obtain ⟨hx, hb, hml, hown, hts, hK, hA, hf, hlo, hce, hsl⟩ := hX
  exact va_get (ci := 1) (C := RX2) (T := TX2) (N := 7) hx hb hts in_X2 hown hK hP 0 rfl rfl 6 (by decide) (hts _ q209) (fun _ h9 => h9) rfl hdg (kk H locs ls hP hD hS hl)
/-- putfield mustBe -/
theorem py_mustBe (hX : Ok X cc nL k RX2 (TyY kA)) {v : Int} (hdg : decode cc pc = .ok (.putfield 37, 3)) (kk : G X nL (WY h q kA (st1 d 6 0 v)) lv (pc + 3) rest) : G X nL (WY h q kA d) lv pc (.int (iI v) :: .ref h :: rest) := by
  obtain ⟨p, l, e, R, s, m, args, below, meth, c, Q, D, A, ce, sl⟩ := X
  intro H locs ls hP hD hS hl
  obtain ⟨hx, hb, hml, hown, hts, hK, hA, hf, hlo, hce, hsl⟩ := hX
  have hw : WY h q kA (st1 d 6 0 v) = (WY h q kA d).set 0 (h, .inr (1, [.int (iI (d 0 0)), .ref (q 1), .ref (q 2), .ref (q 3), .int (iI (d 4 0)), .int (iI (d 5 0)), .int (iI (d 6 0))].set 6 (.int (iI v)))) := by
    simp [WY, List.set, ar_ne, st1_ne, st1_eq]
  refine va_put (ci := 1) (v := .int (iI v)) (ty := tyX2 6) (C := RX2) (T := TX2) (N := 7) hx hb hts in_X2 tyX2 tyX2_ok nmX2 hown hK hP hD hS 0 rfl rfl 6 (by decide) (hts _ q209) (fun _ h9 => h9) rfl (by decide +kernel) rfl rfl (Nat.le_of_ble_eq_true rfl) hdg (fun H1 locs1 hP1 hD1 hS1 => ?_)
  exact kk H1 locs1 ls (by rw [hw]; exact hP1) (by rw [hw]; exact hD1) hS1 hl
/-- there[z] -/
theorem ly_there (hX : Ok X cc nL k RX2 (TyY kA)) {z : Int} (hdg : decode cc pc = .ok (.baload, 1)) (hz : 0 ≤ z ∧ z < 5) (kk : G X nL (WY h q kA d) lv (pc + 1) (.int (iI (d 1 z)) :: rest)) : G X nL (WY h q kA d) lv pc (.int (iI z) :: .ref (q 1) :: rest) := by
  obtain ⟨p, l, e, R, s, m, args, below, meth, c, Q, D, A, ce, sl⟩ := X
  intro H locs ls hP hD hS hl
  obtain ⟨hx, hb, hml, hown, hts, hK, hA, hf, hlo, hce, hsl⟩ := hX
  refine va_zald hx hb hK hP 1 0 rfl rfl (iI_in (n := 5) hz.1 (by omega) (by decide)) hdg ?_
  rw [ar_at hz.1 (by omega)]
  exact kk H locs ls hP hD hS hl
/-- there[z] = v -/
theorem sy_there (hX : Ok X cc nL k RX2 (TyY kA)) {z v : Int} (hdg : decode cc pc = .ok (.bastore, 1)) (hz : 0 ≤ z ∧ z < 5) (hv : v = 0 ∨ v = 1) (kk : G X nL (WY h q kA (st1 d 1 z v)) lv (pc + 1) rest) : G X nL (WY h q kA d) lv pc (.int (iI v) :: .int (iI z) :: .ref (q 1) :: rest) := by
  obtain ⟨p, l, e, R, s, m, args, below, meth, c, Q, D, A, ce, sl⟩ := X
  intro H locs ls hP hD hS hl
  obtain ⟨hx, hb, hml, hown, hts, hK, hA, hf, hlo, hce, hsl⟩ := hX
  have hw : WY h q kA (st1 d 1 z v) = (WY h q kA d).set 1 (q 1, .inl (kA 1, 5, .inl (upd (ar d 1) z.toNat (iI v)))) := by
    rw [ar_eq hz.1]
    simp [WY, List.set, ar_ne, st1_ne]
  refine va_zast hx hb hK hP hD hS 1 0 rfl rfl (iI_in (n := 5) hz.1 (by omega) (by decide)) hdg (fun H1 locs1 hP1 hD1 hS1 => ?_)
  rw [nar_z hv, iI_clamp hz.1 (by omega)] at hP1 hD1
  exact kk H1 locs1 ls (by rw [hw]; exact hP1) (by rw [hw]; exact hD1) hS1 hl
/-- times[z] -/
theorem ly_times (hX : Ok X cc nL k RX2 (TyY kA)) {z : Int} (hdg : decode cc pc = .ok (.iaload, 1)) (hz : 0 ≤ z ∧ z < 20) (kk : G X nL (WY h q kA d) lv (pc + 1) (.int (iI (d 2 z)) :: rest)) : G X nL (WY h q kA d) lv pc (.int (iI z) :: .ref (q 2) :: rest) := by
  obtain ⟨p, l, e, R, s, m, args, below, meth, c, Q, D, A, ce, sl⟩ := X
  intro H locs ls hP hD hS hl
  obtain ⟨hx, hb, hml, hown, hts, hK, hA, hf, hlo, hce, hsl⟩ := hX
  refine va_iald hx hb hK hP 2 1 rfl rfl (iI_in (n := 20) hz.1 (by omega) (by decide)) hdg ?_
  rw [ar_at hz.1 (by omega)]
  exact kk H locs ls hP hD hS hl
/-- times[z] = v -/
theorem sy_times (hX : Ok X cc nL k RX2 (TyY kA)) {z v : Int} (hdg : decode cc pc = .ok (.iastore, 1)) (hz : 0 ≤ z ∧ z < 20) (kk : G X nL (WY h q kA (st1 d 2 z v)) lv (pc + 1) rest) : G X nL (WY h q kA d) lv pc (.int (iI v) :: .int (iI z) :: .ref (q 2) :: rest) := by
  obtain ⟨p, l, e, R, s, m, args, below, meth, c, Q, D, A, ce, sl⟩ := X
  intro H locs ls hP hD hS hl
  obtain ⟨hx, hb, hml, hown, hts, hK, hA, hf, hlo, hce, hsl⟩ := hX
  have hw : WY h q kA (st1 d 2 z v) = (WY h q kA d).set 2 (q 2, .inl (kA 2, 20, .inl (upd (ar d 2) z.toNat (iI v)))) := by
    rw [ar_eq hz.1]
    simp [WY, List.set, ar_ne, st1_ne]
  refine va_iast hx hb hK hP hD hS 2 1 rfl rfl (iI_in (n := 20) hz.1 (by omega) (by decide)) hdg (fun H1 locs1 hP1 hD1 hS1 => ?_)
  rw [iI_clamp hz.1 (by omega)] at hP1 hD1
  exact kk H1 locs1 ls (by rw [hw]; exact hP1) (by rw [hw]; exact hD1) hS1 hl
/-- on[z] -/
theorem ly_on (hX : Ok X cc nL k RX2 (TyY kA)) {z : Int} (hdg : decode cc pc = .ok (.iaload, 1)) (hz : 0 ≤ z ∧ z < 5) (kk : G X nL (WY h q kA d) lv (pc + 1) (.int (iI (d 3 z)) :: rest)) : G X nL (WY h q kA d) lv pc (.int (iI z) :: .ref (q 3) :: rest) := by
  obtain ⟨p, l, e, R, s, m, args, below, meth, c, Q, D, A, ce, sl⟩ := X
  intro H locs ls hP hD hS hl
  obtain ⟨hx, hb, hml, hown, hts, hK, hA, hf, hlo, hce, hsl⟩ := hX
  refine va_iald hx hb hK hP 3 2 rfl rfl (iI_in (n := 5) hz.1 (by omega) (by decide)) hdg ?_
  rw [ar_at hz.1 (by omega)]
  exact kk H locs ls hP hD hS hl
/-- on[z] = v -/
theorem sy_on (hX : Ok X cc nL k RX2 (TyY kA)) {z v : Int} (hdg : decode cc pc = .ok (.iastore, 1)) (hz : 0 ≤ z ∧ z < 5) (kk : G X nL (WY h q kA (st1 d 3 z v)) lv (pc + 1) rest) : G X nL (WY h q kA d) lv pc (.int (iI v) :: .int (iI z) :: .ref (q 3) :: rest) := by
  obtain ⟨p, l, e, R, s, m, args, below, meth, c, Q, D, A, ce, sl⟩ := X
  intro H locs ls hP hD hS hl
  obtain ⟨hx, hb, hml, hown, hts, hK, hA, hf, hlo, hce, hsl⟩ := hX
  have hw : WY h q kA (st1 d 3 z v) = (WY h q kA d).set 3 (q 3, .inl (kA 3, 5, .inl (upd (ar d 3) z.toNat (iI v)))) := by
    rw [ar_eq hz.1]
    simp [WY, List.set, ar_ne, st1_ne]
  refine va_iast hx hb hK hP hD hS 3 2 rfl rfl (iI_in (n := 5) hz.1 (by omega) (by decide)) hdg (fun H1 locs1 hP1 hD1 hS1 => ?_)
  rw [iI_clamp hz.1 (by omega)] at hP1 hD1
  exact kk H1 locs1 ls (by rw [hw]; exact hP1) (by rw [hw]; exact hD1) hS1 hl
end
end
end
section
section
set_option maxRecDepth 100000
theorem hdX1_add {A : List Value} (h : (parseMethodDescriptor yX1_add.desc).map (fun d => d.parameters.length) = some A.length) : yX1_add.cls = RX1 ∧ yX1_add.cls ≠ "java/lang/invoke/MethodHandle" ∧ yX1_add.cls ≠ "java/lang/invoke/VarHandle" ∧ (parseMethodDescriptor yX1_add.desc).map (fun d => d.parameters.length) = some A.length := ⟨by decide +kernel, by decide +kernel, by decide +kernel, h⟩
theorem LwX1_add : GoodIn lw_all (wsV RX0 21 RX1 yX1_add (ws_ yX1_add cX1_add 7 (some .int))) := lw_V q89 q90 q91 q21 q92
theorem hdX1_remove {A : List Value} (h : (parseMethodDescriptor yX1_remove.desc).map (fun d => d.parameters.length) = some A.length) : yX1_remove.cls = RX1 ∧ yX1_remove.cls ≠ "java/lang/invoke/MethodHandle" ∧ yX1_remove.cls ≠ "java/lang/invoke/VarHandle" ∧ (parseMethodDescriptor yX1_remove.desc).map (fun d => d.parameters.length) = some A.length := ⟨by decide +kernel, by decide +kernel, by decide +kernel, h⟩
theorem LwX1_remove : GoodIn lw_all (wsV RX0 26 RX1 yX1_remove (ws_ yX1_remove cX1_remove 2 (some .boolean))) := lw_V q100 q101 q102 q21 q103
theorem hdX1_setTime {A : List Value} (h : (parseMethodDescriptor yX1_setTime.desc).map (fun d => d.parameters.length) = some A.length) : yX1_setTime.cls = RX1 ∧ yX1_setTime.cls ≠ "java/lang/invoke/MethodHandle" ∧ yX1_setTime.cls ≠ "java/lang/invoke/VarHandle" ∧ (parseMethodDescriptor yX1_setTime.desc).map (fun d => d.parameters.length) = some A.length := ⟨by decide +kernel, by decide +kernel, by decide +kernel, h⟩
theorem LwX1_setTime : GoodIn lw_all (wsV RX0 31 RX1 yX1_setTime (ws_ yX1_setTime cX1_setTime 5 (some .boolean))) := lw_V q104 q105 q106 q21 q107
theorem hdX1_jobs {A : List Value} (h : (parseMethodDescriptor yX1_jobs.desc).map (fun d => d.parameters.length) = some A.length) : yX1_jobs.cls = RX1 ∧ yX1_jobs.cls ≠ "java/lang/invoke/MethodHandle" ∧ yX1_jobs.cls ≠ "java/lang/invoke/VarHandle" ∧ (parseMethodDescriptor yX1_jobs.desc).map (fun d => d.parameters.length) = some A.length := ⟨by decide +kernel, by decide +kernel, by decide +kernel, h⟩
theorem LwX1_jobs : GoodIn lw_all (wsV RX0 36 RX1 yX1_jobs (ws_ yX1_jobs cX1_jobs 1 (some .int))) := lw_V q116 q117 q118 q21 q119
theorem hdX1_time {A : List Value} (h : (parseMethodDescriptor yX1_time.desc).map (fun d => d.parameters.length) = some A.length) : yX1_time.cls = RX1 ∧ yX1_time.cls ≠ "java/lang/invoke/MethodHandle" ∧ yX1_time.cls ≠ "java/lang/invoke/VarHandle" ∧ (parseMethodDescriptor yX1_time.desc).map (fun d => d.parameters.length) = some A.length := ⟨by decide +kernel, by decide +kernel, by decide +kernel, h⟩
theorem LwX1_time : GoodIn lw_all (wsV RX0 41 RX1 yX1_time (ws_ yX1_time cX1_time 3 (some .int))) := lw_V q120 q121 q122 q21 q123
theorem hdX1_least {A : List Value} (h : (parseMethodDescriptor yX1_least.desc).map (fun d => d.parameters.length) = some A.length) : yX1_least.cls = RX1 ∧ yX1_least.cls ≠ "java/lang/invoke/MethodHandle" ∧ yX1_least.cls ≠ "java/lang/invoke/VarHandle" ∧ (parseMethodDescriptor yX1_least.desc).map (fun d => d.parameters.length) = some A.length := ⟨by decide +kernel, by decide +kernel, by decide +kernel, h⟩
theorem LwX1_least : GoodIn lw_all (wsV RX0 46 RX1 yX1_least (ws_ yX1_least cX1_least 1 (some .int))) := lw_V q124 q125 q126 q21 q127
theorem hdX1_machineOf {A : List Value} (h : (parseMethodDescriptor yX1_machineOf.desc).map (fun d => d.parameters.length) = some A.length) : yX1_machineOf.cls = RX1 ∧ yX1_machineOf.cls ≠ "java/lang/invoke/MethodHandle" ∧ yX1_machineOf.cls ≠ "java/lang/invoke/VarHandle" ∧ (parseMethodDescriptor yX1_machineOf.desc).map (fun d => d.parameters.length) = some A.length := ⟨by decide +kernel, by decide +kernel, by decide +kernel, h⟩
theorem LwX1_machineOf : GoodIn lw_all (wsV RX0 50 RX1 yX1_machineOf (ws_ yX1_machineOf cX1_machineOf 2 (some .int))) := lw_V q166 q167 q168 q21 q169
theorem hdX1_finishOf {A : List Value} (h : (parseMethodDescriptor yX1_finishOf.desc).map (fun d => d.parameters.length) = some A.length) : yX1_finishOf.cls = RX1 ∧ yX1_finishOf.cls ≠ "java/lang/invoke/MethodHandle" ∧ yX1_finishOf.cls ≠ "java/lang/invoke/VarHandle" ∧ (parseMethodDescriptor yX1_finishOf.desc).map (fun d => d.parameters.length) = some A.length := ⟨by decide +kernel, by decide +kernel, by decide +kernel, h⟩
theorem LwX1_finishOf : GoodIn lw_all (wsV RX0 55 RX1 yX1_finishOf (ws_ yX1_finishOf cX1_finishOf 8 (some .int))) := lw_V q170 q171 q172 q21 q173
theorem hdX1_leastWith {A : List Value} (h : (parseMethodDescriptor yX1_leastWith.desc).map (fun d => d.parameters.length) = some A.length) : yX1_leastWith.cls = RX1 ∧ yX1_leastWith.cls ≠ "java/lang/invoke/MethodHandle" ∧ yX1_leastWith.cls ≠ "java/lang/invoke/VarHandle" ∧ (parseMethodDescriptor yX1_leastWith.desc).map (fun d => d.parameters.length) = some A.length := ⟨by decide +kernel, by decide +kernel, by decide +kernel, h⟩
theorem LwX1_leastWith : GoodIn lw_all (wsV RX0 59 RX1 yX1_leastWith (ws_ yX1_leastWith cX1_leastWith 3 (some .int))) := lw_V q174 q175 q176 q21 q177
theorem hdX1_leastWithout {A : List Value} (h : (parseMethodDescriptor yX1_leastWithout.desc).map (fun d => d.parameters.length) = some A.length) : yX1_leastWithout.cls = RX1 ∧ yX1_leastWithout.cls ≠ "java/lang/invoke/MethodHandle" ∧ yX1_leastWithout.cls ≠ "java/lang/invoke/VarHandle" ∧ (parseMethodDescriptor yX1_leastWithout.desc).map (fun d => d.parameters.length) = some A.length := ⟨by decide +kernel, by decide +kernel, by decide +kernel, h⟩
theorem LwX1_leastWithout : GoodIn lw_all (wsV RX0 63 RX1 yX1_leastWithout (ws_ yX1_leastWithout cX1_leastWithout 2 (some .int))) := lw_V q178 q179 q180 q21 q181
theorem hdX1_leastDoubled {A : List Value} (h : (parseMethodDescriptor yX1_leastDoubled.desc).map (fun d => d.parameters.length) = some A.length) : yX1_leastDoubled.cls = RX1 ∧ yX1_leastDoubled.cls ≠ "java/lang/invoke/MethodHandle" ∧ yX1_leastDoubled.cls ≠ "java/lang/invoke/VarHandle" ∧ (parseMethodDescriptor yX1_leastDoubled.desc).map (fun d => d.parameters.length) = some A.length := ⟨by decide +kernel, by decide +kernel, by decide +kernel, h⟩
theorem LwX1_leastDoubled : GoodIn lw_all (wsV RX0 67 RX1 yX1_leastDoubled (ws_ yX1_leastDoubled cX1_leastDoubled 2 (some .int))) := lw_V q182 q183 q184 q21 q185
theorem hdX1_leastIdle {A : List Value} (h : (parseMethodDescriptor yX1_leastIdle.desc).map (fun d => d.parameters.length) = some A.length) : yX1_leastIdle.cls = RX1 ∧ yX1_leastIdle.cls ≠ "java/lang/invoke/MethodHandle" ∧ yX1_leastIdle.cls ≠ "java/lang/invoke/VarHandle" ∧ (parseMethodDescriptor yX1_leastIdle.desc).map (fun d => d.parameters.length) = some A.length := ⟨by decide +kernel, by decide +kernel, by decide +kernel, h⟩
theorem LwX1_leastIdle : GoodIn lw_all (wsV RX0 71 RX1 yX1_leastIdle (ws_ yX1_leastIdle cX1_leastIdle 3 (some .int))) := lw_V q186 q187 q188 q21 q189
theorem hdX1_mostJobs {A : List Value} (h : (parseMethodDescriptor yX1_mostJobs.desc).map (fun d => d.parameters.length) = some A.length) : yX1_mostJobs.cls = RX1 ∧ yX1_mostJobs.cls ≠ "java/lang/invoke/MethodHandle" ∧ yX1_mostJobs.cls ≠ "java/lang/invoke/VarHandle" ∧ (parseMethodDescriptor yX1_mostJobs.desc).map (fun d => d.parameters.length) = some A.length := ⟨by decide +kernel, by decide +kernel, by decide +kernel, h⟩
theorem LwX1_mostJobs : GoodIn lw_all (wsV RX0 75 RX1 yX1_mostJobs (ws_ yX1_mostJobs cX1_mostJobs 3 (some .int))) := lw_V q190 q191 q192 q21 q193
theorem hdX0_cell {A : List Value} (h : (parseMethodDescriptor yX0_cell.desc).map (fun d => d.parameters.length) = some A.length) : yX0_cell.cls ≠ "java/lang/invoke/MethodHandle" ∧ yX0_cell.cls ≠ "java/lang/invoke/VarHandle" ∧ (parseMethodDescriptor yX0_cell.desc).map (fun d => d.parameters.length) = some A.length := ⟨by decide +kernel, by decide +kernel, h⟩
theorem LwX0_cell : GoodIn lw_all (va_wsS RX0 9 yX0_cell (ws_ yX0_cell cX0_cell 2 (some .int))) := lw_S q194 q195 q20 q196
theorem hdX2_add {A : List Value} (h : (parseMethodDescriptor yX2_add.desc).map (fun d => d.parameters.length) = some A.length) : yX2_add.cls = RX2 ∧ yX2_add.cls ≠ "java/lang/invoke/MethodHandle" ∧ yX2_add.cls ≠ "java/lang/invoke/VarHandle" ∧ (parseMethodDescriptor yX2_add.desc).map (fun d => d.parameters.length) = some A.length := ⟨by decide +kernel, by decide +kernel, by decide +kernel, h⟩
theorem LwX2_add : GoodIn lw_all (wsV RX0 25 RX2 yX2_add (ws_ yX2_add cX2_add 8 (some .int))) := lw_V q225 q226 q227 q22 q228
theorem hdX2_remove {A : List Value} (h : (parseMethodDescriptor yX2_remove.desc).map (fun d => d.parameters.length) = some A.length) : yX2_remove.cls = RX2 ∧ yX2_remove.cls ≠ "java/lang/invoke/MethodHandle" ∧ yX2_remove.cls ≠ "java/lang/invoke/VarHandle" ∧ (parseMethodDescriptor yX2_remove.desc).map (fun d => d.parameters.length) = some A.length := ⟨by decide +kernel, by decide +kernel, by decide +kernel, h⟩
theorem LwX2_remove : GoodIn lw_all (wsV RX0 30 RX2 yX2_remove (ws_ yX2_remove cX2_remove 2 (some .boolean))) := lw_V q229 q230 q231 q22 q232
theorem hdX2_setTime {A : List Value} (h : (parseMethodDescriptor yX2_setTime.desc).map (fun d => d.parameters.length) = some A.length) : yX2_setTime.cls = RX2 ∧ yX2_setTime.cls ≠ "java/lang/invoke/MethodHandle" ∧ yX2_setTime.cls ≠ "java/lang/invoke/VarHandle" ∧ (parseMethodDescriptor yX2_setTime.desc).map (fun d => d.parameters.length) = some A.length := ⟨by decide +kernel, by decide +kernel, by decide +kernel, h⟩
theorem LwX2_setTime : GoodIn lw_all (wsV RX0 35 RX2 yX2_setTime (ws_ yX2_setTime cX2_setTime 5 (some .boolean))) := lw_V q237 q238 q239 q22 q240
theorem hdX2_jobs {A : List Value} (h : (parseMethodDescriptor yX2_jobs.desc).map (fun d => d.parameters.length) = some A.length) : yX2_jobs.cls = RX2 ∧ yX2_jobs.cls ≠ "java/lang/invoke/MethodHandle" ∧ yX2_jobs.cls ≠ "java/lang/invoke/VarHandle" ∧ (parseMethodDescriptor yX2_jobs.desc).map (fun d => d.parameters.length) = some A.length := ⟨by decide +kernel, by decide +kernel, by decide +kernel, h⟩
theorem LwX2_jobs : GoodIn lw_all (wsV RX0 40 RX2 yX2_jobs (ws_ yX2_jobs cX2_jobs 3 (some .int))) := lw_V q245 q246 q247 q22 q248
theorem hdX2_time {A : List Value} (h : (parseMethodDescriptor yX2_time.desc).map (fun d => d.parameters.length) = some A.length) : yX2_time.cls = RX2 ∧ yX2_time.cls ≠ "java/lang/invoke/MethodHandle" ∧ yX2_time.cls ≠ "java/lang/invoke/VarHandle" ∧ (parseMethodDescriptor yX2_time.desc).map (fun d => d.parameters.length) = some A.length := ⟨by decide +kernel, by decide +kernel, by decide +kernel, h⟩
theorem LwX2_time : GoodIn lw_all (wsV RX0 45 RX2 yX2_time (ws_ yX2_time cX2_time 3 (some .int))) := lw_V q249 q250 q251 q22 q252
theorem hdX2_least {A : List Value} (h : (parseMethodDescriptor yX2_least.desc).map (fun d => d.parameters.length) = some A.length) : yX2_least.cls = RX2 ∧ yX2_least.cls ≠ "java/lang/invoke/MethodHandle" ∧ yX2_least.cls ≠ "java/lang/invoke/VarHandle" ∧ (parseMethodDescriptor yX2_least.desc).map (fun d => d.parameters.length) = some A.length := ⟨by decide +kernel, by decide +kernel, by decide +kernel, h⟩
theorem LwX2_least : GoodIn lw_all (wsV RX0 49 RX2 yX2_least (ws_ yX2_least cX2_least 1 (some .int))) := lw_V q253 q254 q255 q22 q256
theorem hdX2_machineOf {A : List Value} (h : (parseMethodDescriptor yX2_machineOf.desc).map (fun d => d.parameters.length) = some A.length) : yX2_machineOf.cls = RX2 ∧ yX2_machineOf.cls ≠ "java/lang/invoke/MethodHandle" ∧ yX2_machineOf.cls ≠ "java/lang/invoke/VarHandle" ∧ (parseMethodDescriptor yX2_machineOf.desc).map (fun d => d.parameters.length) = some A.length := ⟨by decide +kernel, by decide +kernel, by decide +kernel, h⟩
theorem LwX2_machineOf : GoodIn lw_all (wsV RX0 54 RX2 yX2_machineOf (ws_ yX2_machineOf cX2_machineOf 2 (some .int))) := lw_V q277 q278 q279 q22 q280
theorem hdX2_finishOf {A : List Value} (h : (parseMethodDescriptor yX2_finishOf.desc).map (fun d => d.parameters.length) = some A.length) : yX2_finishOf.cls = RX2 ∧ yX2_finishOf.cls ≠ "java/lang/invoke/MethodHandle" ∧ yX2_finishOf.cls ≠ "java/lang/invoke/VarHandle" ∧ (parseMethodDescriptor yX2_finishOf.desc).map (fun d => d.parameters.length) = some A.length := ⟨by decide +kernel, by decide +kernel, by decide +kernel, h⟩
theorem LwX2_finishOf : GoodIn lw_all (wsV RX0 58 RX2 yX2_finishOf (ws_ yX2_finishOf cX2_finishOf 2 (some .int))) := lw_V q285 q286 q287 q22 q288
theorem hdX2_leastWith {A : List Value} (h : (parseMethodDescriptor yX2_leastWith.desc).map (fun d => d.parameters.length) = some A.length) : yX2_leastWith.cls = RX2 ∧ yX2_leastWith.cls ≠ "java/lang/invoke/MethodHandle" ∧ yX2_leastWith.cls ≠ "java/lang/invoke/VarHandle" ∧ (parseMethodDescriptor yX2_leastWith.desc).map (fun d => d.parameters.length) = some A.length := ⟨by decide +kernel, by decide +kernel, by decide +kernel, h⟩
theorem LwX2_leastWith : GoodIn lw_all (wsV RX0 62 RX2 yX2_leastWith (ws_ yX2_leastWith cX2_leastWith 3 (some .int))) := lw_V q289 q290 q291 q22 q292
theorem hdX2_leastWithout {A : List Value} (h : (parseMethodDescriptor yX2_leastWithout.desc).map (fun d => d.parameters.length) = some A.length) : yX2_leastWithout.cls = RX2 ∧ yX2_leastWithout.cls ≠ "java/lang/invoke/MethodHandle" ∧ yX2_leastWithout.cls ≠ "java/lang/invoke/VarHandle" ∧ (parseMethodDescriptor yX2_leastWithout.desc).map (fun d => d.parameters.length) = some A.length := ⟨by decide +kernel, by decide +kernel, by decide +kernel, h⟩
theorem LwX2_leastWithout : GoodIn lw_all (wsV RX0 66 RX2 yX2_leastWithout (ws_ yX2_leastWithout cX2_leastWithout 3 (some .int))) := lw_V q293 q294 q295 q22 q296
theorem hdX2_leastDoubled {A : List Value} (h : (parseMethodDescriptor yX2_leastDoubled.desc).map (fun d => d.parameters.length) = some A.length) : yX2_leastDoubled.cls = RX2 ∧ yX2_leastDoubled.cls ≠ "java/lang/invoke/MethodHandle" ∧ yX2_leastDoubled.cls ≠ "java/lang/invoke/VarHandle" ∧ (parseMethodDescriptor yX2_leastDoubled.desc).map (fun d => d.parameters.length) = some A.length := ⟨by decide +kernel, by decide +kernel, by decide +kernel, h⟩
theorem LwX2_leastDoubled : GoodIn lw_all (wsV RX0 70 RX2 yX2_leastDoubled (ws_ yX2_leastDoubled cX2_leastDoubled 3 (some .int))) := lw_V q297 q298 q299 q22 q300
theorem hdX2_leastIdle {A : List Value} (h : (parseMethodDescriptor yX2_leastIdle.desc).map (fun d => d.parameters.length) = some A.length) : yX2_leastIdle.cls = RX2 ∧ yX2_leastIdle.cls ≠ "java/lang/invoke/MethodHandle" ∧ yX2_leastIdle.cls ≠ "java/lang/invoke/VarHandle" ∧ (parseMethodDescriptor yX2_leastIdle.desc).map (fun d => d.parameters.length) = some A.length := ⟨by decide +kernel, by decide +kernel, by decide +kernel, h⟩
theorem LwX2_leastIdle : GoodIn lw_all (wsV RX0 74 RX2 yX2_leastIdle (ws_ yX2_leastIdle cX2_leastIdle 2 (some .int))) := lw_V q301 q302 q303 q22 q304
theorem hdX2_mostJobs {A : List Value} (h : (parseMethodDescriptor yX2_mostJobs.desc).map (fun d => d.parameters.length) = some A.length) : yX2_mostJobs.cls = RX2 ∧ yX2_mostJobs.cls ≠ "java/lang/invoke/MethodHandle" ∧ yX2_mostJobs.cls ≠ "java/lang/invoke/VarHandle" ∧ (parseMethodDescriptor yX2_mostJobs.desc).map (fun d => d.parameters.length) = some A.length := ⟨by decide +kernel, by decide +kernel, by decide +kernel, h⟩
theorem LwX2_mostJobs : GoodIn lw_all (wsV RX0 78 RX2 yX2_mostJobs (ws_ yX2_mostJobs cX2_mostJobs 7 (some .int))) := lw_V q305 q306 q307 q22 q308
theorem hdX1_isTime {A : List Value} (h : (parseMethodDescriptor yX1_isTime.desc).map (fun d => d.parameters.length) = some A.length) : yX1_isTime.cls ≠ "java/lang/invoke/MethodHandle" ∧ yX1_isTime.cls ≠ "java/lang/invoke/VarHandle" ∧ (parseMethodDescriptor yX1_isTime.desc).map (fun d => d.parameters.length) = some A.length := ⟨by decide +kernel, by decide +kernel, h⟩
theorem vwX1_isTime : GoodIn lw_all (va_wsS RX1 49 yX1_isTime (ws_ yX1_isTime cX1_isTime 1 (some .boolean))) := lw_S q93 q94 q21 q95
theorem hdX1_has {A : List Value} (h : (parseMethodDescriptor yX1_has.desc).map (fun d => d.parameters.length) = some A.length) : yX1_has.cls = RX1 ∧ yX1_has.cls ≠ "java/lang/invoke/MethodHandle" ∧ yX1_has.cls ≠ "java/lang/invoke/VarHandle" ∧ (parseMethodDescriptor yX1_has.desc).map (fun d => d.parameters.length) = some A.length := ⟨by decide +kernel, by decide +kernel, by decide +kernel, h⟩
theorem vwX1_has : GoodIn lw_all (wsV RX1 53 RX1 yX1_has (ws_ yX1_has cX1_has 2 (some .boolean))) := lw_V q96 q98 qs0 q21 q99
theorem hdX1_isMachine {A : List Value} (h : (parseMethodDescriptor yX1_isMachine.desc).map (fun d => d.parameters.length) = some A.length) : yX1_isMachine.cls = RX1 ∧ yX1_isMachine.cls ≠ "java/lang/invoke/MethodHandle" ∧ yX1_isMachine.cls ≠ "java/lang/invoke/VarHandle" ∧ (parseMethodDescriptor yX1_isMachine.desc).map (fun d => d.parameters.length) = some A.length := ⟨by decide +kernel, by decide +kernel, by decide +kernel, h⟩
theorem vwX1_isMachine : GoodIn lw_all (wsV RX1 60 RX1 yX1_isMachine (ws_ yX1_isMachine cX1_isMachine 2 (some .boolean))) := lw_V q108 q110 qs1 q21 q111
theorem hdX1_able {A : List Value} (h : (parseMethodDescriptor yX1_able.desc).map (fun d => d.parameters.length) = some A.length) : yX1_able.cls = RX1 ∧ yX1_able.cls ≠ "java/lang/invoke/MethodHandle" ∧ yX1_able.cls ≠ "java/lang/invoke/VarHandle" ∧ (parseMethodDescriptor yX1_able.desc).map (fun d => d.parameters.length) = some A.length := ⟨by decide +kernel, by decide +kernel, by decide +kernel, h⟩
theorem vwX1_able : GoodIn lw_all (wsV RX1 63 RX1 yX1_able (ws_ yX1_able cX1_able 4 (some .int))) := lw_V q112 q114 qs2 q21 q115
theorem hdX1_learn {A : List Value} (h : (parseMethodDescriptor yX1_learn.desc).map (fun d => d.parameters.length) = some A.length) : yX1_learn.cls = RX1 ∧ yX1_learn.cls ≠ "java/lang/invoke/MethodHandle" ∧ yX1_learn.cls ≠ "java/lang/invoke/VarHandle" ∧ (parseMethodDescriptor yX1_learn.desc).map (fun d => d.parameters.length) = some A.length := ⟨by decide +kernel, by decide +kernel, by decide +kernel, h⟩
theorem vwX1_learn : GoodIn lw_all (wsV RX1 110 RX1 yX1_learn (ws_ yX1_learn cX1_learn 2 none)) := lw_V q128 q130 qs3 q21 q131
theorem hdX1_askPlainly {A : List Value} (h : (parseMethodDescriptor yX1_askPlainly.desc).map (fun d => d.parameters.length) = some A.length) : yX1_askPlainly.cls = RX1 ∧ yX1_askPlainly.cls ≠ "java/lang/invoke/MethodHandle" ∧ yX1_askPlainly.cls ≠ "java/lang/invoke/VarHandle" ∧ (parseMethodDescriptor yX1_askPlainly.desc).map (fun d => d.parameters.length) = some A.length := ⟨by decide +kernel, by decide +kernel, by decide +kernel, h⟩
theorem vwX1_askPlainly : GoodIn lw_all (wsV RX1 98 RX1 yX1_askPlainly (ws_ yX1_askPlainly cX1_askPlainly 2 none)) := lw_V q132 q134 qs4 q21 q135
theorem hdX1_totalOf {A : List Value} (h : (parseMethodDescriptor yX1_totalOf.desc).map (fun d => d.parameters.length) = some A.length) : yX1_totalOf.cls = RX1 ∧ yX1_totalOf.cls ≠ "java/lang/invoke/MethodHandle" ∧ yX1_totalOf.cls ≠ "java/lang/invoke/VarHandle" ∧ (parseMethodDescriptor yX1_totalOf.desc).map (fun d => d.parameters.length) = some A.length := ⟨by decide +kernel, by decide +kernel, by decide +kernel, h⟩
theorem vwX1_totalOf : GoodIn lw_all (wsV RX1 101 RX1 yX1_totalOf (ws_ yX1_totalOf cX1_totalOf 3 (some .int))) := lw_V q136 q138 qs5 q21 q139
theorem hdX1_match {A : List Value} (h : (parseMethodDescriptor yX1_match.desc).map (fun d => d.parameters.length) = some A.length) : yX1_match.cls = RX1 ∧ yX1_match.cls ≠ "java/lang/invoke/MethodHandle" ∧ yX1_match.cls ≠ "java/lang/invoke/VarHandle" ∧ (parseMethodDescriptor yX1_match.desc).map (fun d => d.parameters.length) = some A.length := ⟨by decide +kernel, by decide +kernel, by decide +kernel, h⟩
theorem vwX1_match : GoodIn lw_all (wsV RX1 95 RX1 yX1_match (ws_ yX1_match cX1_match 4 (some .int))) := lw_V q140 q142 qs6 q21 q143
theorem hdX1_insert {A : List Value} (h : (parseMethodDescriptor yX1_insert.desc).map (fun d => d.parameters.length) = some A.length) : yX1_insert.cls = RX1 ∧ yX1_insert.cls ≠ "java/lang/invoke/MethodHandle" ∧ yX1_insert.cls ≠ "java/lang/invoke/VarHandle" ∧ (parseMethodDescriptor yX1_insert.desc).map (fun d => d.parameters.length) = some A.length := ⟨by decide +kernel, by decide +kernel, by decide +kernel, h⟩
theorem vwX1_insert : GoodIn lw_all (wsV RX1 83 RX1 yX1_insert (ws_ yX1_insert cX1_insert 5 none)) := lw_V q144 q146 qs7 q21 q147
theorem hdX1_advance {A : List Value} (h : (parseMethodDescriptor yX1_advance.desc).map (fun d => d.parameters.length) = some A.length) : yX1_advance.cls = RX1 ∧ yX1_advance.cls ≠ "java/lang/invoke/MethodHandle" ∧ yX1_advance.cls ≠ "java/lang/invoke/VarHandle" ∧ (parseMethodDescriptor yX1_advance.desc).map (fun d => d.parameters.length) = some A.length := ⟨by decide +kernel, by decide +kernel, by decide +kernel, h⟩
theorem vwX1_advance : GoodIn lw_all (wsV RX1 92 RX1 yX1_advance (ws_ yX1_advance cX1_advance 7 (some .int))) := lw_V q149 q151 qs8 q21 q152
theorem hdX1_costOf {A : List Value} (h : (parseMethodDescriptor yX1_costOf.desc).map (fun d => d.parameters.length) = some A.length) : yX1_costOf.cls = RX1 ∧ yX1_costOf.cls ≠ "java/lang/invoke/MethodHandle" ∧ yX1_costOf.cls ≠ "java/lang/invoke/VarHandle" ∧ (parseMethodDescriptor yX1_costOf.desc).map (fun d => d.parameters.length) = some A.length := ⟨by decide +kernel, by decide +kernel, by decide +kernel, h⟩
theorem vwX1_costOf : GoodIn lw_all (wsV RX1 87 RX1 yX1_costOf (ws_ yX1_costOf cX1_costOf 7 (some .int))) := lw_V q153 q155 qs9 q21 q156
theorem hdX1_machineAt {A : List Value} (h : (parseMethodDescriptor yX1_machineAt.desc).map (fun d => d.parameters.length) = some A.length) : yX1_machineAt.cls = RX1 ∧ yX1_machineAt.cls ≠ "java/lang/invoke/MethodHandle" ∧ yX1_machineAt.cls ≠ "java/lang/invoke/VarHandle" ∧ (parseMethodDescriptor yX1_machineAt.desc).map (fun d => d.parameters.length) = some A.length := ⟨by decide +kernel, by decide +kernel, by decide +kernel, h⟩
theorem vwX1_machineAt : GoodIn lw_all (wsV RX1 73 RX1 yX1_machineAt (ws_ yX1_machineAt cX1_machineAt 3 (some .int))) := lw_V q157 q159 qs10 q21 q160
theorem hdX1_firstMachine {A : List Value} (h : (parseMethodDescriptor yX1_firstMachine.desc).map (fun d => d.parameters.length) = some A.length) : yX1_firstMachine.cls = RX1 ∧ yX1_firstMachine.cls ≠ "java/lang/invoke/MethodHandle" ∧ yX1_firstMachine.cls ≠ "java/lang/invoke/VarHandle" ∧ (parseMethodDescriptor yX1_firstMachine.desc).map (fun d => d.parameters.length) = some A.length := ⟨by decide +kernel, by decide +kernel, by decide +kernel, h⟩
theorem vwX1_firstMachine : GoodIn lw_all (wsV RX1 107 RX1 yX1_firstMachine (ws_ yX1_firstMachine cX1_firstMachine 5 (some .int))) := lw_V q162 q164 qs11 q21 q165
theorem hdX2_is {A : List Value} (h : (parseMethodDescriptor yX2_is.desc).map (fun d => d.parameters.length) = some A.length) : yX2_is.cls = RX2 ∧ yX2_is.cls ≠ "java/lang/invoke/MethodHandle" ∧ yX2_is.cls ≠ "java/lang/invoke/VarHandle" ∧ (parseMethodDescriptor yX2_is.desc).map (fun d => d.parameters.length) = some A.length := ⟨by decide +kernel, by decide +kernel, by decide +kernel, h⟩
theorem vwX2_is : GoodIn lw_all (wsV RX2 24 RX2 yX2_is (ws_ yX2_is cX2_is 2 (some .boolean))) := lw_V q233 q235 qs12 q22 q236
theorem hdX2_machine {A : List Value} (h : (parseMethodDescriptor yX2_machine.desc).map (fun d => d.parameters.length) = some A.length) : yX2_machine.cls = RX2 ∧ yX2_machine.cls ≠ "java/lang/invoke/MethodHandle" ∧ yX2_machine.cls ≠ "java/lang/invoke/VarHandle" ∧ (parseMethodDescriptor yX2_machine.desc).map (fun d => d.parameters.length) = some A.length := ⟨by decide +kernel, by decide +kernel, by decide +kernel, h⟩
theorem vwX2_machine : GoodIn lw_all (wsV RX2 28 RX2 yX2_machine (ws_ yX2_machine cX2_machine 2 (some .boolean))) := lw_V q241 q243 qs13 q22 q244
theorem hdX2_all {A : List Value} (h : (parseMethodDescriptor yX2_all.desc).map (fun d => d.parameters.length) = some A.length) : yX2_all.cls = RX2 ∧ yX2_all.cls ≠ "java/lang/invoke/MethodHandle" ∧ yX2_all.cls ≠ "java/lang/invoke/VarHandle" ∧ (parseMethodDescriptor yX2_all.desc).map (fun d => d.parameters.length) = some A.length := ⟨by decide +kernel, by decide +kernel, by decide +kernel, h⟩
theorem vwX2_all : GoodIn lw_all (wsV RX2 51 RX2 yX2_all (ws_ yX2_all cX2_all 1 (some .int))) := lw_V q257 q259 qs14 q22 q260
theorem hdX2_leastOf {A : List Value} (h : (parseMethodDescriptor yX2_leastOf.desc).map (fun d => d.parameters.length) = some A.length) : yX2_leastOf.cls = RX2 ∧ yX2_leastOf.cls ≠ "java/lang/invoke/MethodHandle" ∧ yX2_leastOf.cls ≠ "java/lang/invoke/VarHandle" ∧ (parseMethodDescriptor yX2_leastOf.desc).map (fun d => d.parameters.length) = some A.length := ⟨by decide +kernel, by decide +kernel, by decide +kernel, h⟩
theorem vwX2_leastOf : GoodIn lw_all (wsV RX2 54 RX2 yX2_leastOf (ws_ yX2_leastOf cX2_leastOf 7 (some .int))) := lw_V q261 q263 qs15 q22 q264
theorem hdX2_way {A : List Value} (h : (parseMethodDescriptor yX2_way.desc).map (fun d => d.parameters.length) = some A.length) : yX2_way.cls = RX2 ∧ yX2_way.cls ≠ "java/lang/invoke/MethodHandle" ∧ yX2_way.cls ≠ "java/lang/invoke/VarHandle" ∧ (parseMethodDescriptor yX2_way.desc).map (fun d => d.parameters.length) = some A.length := ⟨by decide +kernel, by decide +kernel, by decide +kernel, h⟩
theorem vwX2_way : GoodIn lw_all (wsV RX2 44 RX2 yX2_way (ws_ yX2_way cX2_way 5 (some .boolean))) := lw_V q265 q267 qs16 q22 q268
theorem hdX2_sum {A : List Value} (h : (parseMethodDescriptor yX2_sum.desc).map (fun d => d.parameters.length) = some A.length) : yX2_sum.cls = RX2 ∧ yX2_sum.cls ≠ "java/lang/invoke/MethodHandle" ∧ yX2_sum.cls ≠ "java/lang/invoke/VarHandle" ∧ (parseMethodDescriptor yX2_sum.desc).map (fun d => d.parameters.length) = some A.length := ⟨by decide +kernel, by decide +kernel, by decide +kernel, h⟩
theorem vwX2_sum : GoodIn lw_all (wsV RX2 47 RX2 yX2_sum (ws_ yX2_sum cX2_sum 3 (some .int))) := lw_V q269 q271 qs17 q22 q272
theorem hdX2_finish {A : List Value} (h : (parseMethodDescriptor yX2_finish.desc).map (fun d => d.parameters.length) = some A.length) : yX2_finish.cls = RX2 ∧ yX2_finish.cls ≠ "java/lang/invoke/MethodHandle" ∧ yX2_finish.cls ≠ "java/lang/invoke/VarHandle" ∧ (parseMethodDescriptor yX2_finish.desc).map (fun d => d.parameters.length) = some A.length := ⟨by decide +kernel, by decide +kernel, by decide +kernel, h⟩
theorem vwX2_finish : GoodIn lw_all (wsV RX2 40 RX2 yX2_finish (ws_ yX2_finish cX2_finish 7 (some .int))) := lw_V q273 q275 qs18 q22 q276
theorem hdX2_plan {A : List Value} (h : (parseMethodDescriptor yX2_plan.desc).map (fun d => d.parameters.length) = some A.length) : yX2_plan.cls = RX2 ∧ yX2_plan.cls ≠ "java/lang/invoke/MethodHandle" ∧ yX2_plan.cls ≠ "java/lang/invoke/VarHandle" ∧ (parseMethodDescriptor yX2_plan.desc).map (fun d => d.parameters.length) = some A.length := ⟨by decide +kernel, by decide +kernel, by decide +kernel, h⟩
theorem vwX2_plan : GoodIn lw_all (wsV RX2 58 RX2 yX2_plan (ws_ yX2_plan cX2_plan 3 none)) := lw_V q281 q283 qs19 q22 q284
theorem npJ0_init : (parseMethodDescriptor yJ0_init.desc).map (fun d => d.parameters.length) = some 0 := by decide +kernel
theorem npX0_cell : (parseMethodDescriptor yX0_cell.desc).map (fun d => d.parameters.length) = some 2 := by decide +kernel
theorem npX1_init : (parseMethodDescriptor yX1_init.desc).map (fun d => d.parameters.length) = some 1 := by decide +kernel
theorem npX1_add : (parseMethodDescriptor yX1_add.desc).map (fun d => d.parameters.length) = some 3 := by decide +kernel
theorem npX1_isTime : (parseMethodDescriptor yX1_isTime.desc).map (fun d => d.parameters.length) = some 1 := by decide +kernel
theorem npX1_has : (parseMethodDescriptor yX1_has.desc).map (fun d => d.parameters.length) = some 1 := by decide +kernel
theorem npX1_remove : (parseMethodDescriptor yX1_remove.desc).map (fun d => d.parameters.length) = some 1 := by decide +kernel
theorem npX1_setTime : (parseMethodDescriptor yX1_setTime.desc).map (fun d => d.parameters.length) = some 3 := by decide +kernel
theorem npX1_isMachine : (parseMethodDescriptor yX1_isMachine.desc).map (fun d => d.parameters.length) = some 1 := by decide +kernel
theorem npX1_able : (parseMethodDescriptor yX1_able.desc).map (fun d => d.parameters.length) = some 1 := by decide +kernel
theorem npX1_jobs : (parseMethodDescriptor yX1_jobs.desc).map (fun d => d.parameters.length) = some 0 := by decide +kernel
theorem npX1_time : (parseMethodDescriptor yX1_time.desc).map (fun d => d.parameters.length) = some 2 := by decide +kernel
theorem npX1_least : (parseMethodDescriptor yX1_least.desc).map (fun d => d.parameters.length) = some 0 := by decide +kernel
theorem npX1_learn : (parseMethodDescriptor yX1_learn.desc).map (fun d => d.parameters.length) = some 0 := by decide +kernel
theorem npX1_askPlainly : (parseMethodDescriptor yX1_askPlainly.desc).map (fun d => d.parameters.length) = some 0 := by decide +kernel
theorem npX1_totalOf : (parseMethodDescriptor yX1_totalOf.desc).map (fun d => d.parameters.length) = some 1 := by decide +kernel
theorem npX1_match : (parseMethodDescriptor yX1_match.desc).map (fun d => d.parameters.length) = some 1 := by decide +kernel
theorem npX1_insert : (parseMethodDescriptor yX1_insert.desc).map (fun d => d.parameters.length) = some 1 := by decide +kernel
theorem npX1_advance : (parseMethodDescriptor yX1_advance.desc).map (fun d => d.parameters.length) = some 1 := by decide +kernel
theorem npX1_costOf : (parseMethodDescriptor yX1_costOf.desc).map (fun d => d.parameters.length) = some 2 := by decide +kernel
theorem npX1_machineAt : (parseMethodDescriptor yX1_machineAt.desc).map (fun d => d.parameters.length) = some 1 := by decide +kernel
theorem npX1_firstMachine : (parseMethodDescriptor yX1_firstMachine.desc).map (fun d => d.parameters.length) = some 1 := by decide +kernel
theorem npX1_machineOf : (parseMethodDescriptor yX1_machineOf.desc).map (fun d => d.parameters.length) = some 1 := by decide +kernel
theorem npX1_finishOf : (parseMethodDescriptor yX1_finishOf.desc).map (fun d => d.parameters.length) = some 1 := by decide +kernel
theorem npX1_leastWith : (parseMethodDescriptor yX1_leastWith.desc).map (fun d => d.parameters.length) = some 2 := by decide +kernel
theorem npX1_leastWithout : (parseMethodDescriptor yX1_leastWithout.desc).map (fun d => d.parameters.length) = some 1 := by decide +kernel
theorem npX1_leastDoubled : (parseMethodDescriptor yX1_leastDoubled.desc).map (fun d => d.parameters.length) = some 1 := by decide +kernel
theorem npX1_leastIdle : (parseMethodDescriptor yX1_leastIdle.desc).map (fun d => d.parameters.length) = some 1 := by decide +kernel
theorem npX1_mostJobs : (parseMethodDescriptor yX1_mostJobs.desc).map (fun d => d.parameters.length) = some 1 := by decide +kernel
theorem npX2_init : (parseMethodDescriptor yX2_init.desc).map (fun d => d.parameters.length) = some 1 := by decide +kernel
theorem npX2_add : (parseMethodDescriptor yX2_add.desc).map (fun d => d.parameters.length) = some 3 := by decide +kernel
theorem npX2_remove : (parseMethodDescriptor yX2_remove.desc).map (fun d => d.parameters.length) = some 1 := by decide +kernel
theorem npX2_is : (parseMethodDescriptor yX2_is.desc).map (fun d => d.parameters.length) = some 1 := by decide +kernel
theorem npX2_setTime : (parseMethodDescriptor yX2_setTime.desc).map (fun d => d.parameters.length) = some 3 := by decide +kernel
theorem npX2_machine : (parseMethodDescriptor yX2_machine.desc).map (fun d => d.parameters.length) = some 1 := by decide +kernel
theorem npX2_jobs : (parseMethodDescriptor yX2_jobs.desc).map (fun d => d.parameters.length) = some 0 := by decide +kernel
theorem npX2_time : (parseMethodDescriptor yX2_time.desc).map (fun d => d.parameters.length) = some 2 := by decide +kernel
theorem npX2_least : (parseMethodDescriptor yX2_least.desc).map (fun d => d.parameters.length) = some 0 := by decide +kernel
theorem npX2_all : (parseMethodDescriptor yX2_all.desc).map (fun d => d.parameters.length) = some 0 := by decide +kernel
theorem npX2_leastOf : (parseMethodDescriptor yX2_leastOf.desc).map (fun d => d.parameters.length) = some 3 := by decide +kernel
theorem npX2_way : (parseMethodDescriptor yX2_way.desc).map (fun d => d.parameters.length) = some 1 := by decide +kernel
theorem npX2_sum : (parseMethodDescriptor yX2_sum.desc).map (fun d => d.parameters.length) = some 0 := by decide +kernel
theorem npX2_finish : (parseMethodDescriptor yX2_finish.desc).map (fun d => d.parameters.length) = some 1 := by decide +kernel
theorem npX2_machineOf : (parseMethodDescriptor yX2_machineOf.desc).map (fun d => d.parameters.length) = some 1 := by decide +kernel
theorem npX2_plan : (parseMethodDescriptor yX2_plan.desc).map (fun d => d.parameters.length) = some 0 := by decide +kernel
theorem npX2_finishOf : (parseMethodDescriptor yX2_finishOf.desc).map (fun d => d.parameters.length) = some 1 := by decide +kernel
theorem npX2_leastWith : (parseMethodDescriptor yX2_leastWith.desc).map (fun d => d.parameters.length) = some 2 := by decide +kernel
theorem npX2_leastWithout : (parseMethodDescriptor yX2_leastWithout.desc).map (fun d => d.parameters.length) = some 1 := by decide +kernel
theorem npX2_leastDoubled : (parseMethodDescriptor yX2_leastDoubled.desc).map (fun d => d.parameters.length) = some 1 := by decide +kernel
theorem npX2_leastIdle : (parseMethodDescriptor yX2_leastIdle.desc).map (fun d => d.parameters.length) = some 1 := by decide +kernel
theorem npX2_mostJobs : (parseMethodDescriptor yX2_mostJobs.desc).map (fun d => d.parameters.length) = some 1 := by decide +kernel
end
end
section
/-! DESK, leaves: has, isMachine, isTime, able, askPlainly, jobs, time -/
section
set_option maxRecDepth 100000
variable {h : Nat} {q : Nat → Nat} {kA : Nat → ClassId} {d : DS}
set_option maxHeartbeats 4000000 in
/-- has(j): j is a job's number, and that job is present -/
theorem ct_has {P : Int → Bool} {j : Int} (hp : d 1 0 = ms P) (hj : -2147483648 ≤ j ∧ j ≤ 2147483647) : Ct yX1_has cX1_has 2 (some .boolean) 0 (TyX kA) (WX h q kA d) (fun _ : Unit => WX h q kA d) [.ref h, .int (iI j)] (fun z _ => bz z (0 ≤ j ∧ j < 5 ∧ P j = true)) := by
  refine ct_bool (by decide) rfl (Nat.le_of_ble_eq_true rfl) (fun X hX hR => ?_)
  refine g_iload_n hX dX1_has_0 rfl ?_
  refine g_if_lt (tgt := 24) hX dX1_has_1 (by decide) (by omega) (fun c_1 => ?_) (fun c_1 => ?_)
  · refine g_iconst hX dX1_has_24 ?_
    exact hR _ () _ _ dX1_has_25 (by omega) (bz_f (by omega))
  · refine g_iload_n hX dX1_has_4 rfl ?_
    refine g_iconst hX dX1_has_5 ?_
    refine g_icmp_ge (tgt := 24) hX dX1_has_6 (by decide) (by omega) (by omega) (fun c_6 => ?_) (fun c_6 => ?_)
    · refine g_iconst hX dX1_has_24 ?_
      exact hR _ () _ _ dX1_has_25 (by omega) (bz_f (by omega))
    · refine g_aload_n hX dX1_has_9 rfl ?_
      refine gx_present hX dX1_has_10 ?_
      refine g_iload_n hX dX1_has_13 rfl ?_
      refine g_ishr hX dX1_has_14 ?_
      refine g_iconst hX dX1_has_15 ?_
      refine g_iand hX dX1_has_16 ?_
      refine g_int (z := if P j then 1 else 0) (by rw [hp, ms_bit P (by omega) (by omega)]) ?_
      cases hb : P j with
      | false =>
        refine g_z (z' := 0) (by simp) ?_
        refine g_if_eq (tgt := 24) hX dX1_has_17 (by decide) (by omega) (fun c_17 => ?_) (fun c_17 => absurd c_17 (by omega))
        refine g_iconst hX dX1_has_24 ?_
        exact hR _ () _ _ dX1_has_25 (by omega) (bz_f (by rw [hb]; simp))
      | true =>
        refine g_z (z' := 1) (by simp) ?_
        refine g_if_eq (tgt := 24) hX dX1_has_17 (by decide) (by omega) (fun c_17 => absurd c_17 (by omega)) (fun c_17 => ?_)
        refine g_iconst hX dX1_has_20 ?_
        refine g_goto (tgt := 25) hX dX1_has_21 (by decide) ?_
        exact hR _ () _ _ dX1_has_25 (by omega) (bz_t ⟨by omega, by omega, hb⟩)
set_option maxHeartbeats 4000000 in
theorem ct_isMachine {m : Int} (hn : 1 ≤ d 0 0 ∧ d 0 0 ≤ 3) (hm : -2147483648 ≤ m ∧ m ≤ 2147483647) : Ct yX1_isMachine cX1_isMachine 2 (some .boolean) 0 (TyX kA) (WX h q kA d) (fun _ : Unit => WX h q kA d) [.ref h, .int (iI m)] (fun z _ => bz z (0 ≤ m ∧ m < d 0 0)) := by
  refine ct_bool (by decide) rfl (Nat.le_of_ble_eq_true rfl) (fun X hX hR => ?_)
  refine g_iload_n hX dX1_isMachine_0 rfl ?_
  refine g_if_lt (tgt := 16) hX dX1_isMachine_1 (by decide) (by omega) (fun c_1 => ?_) (fun c_1 => ?_)
  · refine g_iconst hX dX1_isMachine_16 ?_
    exact hR _ () _ _ dX1_isMachine_17 (by omega) (bz_f (by omega))
  · refine g_iload_n hX dX1_isMachine_4 rfl ?_
    refine g_aload_n hX dX1_isMachine_5 rfl ?_
    refine gx_machines hX dX1_isMachine_6 ?_
    refine g_icmp_ge (tgt := 16) hX dX1_isMachine_9 (by decide) (by omega) (by omega) (fun c_9 => ?_) (fun c_9 => ?_)
    · refine g_iconst hX dX1_isMachine_16 ?_
      exact hR _ () _ _ dX1_isMachine_17 (by omega) (bz_f (by omega))
    · refine g_iconst hX dX1_isMachine_12 ?_
      refine g_goto (tgt := 17) hX dX1_isMachine_13 (by decide) ?_
      exact hR _ () _ _ dX1_isMachine_17 (by omega) (bz_t (by omega))
set_option maxHeartbeats 4000000 in
theorem ct_isTime {t : Int} (ht : -2147483648 ≤ t ∧ t ≤ 2147483647) : Ct yX1_isTime cX1_isTime 1 (some .boolean) 0 [] [] (fun _ : Unit => []) [.int (iI t)] (fun z _ => bz z (0 ≤ t ∧ t ≤ 15)) := by
  refine ct_bool (by decide) rfl (Nat.le_of_ble_eq_true rfl) (fun X hX hR => ?_)
  refine g_iload_n hX dX1_isTime_0 rfl ?_
  refine g_if_lt (tgt := 14) hX dX1_isTime_1 (by decide) (by omega) (fun c_1 => ?_) (fun c_1 => ?_)
  · refine g_iconst hX dX1_isTime_14 ?_
    exact hR _ () _ _ dX1_isTime_15 (by omega) (bz_f (by omega))
  · refine g_iload_n hX dX1_isTime_4 rfl ?_
    refine g_bipush hX dX1_isTime_5 (by decide) ?_
    refine g_icmp_gt (tgt := 14) hX dX1_isTime_7 (by decide) (by omega) (by omega) (fun c_7 => ?_) (fun c_7 => ?_)
    · refine g_iconst hX dX1_isTime_14 ?_
      exact hR _ () _ _ dX1_isTime_15 (by omega) (bz_f (by omega))
    · refine g_iconst hX dX1_isTime_10 ?_
      refine g_goto (tgt := 15) hX dX1_isTime_11 (by decide) ?_
      exact hR _ () _ _ dX1_isTime_15 (by omega) (bz_t (by omega))
/-- what every method of the desk may lean on: the number of machines, the times -/
def DT (d : DS) : Prop := (1 ≤ d 0 0 ∧ d 0 0 ≤ 3) ∧ ∀ z, 0 ≤ z → z < 15 → 0 ≤ d 2 z ∧ d 2 z ≤ 15
/-- the machines that can do job j -/
def ab (d : DS) (j : Int) : Int → Bool := fun m => decide (0 ≤ m ∧ m < d 0 0 ∧ 0 < d 2 (j * 3 + m))
variable {X : Cx}
set_option maxHeartbeats 4000000 in
theorem able_loop (hX : Ok X cX1_able 4 0 RX1 (TyX kA)) {j : Int} (hd : DT d) (hj : 0 ≤ j ∧ j < 5) (K : ∀ lv : List (Option Value), G X 4 (WX h q kA d) lv 38 [.int (iI (ms (ab d j)))]) : ∀ (n : Nat) (m : Int), 0 ≤ m → m ≤ d 0 0 → d 0 0 - m < n → G X 4 (WX h q kA d) [some (.ref h), some (.int (iI j)), some (.int (iI (ms (fun i => ab d j i && decide (i < m))))), some (.int (iI m))] 4 [] := by
  intro n
  induction n with
  | zero => intro m h0 h1 h2; omega
  | succ n ih =>
    intro m h0 h1 h2
    have hn := hd.1
    refine g_iload_n hX dX1_able_4 rfl ?_
    refine g_aload_n hX dX1_able_5 rfl ?_
    refine gx_machines hX dX1_able_6 ?_
    refine g_icmp_ge (tgt := 37) hX dX1_able_9 (by decide) (by omega) (by omega) (fun c_9 => ?_) (fun c_9 => ?_)
    · refine g_iload_n hX dX1_able_37 rfl ?_
      have e : ms (fun i => ab d j i && decide (i < m)) = ms (ab d j) := by
        refine ms_congr (fun i _ _ => ?_)
        unfold ab
        by_cases c : i < m
        · simp [c]
        · have : ¬ i < d 0 0 := by omega
          simp [this]
      rw [e]
      exact K _
    · have ht := hd.2 (j * 3 + m) (by omega) (by omega)
      refine g_aload_n hX dX1_able_12 rfl ?_
      refine gx_times hX dX1_able_13 ?_
      refine g_iload_n hX dX1_able_16 rfl ?_
      refine g_iconst hX dX1_able_17 ?_
      refine g_imul hX dX1_able_18 ?_
      refine g_iload_n hX dX1_able_19 rfl ?_
      refine g_iadd hX dX1_able_20 ?_
      refine lx_times hX dX1_able_21 (by omega) ?_
      refine g_if_le (tgt := 31) hX dX1_able_22 (by decide) (by omega) (fun c_22 => ?_) (fun c_22 => ?_)
      · refine g_iinc hX dX1_able_31 rfl (by decide) ?_
        refine g_goto (tgt := 4) hX dX1_able_34 (by decide) ?_
        have e : ms (fun i => ab d j i && decide (i < m)) = ms (fun i => ab d j i && decide (i < m + 1)) := by
          refine ms_congr (fun i _ _ => ?_)
          unfold ab
          by_cases c : i = m
          · subst c
            have : ¬ 0 < d 2 (j * 3 + i) := by omega
            simp [this]
          · have : i < m ↔ i < m + 1 := by omega
            simp [this]
        rw [e]
        exact ih (m + 1) (by omega) (by omega) (by omega)
      · refine g_iload_n hX dX1_able_25 rfl ?_
        refine g_iconst hX dX1_able_26 ?_
        refine g_iload_n hX dX1_able_27 rfl ?_
        refine g_ishl hX dX1_able_28 ?_
        refine g_ior hX dX1_able_29 ?_
        have e : iI (ms (fun i => ab d j i && decide (i < m))) ||| iI 1 <<< (iI m &&& 31) = iI (ms (fun i => ab d j i && decide (i < m + 1))) := by
          rw [ms_one h0 (by omega), ms_or]
          congr 1
          refine ms_congr (fun i hi0 _ => ?_)
          unfold ab
          by_cases c : i = m
          · subst c
            have h1 : i < d 0 0 := by omega
            have h3 : 0 < d 2 (j * 3 + i) := by omega
            simp [h1, h3, hi0]
            omega
          · have : i < m ↔ i < m + 1 := by omega
            simp [this, c]
        refine g_int e ?_
        refine g_istore_n hX dX1_able_30 (by decide) ?_
        refine g_iinc hX dX1_able_31 rfl (by decide) ?_
        refine g_goto (tgt := 4) hX dX1_able_34 (by decide) ?_
        exact ih (m + 1) (by omega) (by omega) (by omega)
set_option maxHeartbeats 4000000 in
/-- able(j): the mask of the machines that can do j -/
theorem ct_able {j : Int} (hd : DT d) (hj : 0 ≤ j ∧ j < 5) : Ct yX1_able cX1_able 4 (some .int) 0 (TyX kA) (WX h q kA d) (fun _ : Unit => WX h q kA d) [.ref h, .int (iI j)] (fun z _ => z = ms (ab d j)) := by
  refine ct_int (by decide) rfl (Nat.le_of_ble_eq_true rfl) (fun X hX hR => ?_)
  refine g_iconst hX dX1_able_0 ?_
  refine g_istore_n hX dX1_able_1 (by decide) ?_
  refine g_iconst hX dX1_able_2 ?_
  refine g_istore_n hX dX1_able_3 (by decide) ?_
  have e : (0 : Int) = ms (fun i => ab d j i && decide (i < 0)) := by
    refine (ms_0.mpr (fun i h0 _ => ?_)).symm
    have : ¬ i < 0 := by omega
    simp [this]
  have L := able_loop hX hd hj (fun lv => hR _ () lv 38 dX1_able_38 rfl) 10 0 (by omega) (by have := hd.1; omega) (by have := hd.1; omega)
  rw [← e] at L
  exact L
set_option maxHeartbeats 4000000 in
theorem ct_jobs : Ct yX1_jobs cX1_jobs 1 (some .int) 0 (TyX kA) (WX h q kA d) (fun _ : Unit => WX h q kA d) [.ref h] (fun z _ => z = d 1 0) := by
  refine ct_int (by decide) rfl (Nat.le_of_ble_eq_true rfl) (fun X hX hR => ?_)
  refine g_aload_n hX dX1_jobs_0 rfl ?_
  refine gx_present hX dX1_jobs_1 ?_
  exact hR _ () _ _ dX1_jobs_4 rfl
end
end
section
/-! DESK: askPlainly, time, add, remove, setTime -/
section
set_option maxRecDepth 100000
variable {h : Nat} {q : Nat → Nat} {kA : Nat → ClassId} {d : DS} {X : Cx}
set_option maxHeartbeats 4000000 in
theorem ct_time {P : Int → Bool} {j m : Int} (hd : DT d) (hp : d 1 0 = ms P) (hj : -2147483648 ≤ j ∧ j ≤ 2147483647) (hm : -2147483648 ≤ m ∧ m ≤ 2147483647) : Ct yX1_time cX1_time 3 (some .int) 1 (TyX kA) (WX h q kA d) (fun _ : Unit => WX h q kA d) [.ref h, .int (iI j), .int (iI m)] (fun z _ => (0 ≤ j ∧ j < 5 ∧ P j = true) ∧ (0 ≤ m ∧ m < d 0 0) ∧ z = d 2 (j * 3 + m) ∨ ¬ ((0 ≤ j ∧ j < 5 ∧ P j = true) ∧ (0 ≤ m ∧ m < d 0 0)) ∧ z = -1) := by
  refine ct_int (by decide) rfl (Nat.le_of_ble_eq_true rfl) (fun X hX hR => ?_)
  have hn := hd.1
  refine g_aload_n hX dX1_time_0 rfl ?_
  refine g_iload_n hX dX1_time_1 rfl ?_
  refine g_call hX (ct_has hp hj) (by decide) (by decide) vwX1_has (hdX1_has npX1_has) (ci := 0) rfl rfl rfl rfl (Nat.le_of_ble_eq_true rfl) dX1_time_2 (fun z _ hz => ?_)
  refine g_if_eq (tgt := 29) hX dX1_time_5 (by decide) (hz.r) (fun c_5 => ?_) (fun c_5 => ?_)
  · refine g_iconst hX dX1_time_29 ?_
    exact hR _ () _ _ dX1_time_30 (Or.inr ⟨fun a => hz.no c_5 a.1, rfl⟩)
  · have a1 := hz.yes c_5
    refine g_aload_n hX dX1_time_8 rfl ?_
    refine g_iload_n hX dX1_time_9 rfl ?_
    refine g_call hX (ct_isMachine hn hm) (by decide) (by decide) vwX1_isMachine (hdX1_isMachine npX1_isMachine) (ci := 0) rfl rfl rfl rfl (Nat.le_of_ble_eq_true rfl) dX1_time_10 (fun z2 _ hz2 => ?_)
    refine g_if_eq (tgt := 29) hX dX1_time_13 (by decide) (hz2.r) (fun c_13 => ?_) (fun c_13 => ?_)
    · refine g_iconst hX dX1_time_29 ?_
      exact hR _ () _ _ dX1_time_30 (Or.inr ⟨fun a => hz2.no c_13 a.2, rfl⟩)
    · have a2 := hz2.yes c_13
      refine g_aload_n hX dX1_time_16 rfl ?_
      refine gx_times hX dX1_time_17 ?_
      refine g_iload_n hX dX1_time_20 rfl ?_
      refine g_iconst hX dX1_time_21 ?_
      refine g_imul hX dX1_time_22 ?_
      refine g_iload_n hX dX1_time_23 rfl ?_
      refine g_iadd hX dX1_time_24 ?_
      refine lx_times hX dX1_time_25 (by omega) ?_
      refine g_goto (tgt := 30) hX dX1_time_26 (by decide) ?_
      exact hR _ () _ _ dX1_time_30 (Or.inl ⟨a1, a2, rfl⟩)
set_option maxHeartbeats 4000000 in
theorem ct_remove {P : Int → Bool} {j : Int} (hp : d 1 0 = ms P) (hj : -2147483648 ≤ j ∧ j ≤ 2147483647) : Ct yX1_remove cX1_remove 2 (some .boolean) 1 (TyX kA) (WX h q kA d) (fun d' : DS => WX h q kA d') [.ref h, .int (iI j)] (fun z d' => (¬ (0 ≤ j ∧ j < 5 ∧ P j = true) ∧ z = 0 ∧ d' = d) ∨ ((0 ≤ j ∧ j < 5 ∧ P j = true) ∧ z = 1 ∧ d' = st1 (st1 d 1 0 (ms (fun i => P i && !decide (i = j)))) 15 0 0)) := by
  refine ct_bool (by decide) rfl (Nat.le_of_ble_eq_true rfl) (fun X hX hR => ?_)
  refine g_aload_n hX dX1_remove_0 rfl ?_
  refine g_iload_n hX dX1_remove_1 rfl ?_
  refine g_call hX (ct_has hp hj) (by decide) (by decide) vwX1_has (hdX1_has npX1_has) (ci := 0) rfl rfl rfl rfl (Nat.le_of_ble_eq_true rfl) dX1_remove_2 (fun z _ hz => ?_)
  refine g_if_ne (tgt := 10) hX dX1_remove_5 (by decide) (hz.r) (fun c_5 => ?_) (fun c_5 => ?_)
  · have a1 := hz.yes c_5
    refine g_aload_n hX dX1_remove_10 rfl ?_
    refine g_dup hX dX1_remove_11 rfl ?_
    refine gx_present hX dX1_remove_12 ?_
    refine g_iconst hX dX1_remove_15 ?_
    refine g_iload_n hX dX1_remove_16 rfl ?_
    refine g_ishl hX dX1_remove_17 ?_
    refine g_iconst hX dX1_remove_18 ?_
    refine g_ixor hX dX1_remove_19 ?_
    refine g_iand hX dX1_remove_20 ?_
    refine g_int (z := ms (fun i => P i && !decide (i = j))) (by rw [hp, ms_one a1.1 a1.2.1, ms_not]) ?_
    refine px_present hX dX1_remove_21 ?_
    refine g_aload_n hX dX1_remove_24 rfl ?_
    refine g_iconst hX dX1_remove_25 ?_
    refine px_known hX (by omega) dX1_remove_26 ?_
    refine g_iconst hX dX1_remove_29 ?_
    exact hR _ _ _ _ dX1_remove_30 (by omega) (Or.inr ⟨a1, rfl, rfl⟩)
  · refine g_iconst hX dX1_remove_8 ?_
    exact hR _ _ _ _ dX1_remove_9 (by omega) (Or.inl ⟨hz.no c_5, rfl, rfl⟩)
set_option maxHeartbeats 4000000 in
theorem ask_loop (hX : Ok X cX1_askPlainly 2 1 RX1 (TyX kA)) (hd : DT d) (K : ∀ (lv : List (Option Value)) (d' : DS), (∀ k, k ≠ 3 → d' k = d k) → (∀ i, 0 ≤ i → i < 5 → d' 3 i = ms (ab d i)) → G X 2 (WX h q kA d') (some (.ref h) :: lv) 25 []) : ∀ (n : Nat) (j : Int) (d' : DS), 0 ≤ j → j ≤ 5 → 5 - j < n → (∀ k, k ≠ 3 → d' k = d k) → (∀ i, 0 ≤ i → i < j → d' 3 i = ms (ab d i)) → G X 2 (WX h q kA d') [some (.ref h), some (.int (iI j))] 2 [] := by
  intro n
  induction n with
  | zero => intro m d' h0 h1 h2; omega
  | succ n ih =>
    intro j d' h0 h1 h2 e1 e2
    refine g_iload_n hX dX1_askPlainly_2 rfl ?_
    refine g_iconst hX dX1_askPlainly_3 ?_
    refine g_icmp_ge (tgt := 25) hX dX1_askPlainly_4 (by decide) (by omega) (by omega) (fun c_4 => ?_) (fun c_4 => ?_)
    · exact K _ d' e1 (fun i a b => e2 i a (by omega))
    · have hd' : DT d' := by
        unfold DT
        rw [e1 0 (by decide), e1 2 (by decide)]
        exact hd
      have ea : ab d' j = ab d j := by
        unfold ab
        rw [e1 0 (by decide), e1 2 (by decide)]
      refine g_aload_n hX dX1_askPlainly_7 rfl ?_
      refine gx_open hX dX1_askPlainly_8 ?_
      refine g_iload_n hX dX1_askPlainly_11 rfl ?_
      refine g_aload_n hX dX1_askPlainly_12 rfl ?_
      refine g_iload_n hX dX1_askPlainly_13 rfl ?_
      refine g_call hX (ct_able hd' ⟨h0, by omega⟩) (by decide) (by decide) vwX1_able (hdX1_able npX1_able) (ci := 0) rfl rfl rfl rfl (Nat.le_of_ble_eq_true rfl) dX1_askPlainly_14 (fun z _ hz => ?_)
      have hr := ms_rng (ab d' j)
      rw [← hz] at hr
      refine g_i2b hX dX1_askPlainly_17 (by omega) ?_
      refine sx_open hX dX1_askPlainly_18 (by omega) (by omega) ?_
      refine g_iinc hX dX1_askPlainly_19 rfl (by decide) ?_
      refine g_goto (tgt := 2) hX dX1_askPlainly_22 (by decide) ?_
      refine ih (j + 1) _ (by omega) (by omega) (by omega) (fun k hk => ?_) (fun i a b => ?_)
      · rw [st1_ne hk, e1 k hk]
      · by_cases c : i = j
        · rw [c, st1_eq, hz, ea]
        · rw [st1_off c, e2 i a (by omega)]
set_option maxHeartbeats 4000000 in
/-- askPlainly(): every job may use every machine that can do it; nothing doubled, nothing liked -/
theorem ct_askPlainly (hd : DT d) : CtV yX1_askPlainly cX1_askPlainly 2 1 (TyX kA) (WX h q kA d) (fun d' : DS => WX h q kA d') [.ref h] (fun d' => (∀ k, k ≠ 3 → k ≠ 4 → k ≠ 5 → d' k = d k) ∧ (∀ i, 0 ≤ i → i < 5 → d' 3 i = ms (ab d i)) ∧ d' 4 0 = -1 ∧ d' 5 0 = -1) := by
  refine ct_void (by decide) rfl (Nat.le_of_ble_eq_true rfl) (fun X hX hR => ?_)
  refine g_iconst hX dX1_askPlainly_0 ?_
  refine g_istore_n hX dX1_askPlainly_1 (by decide) ?_
  refine ask_loop hX hd (fun lv d' e1 e2 => ?_) 10 0 d (by omega) (by omega) (by omega) (fun _ _ => rfl) (fun i a b => by omega)
  refine g_aload_n hX dX1_askPlainly_25 rfl ?_
  refine g_iconst hX dX1_askPlainly_26 ?_
  refine px_doubled hX dX1_askPlainly_27 ?_
  refine g_aload_n hX dX1_askPlainly_30 rfl ?_
  refine g_iconst hX dX1_askPlainly_31 ?_
  refine px_liked hX dX1_askPlainly_32 ?_
  refine hR _ _ _ dX1_askPlainly_35 ⟨fun k h3 h4 h5 => ?_, fun i a b => ?_, ?_, ?_⟩
  · rw [st1_ne h5, st1_ne h4, e1 k h3]
  · rw [st1_ne (by decide), st1_ne (by decide), e2 i a b]
  · rw [st1_ne (by decide), st1_eq]
  · rw [st1_eq]
end
end
section
/-! DESK: add, setTime -/
section
set_option maxRecDepth 100000
variable {h : Nat} {q : Nat → Nat} {kA : Nat → ClassId} {d : DS} {X : Cx}
theorem or3_all : ∀ a b c : Fin 16, ((iI (a.val : Int) ||| iI (b.val : Int) ||| iI (c.val : Int)).toInt = 0) ↔ (a.val = 0 ∧ b.val = 0 ∧ c.val = 0) := by decide +kernel
theorem or3 {a b c : Int} (ha : 0 ≤ a ∧ a ≤ 15) (hb : 0 ≤ b ∧ b ≤ 15) (hc : 0 ≤ c ∧ c ≤ 15) : ((iI a ||| iI b ||| iI c).toInt = 0) ↔ (a = 0 ∧ b = 0 ∧ c = 0) := by
  obtain ⟨a', ha', rfl⟩ : ∃ k : Nat, k < 16 ∧ a = (k : Int) := ⟨a.toNat, by omega, by omega⟩
  obtain ⟨b', hb', rfl⟩ : ∃ k : Nat, k < 16 ∧ b = (k : Int) := ⟨b.toNat, by omega, by omega⟩
  obtain ⟨c', hc', rfl⟩ : ∃ k : Nat, k < 16 ∧ c = (k : Int) := ⟨c.toNat, by omega, by omega⟩
  have := or3_all ⟨a', ha'⟩ ⟨b', hb'⟩ ⟨c', hc'⟩
  simp only at this
  rw [this]
  omega
/-- the three times that add takes: good ones -/
def gd (a y z : Int) : Prop := (0 ≤ a ∧ a ≤ 15) ∧ (0 ≤ y ∧ y ≤ 15) ∧ (0 ≤ z ∧ z ≤ 15) ∧ ¬ (a = 0 ∧ y = 0 ∧ z = 0)
def addTo (d : DS) (P : Int → Bool) (j a y z : Int) : DS := st1 (st1 (st1 (st1 (st1 d 1 0 (ms (fun i => P i || decide (i = j)))) 2 (j * 3) a) 2 (j * 3 + 1) y) 2 (j * 3 + 2) z) 15 0 0
set_option maxHeartbeats 4000000 in
theorem add_loop {P : Int → Bool} {a b c y z : Int} (hX : Ok X cX1_add 7 1 RX1 (TyX kA)) (hp : d 1 0 = ms P) (hg : gd a y z)
    (K : ∀ (j : Int) (lv : List (Option Value)), 0 ≤ j → j < 5 → P j = false → (∀ i, 0 ≤ i → i < j → P i = true) → G X 7 (WX h q kA (addTo d P j a y z)) lv 142 [.int (iI j)]) (K2 : ∀ (lv : List (Option Value)), (∀ i, 0 ≤ i → i < 5 → P i = true) → G X 7 (WX h q kA d) lv 151 [.int (iI (-2))]) : ∀ (n : Nat) (j : Int), 0 ≤ j → j ≤ 5 → 5 - j < n → (∀ i, 0 ≤ i → i < j → P i = true) → G X 7 (WX h q kA d) [some (.ref h), some (.int (iI a)), some (.int (iI b)), some (.int (iI c)), some (.int (iI y)), some (.int (iI z)), some (.int (iI j))] 68 [] := by
  intro n
  induction n with
  | zero => intro m h0 h1 h2; omega
  | succ n ih =>
    intro j h0 h1 h2 e1
    obtain ⟨g1, g2, g3, g4⟩ := hg
    refine g_iload hX dX1_add_68 rfl ?_
    refine g_iconst hX dX1_add_70 ?_
    refine g_icmp_ge (tgt := 149) hX dX1_add_71 (by decide) (by omega) (by omega) (fun c_71 => ?_) (fun c_71 => ?_)
    · refine g_bipush hX dX1_add_149 (by decide) ?_
      exact K2 _ (fun i a b => e1 i a (by omega))
    · refine g_aload_n hX dX1_add_74 rfl ?_
      refine g_iload hX dX1_add_75 rfl ?_
      refine g_call hX (ct_has hp (by omega)) (by decide) (by decide) vwX1_has (hdX1_has npX1_has) (ci := 0) rfl rfl rfl rfl (Nat.le_of_ble_eq_true rfl) dX1_add_77 (fun t _ ht => ?_)
      refine g_if_ne (tgt := 143) hX dX1_add_80 (by decide) (ht.r) (fun c_80 => ?_) (fun c_80 => ?_)
      · refine g_iinc hX dX1_add_143 rfl (by decide) ?_
        refine g_goto (tgt := 68) hX dX1_add_146 (by decide) ?_
        refine ih (j + 1) (by omega) (by omega) (by omega) (fun i a b => ?_)
        by_cases e : i = j
        · rw [e]; exact (ht.yes c_80).2.2
        · exact e1 i a (by omega)
      · have hj : P j = false := by
          cases e : P j with
          | false => rfl
          | true => exact absurd ⟨h0, by omega, e⟩ (ht.no c_80)
        refine g_aload_n hX dX1_add_83 rfl ?_
        refine g_dup hX dX1_add_84 rfl ?_
        refine gx_present hX dX1_add_85 ?_
        refine g_iconst hX dX1_add_88 ?_
        refine g_iload hX dX1_add_89 rfl ?_
        refine g_ishl hX dX1_add_91 ?_
        refine g_ior hX dX1_add_92 ?_
        refine g_int (z := ms (fun i => P i || decide (i = j))) (by rw [hp, ms_one h0 (by omega), ms_or]) ?_
        refine px_present hX dX1_add_93 ?_
        refine g_aload_n hX dX1_add_96 rfl ?_
        refine gx_times hX dX1_add_97 ?_
        refine g_iload hX dX1_add_100 rfl ?_
        refine g_iconst hX dX1_add_102 ?_
        refine g_imul hX dX1_add_103 ?_
        refine g_iload_n hX dX1_add_104 rfl ?_
        refine g_i2b hX dX1_add_105 (by omega) ?_
        refine sx_times hX dX1_add_106 (by omega) (by omega) ?_
        refine g_aload_n hX dX1_add_107 rfl ?_
        refine gx_times hX dX1_add_108 ?_
        refine g_iload hX dX1_add_111 rfl ?_
        refine g_iconst hX dX1_add_113 ?_
        refine g_imul hX dX1_add_114 ?_
        refine g_iconst hX dX1_add_115 ?_
        refine g_iadd hX dX1_add_116 ?_
        refine g_iload hX dX1_add_117 rfl ?_
        refine g_i2b hX dX1_add_119 (by omega) ?_
        refine sx_times hX dX1_add_120 (by omega) (by omega) ?_
        refine g_aload_n hX dX1_add_121 rfl ?_
        refine gx_times hX dX1_add_122 ?_
        refine g_iload hX dX1_add_125 rfl ?_
        refine g_iconst hX dX1_add_127 ?_
        refine g_imul hX dX1_add_128 ?_
        refine g_iconst hX dX1_add_129 ?_
        refine g_iadd hX dX1_add_130 ?_
        refine g_iload hX dX1_add_131 rfl ?_
        refine g_i2b hX dX1_add_133 (by omega) ?_
        refine sx_times hX dX1_add_134 (by omega) (by omega) ?_
        refine g_aload_n hX dX1_add_135 rfl ?_
        refine g_iconst hX dX1_add_136 ?_
        refine px_known hX (by omega) dX1_add_137 ?_
        refine g_iload hX dX1_add_140 rfl ?_
        exact K j _ h0 (by omega) hj e1
set_option maxHeartbeats 4000000 in
theorem ct_add {P : Int → Bool} {a b c : Int} (hd : DT d) (hp : d 1 0 = ms P) (ha : -2147483648 ≤ a ∧ a ≤ 2147483647) (hb : -2147483648 ≤ b ∧ b ≤ 2147483647) (hc : -2147483648 ≤ c ∧ c ≤ 2147483647) : Ct yX1_add cX1_add 7 (some .int) 1 (TyX kA) (WX h q kA d) (fun d' : DS => WX h q kA d') [.ref h, .int (iI a), .int (iI b), .int (iI c)] (fun r d' => ∃ y z : Int, y = (if 1 < d 0 0 then b else 0) ∧ z = (if 2 < d 0 0 then c else 0) ∧ ((¬ gd a y z ∧ r = -1 ∧ d' = d) ∨ (gd a y z ∧ (∀ j, 0 ≤ j → j < 5 → P j = true) ∧ r = -2 ∧ d' = d) ∨ (gd a y z ∧ ∃ j, 0 ≤ j ∧ j < 5 ∧ P j = false ∧ (∀ i, 0 ≤ i → i < j → P i = true) ∧ r = j ∧ d' = addTo d P j a y z))) := by
  refine ct_int (by decide) rfl (Nat.le_of_ble_eq_true rfl) (fun X hX hR => ?_)
  have hn := hd.1
  have K3 : ∀ y z : Int, y = (if 1 < d 0 0 then b else 0) → z = (if 2 < d 0 0 then c else 0) → G X 7 (WX h q kA d) [some (.ref h), some (.int (iI a)), some (.int (iI b)), some (.int (iI c)), some (.int (iI y)), some (.int (iI z)), none] 30 [] := by
    intro y z ey ez
    have ry : -2147483648 ≤ y ∧ y ≤ 2147483647 := by rw [ey]; split <;> omega
    have rz : -2147483648 ≤ z ∧ z ≤ 2147483647 := by rw [ez]; split <;> omega
    have KB : ∀ lv : List (Option Value), ¬ gd a y z → G X 7 (WX h q kA d) lv 63 [] := by
      intro lv hg
      refine g_iconst hX dX1_add_63 ?_
      exact hR _ _ _ _ dX1_add_64 ⟨y, z, ey, ez, Or.inl ⟨hg, rfl, rfl⟩⟩
    refine g_iload_n hX dX1_add_30 rfl ?_
    refine g_callS hX (ct_isTime ha) (by decide) (by decide) vwX1_isTime (hdX1_isTime npX1_isTime) rfl (Nat.le_of_ble_eq_true rfl) dX1_add_31 (fun t1 _ ht1 => ?_)
    refine g_if_eq (tgt := 63) hX dX1_add_34 (by decide) (ht1.r) (fun c_34 => ?_) (fun c_34 => ?_)
    · exact KB _ (fun g => ht1.no c_34 g.1)
    · refine g_iload hX dX1_add_37 rfl ?_
      refine g_callS hX (ct_isTime ry) (by decide) (by decide) vwX1_isTime (hdX1_isTime npX1_isTime) rfl (Nat.le_of_ble_eq_true rfl) dX1_add_39 (fun t2 _ ht2 => ?_)
      refine g_if_eq (tgt := 63) hX dX1_add_42 (by decide) (ht2.r) (fun c_42 => ?_) (fun c_42 => ?_)
      · exact KB _ (fun g => ht2.no c_42 g.2.1)
      · refine g_iload hX dX1_add_45 rfl ?_
        refine g_callS hX (ct_isTime rz) (by decide) (by decide) vwX1_isTime (hdX1_isTime npX1_isTime) rfl (Nat.le_of_ble_eq_true rfl) dX1_add_47 (fun t3 _ ht3 => ?_)
        refine g_if_eq (tgt := 63) hX dX1_add_50 (by decide) (ht3.r) (fun c_50 => ?_) (fun c_50 => ?_)
        · exact KB _ (fun g => ht3.no c_50 g.2.2.1)
        · have a1 := ht1.yes c_34
          have a2 := ht2.yes c_42
          have a3 := ht3.yes c_50
          refine g_iload_n hX dX1_add_53 rfl ?_
          refine g_iload hX dX1_add_54 rfl ?_
          refine g_ior hX dX1_add_56 ?_
          refine g_iload hX dX1_add_57 rfl ?_
          refine g_ior hX dX1_add_59 ?_
          refine g_int (iI_self _) ?_
          have ho := or3 a1 a2 a3
          refine g_if_ne (tgt := 65) hX dX1_add_60 (by decide) (iI_rng _) (fun c_60 => ?_) (fun c_60 => ?_)
          · have hg : gd a y z := ⟨a1, a2, a3, fun e => c_60 (ho.mpr e)⟩
            refine g_iconst hX dX1_add_65 ?_
            refine g_istore hX dX1_add_66 (by decide) ?_
            exact add_loop hX hp hg (fun j lv h0 h1 h2 h3 => hR _ _ _ _ dX1_add_142 ⟨y, z, ey, ez, Or.inr (Or.inr ⟨hg, j, h0, h1, h2, h3, rfl, rfl⟩)⟩) (fun lv h1 => hR _ _ _ _ dX1_add_151 ⟨y, z, ey, ez, Or.inr (Or.inl ⟨hg, h1, rfl, rfl⟩)⟩) 10 0 (by omega) (by omega) (by omega) (fun i a b => by omega)
          · exact KB _ (fun g => g.2.2.2 (ho.mp c_60))
  have K2 : ∀ y : Int, y = (if 1 < d 0 0 then b else 0) → G X 7 (WX h q kA d) [some (.ref h), some (.int (iI a)), some (.int (iI b)), some (.int (iI c)), some (.int (iI y)), none, none] 15 [] := by
    intro y ey
    refine g_aload_n hX dX1_add_15 rfl ?_
    refine gx_machines hX dX1_add_16 ?_
    refine g_iconst hX dX1_add_19 ?_
    refine g_icmp_le (tgt := 27) hX dX1_add_20 (by decide) (by omega) (by omega) (fun c_20 => ?_) (fun c_20 => ?_)
    · refine g_iconst hX dX1_add_27 ?_
      refine g_istore hX dX1_add_28 (by decide) ?_
      exact K3 y 0 ey (by rw [if_neg (by omega)])
    · refine g_iload_n hX dX1_add_23 rfl ?_
      refine g_goto (tgt := 28) hX dX1_add_24 (by decide) ?_
      refine g_istore hX dX1_add_28 (by decide) ?_
      exact K3 y c ey (by rw [if_pos (by omega)])
  refine g_aload_n hX dX1_add_0 rfl ?_
  refine gx_machines hX dX1_add_1 ?_
  refine g_iconst hX dX1_add_4 ?_
  refine g_icmp_le (tgt := 12) hX dX1_add_5 (by decide) (by omega) (by omega) (fun c_5 => ?_) (fun c_5 => ?_)
  · refine g_iconst hX dX1_add_12 ?_
    refine g_istore hX dX1_add_13 (by decide) ?_
    exact K2 0 (by rw [if_neg (by omega)])
  · refine g_iload_n hX dX1_add_8 rfl ?_
    refine g_goto (tgt := 13) hX dX1_add_9 (by decide) ?_
    refine g_istore hX dX1_add_13 (by decide) ?_
    exact K2 b (by rw [if_pos (by omega)])
set_option maxHeartbeats 4000000 in
/-- setTime(j, m, t) -/
theorem ct_setTime {P : Int → Bool} {j m t : Int} (hd : DT d) (hp : d 1 0 = ms P) (hj : -2147483648 ≤ j ∧ j ≤ 2147483647) (hm : -2147483648 ≤ m ∧ m ≤ 2147483647) (ht : -2147483648 ≤ t ∧ t ≤ 2147483647) : Ct yX1_setTime cX1_setTime 5 (some .boolean) 1 (TyX kA) (WX h q kA d) (fun d' : DS => WX h q kA d') [.ref h, .int (iI j), .int (iI m), .int (iI t)] (fun r d' => (¬ ((0 ≤ j ∧ j < 5 ∧ P j = true) ∧ (0 ≤ m ∧ m < d 0 0) ∧ (0 ≤ t ∧ t ≤ 15)) ∧ r = 0 ∧ d' = d) ∨ (((0 ≤ j ∧ j < 5 ∧ P j = true) ∧ (0 ≤ m ∧ m < d 0 0) ∧ (0 ≤ t ∧ t ≤ 15)) ∧ ((ms (ab (st1 d 2 (j * 3 + m) t) j) = 0 ∧ r = 0 ∧ d' = d) ∨ (¬ ms (ab (st1 d 2 (j * 3 + m) t) j) = 0 ∧ r = 1 ∧ d' = st1 (st1 d 2 (j * 3 + m) t) 15 0 0)))) := by
  refine ct_bool (by decide) rfl (Nat.le_of_ble_eq_true rfl) (fun X hX hR => ?_)
  have hn := hd.1
  have KB : ∀ lv : List (Option Value), ¬ ((0 ≤ j ∧ j < 5 ∧ P j = true) ∧ (0 ≤ m ∧ m < d 0 0) ∧ (0 ≤ t ∧ t ≤ 15)) → G X 5 (WX h q kA d) lv 23 [] := by
    intro lv hg
    refine g_iconst hX dX1_setTime_23 ?_
    exact hR _ _ _ _ dX1_setTime_24 (by omega) (Or.inl ⟨hg, rfl, rfl⟩)
  refine g_aload_n hX dX1_setTime_0 rfl ?_
  refine g_iload_n hX dX1_setTime_1 rfl ?_
  refine g_call hX (ct_has hp hj) (by decide) (by decide) vwX1_has (hdX1_has npX1_has) (ci := 0) rfl rfl rfl rfl (Nat.le_of_ble_eq_true rfl) dX1_setTime_2 (fun t1 _ ht1 => ?_)
  refine g_if_eq (tgt := 23) hX dX1_setTime_5 (by decide) (ht1.r) (fun c_5 => ?_) (fun c_5 => ?_)
  · exact KB _ (fun g => ht1.no c_5 g.1)
  · have a1 := ht1.yes c_5
    refine g_aload_n hX dX1_setTime_8 rfl ?_
    refine g_iload_n hX dX1_setTime_9 rfl ?_
    refine g_call hX (ct_isMachine hn hm) (by decide) (by decide) vwX1_isMachine (hdX1_isMachine npX1_isMachine) (ci := 0) rfl rfl rfl rfl (Nat.le_of_ble_eq_true rfl) dX1_setTime_10 (fun t2 _ ht2 => ?_)
    refine g_if_eq (tgt := 23) hX dX1_setTime_13 (by decide) (ht2.r) (fun c_13 => ?_) (fun c_13 => ?_)
    · exact KB _ (fun g => ht2.no c_13 g.2.1)
    · have a2 := ht2.yes c_13
      refine g_iload_n hX dX1_setTime_16 rfl ?_
      refine g_callS hX (ct_isTime ht) (by decide) (by decide) vwX1_isTime (hdX1_isTime npX1_isTime) rfl (Nat.le_of_ble_eq_true rfl) dX1_setTime_17 (fun t3 _ ht3 => ?_)
      refine g_if_ne (tgt := 25) hX dX1_setTime_20 (by decide) (ht3.r) (fun c_20 => ?_) (fun c_20 => ?_)
      · have a3 := ht3.yes c_20
        have ho := hd.2 (j * 3 + m) (by omega) (by omega)
        refine g_aload_n hX dX1_setTime_25 rfl ?_
        refine gx_times hX dX1_setTime_26 ?_
        refine g_iload_n hX dX1_setTime_29 rfl ?_
        refine g_iconst hX dX1_setTime_30 ?_
        refine g_imul hX dX1_setTime_31 ?_
        refine g_iload_n hX dX1_setTime_32 rfl ?_
        refine g_iadd hX dX1_setTime_33 ?_
        refine lx_times hX dX1_setTime_34 (by omega) ?_
        refine g_istore hX dX1_setTime_35 (by decide) ?_
        refine g_aload_n hX dX1_setTime_37 rfl ?_
        refine gx_times hX dX1_setTime_38 ?_
        refine g_iload_n hX dX1_setTime_41 rfl ?_
        refine g_iconst hX dX1_setTime_42 ?_
        refine g_imul hX dX1_setTime_43 ?_
        refine g_iload_n hX dX1_setTime_44 rfl ?_
        refine g_iadd hX dX1_setTime_45 ?_
        refine g_iload_n hX dX1_setTime_46 rfl ?_
        refine g_i2b hX dX1_setTime_47 (by omega) ?_
        refine sx_times hX dX1_setTime_48 (by omega) (by omega) ?_
        refine g_aload_n hX dX1_setTime_49 rfl ?_
        refine g_iload_n hX dX1_setTime_50 rfl ?_
        have hd' : DT (st1 d 2 (j * 3 + m) t) := by
          refine ⟨by rw [st1_ne (by decide)]; exact hn, fun z z0 z1 => ?_⟩
          rw [st1_at]
          split
          · exact a3
          · exact hd.2 z z0 z1
        refine g_call hX (ct_able hd' ⟨a1.1, a1.2.1⟩) (by decide) (by decide) vwX1_able (hdX1_able npX1_able) (ci := 0) rfl rfl rfl rfl (Nat.le_of_ble_eq_true rfl) dX1_setTime_51 (fun s _ hs => ?_)
        have hr := ms_rng (ab (st1 d 2 (j * 3 + m) t) j)
        rw [← hs] at hr
        refine g_if_ne (tgt := 72) hX dX1_setTime_54 (by decide) (by omega) (fun c_54 => ?_) (fun c_54 => ?_)
        · refine g_aload_n hX dX1_setTime_72 rfl ?_
          refine g_iconst hX dX1_setTime_73 ?_
          refine px_known hX (by omega) dX1_setTime_74 ?_
          refine g_iconst hX dX1_setTime_77 ?_
          exact hR _ _ _ _ dX1_setTime_78 (by omega) (Or.inr ⟨⟨a1, a2, a3⟩, Or.inr ⟨by rw [← hs]; exact c_54, rfl, rfl⟩⟩)
        · refine g_aload_n hX dX1_setTime_57 rfl ?_
          refine gx_times hX dX1_setTime_58 ?_
          refine g_iload_n hX dX1_setTime_61 rfl ?_
          refine g_iconst hX dX1_setTime_62 ?_
          refine g_imul hX dX1_setTime_63 ?_
          refine g_iload_n hX dX1_setTime_64 rfl ?_
          refine g_iadd hX dX1_setTime_65 ?_
          refine g_iload hX dX1_setTime_66 rfl ?_
          refine g_i2b hX dX1_setTime_68 (by omega) ?_
          refine sx_times hX dX1_setTime_69 (by omega) (by omega) ?_
          refine g_iconst hX dX1_setTime_70 ?_
          refine hR _ _ _ _ dX1_setTime_71 (by omega) (Or.inr ⟨⟨a1, a2, a3⟩, Or.inl ⟨by rw [← hs]; exact c_54, rfl, ?_⟩⟩)
          funext k z
          by_cases e : k = 2
          · subst e
            rw [st1_at, st1_at]
            by_cases e2 : z = j * 3 + m
            · simp [e2]
            · simp [e2]
          · rw [st1_ne e, st1_ne e]
      · exact KB _ (fun g => ht3.no c_20 g.2.2)
end
end
section
/-! DESK: machineAt, costOf -/
section
set_option maxRecDepth 100000
variable {h : Nat} {q : Nat → Nat} {kA : Nat → ClassId} {d : DS} {X : Cx}
/-- the machine of a column -/
def mAt (d : DS) (c : Int) : Int := if (c - 1) / 5 < d 0 0 then (c - 1) / 5 else d 4 0
/-- what it costs to give job j the column c -/
def kc (d : DS) (op : Int → Int → Bool) (j c : Int) : Int := if mAt d c < 0 ∨ op j (mAt d c) = false then 100000 else 8 * ((c - 1) % 5 + 1) * d 2 (j * 3 + mAt d c) - (if mAt d c = d 5 0 then 1 else 0)
/-- a question: times, a doubled machine, a liked one, the machines that each job may use -/
def QT (d : DS) (op : Int → Int → Bool) : Prop := DT d ∧ (-1 ≤ d 4 0 ∧ d 4 0 < d 0 0) ∧ (-1 ≤ d 5 0 ∧ d 5 0 < d 0 0) ∧ (∀ j, 0 ≤ j → j < 5 → d 3 j = ms (op j)) ∧ ∀ j m, 0 ≤ j → j < 5 → 0 ≤ m → m < d 0 0 → op j m = true → 0 < d 2 (j * 3 + m)
theorem mAt_rng {c : Int} (hn : 1 ≤ d 0 0 ∧ d 0 0 ≤ 3) (h4 : -1 ≤ d 4 0 ∧ d 4 0 < d 0 0) (hc : 1 ≤ c) : -1 ≤ mAt d c ∧ mAt d c < d 0 0 := by
  unfold mAt
  split <;> omega
theorem kc_congr {d' : DS} {op : Int → Int → Bool} (h0 : d' 0 = d 0) (h2 : d' 2 = d 2) (h4 : d' 4 = d 4) (h5 : d' 5 = d 5) : kc d' op = kc d op := by
  funext j c
  unfold kc mAt
  rw [h0, h2, h4, h5]
theorem QT_congr {d' : DS} {op : Int → Int → Bool} (h0 : d' 0 = d 0) (h2 : d' 2 = d 2) (h3 : d' 3 = d 3) (h4 : d' 4 = d 4) (h5 : d' 5 = d 5) (hq : QT d op) : QT d' op := by
  unfold QT DT at *
  rw [h0, h2, h3, h4, h5]
  exact hq
theorem kc_rng {op : Int → Int → Bool} {j c : Int} (hq : QT d op) (hj : 0 ≤ j ∧ j < 5) (hc : 1 ≤ c) : 0 ≤ kc d op j c ∧ kc d op j c ≤ 100000 := by
  obtain ⟨⟨hn, ht⟩, h4, h5, -, hp⟩ := hq
  have hm := mAt_rng hn h4 hc
  unfold kc
  split
  · omega
  · rename_i hno
    have h0 : 0 ≤ mAt d c := by omega
    have ho : op j (mAt d c) = true := by
      cases e : op j (mAt d c) with
      | true => rfl
      | false => exact absurd (Or.inr e) hno
    have t1 := hp j (mAt d c) hj.1 hj.2 h0 hm.2 ho
    have t2 := (ht (j * 3 + mAt d c) (by omega) (by omega)).2
    generalize d 2 (j * 3 + mAt d c) = t at t1 t2 ⊢
    have hmod : (c - 1) % 5 = 0 ∨ (c - 1) % 5 = 1 ∨ (c - 1) % 5 = 2 ∨ (c - 1) % 5 = 3 ∨ (c - 1) % 5 = 4 := by omega
    rcases hmod with e | e | e | e | e <;> rw [e] <;> split <;> omega
set_option maxHeartbeats 4000000 in
theorem ct_machineAt {c : Int} (hn : 1 ≤ d 0 0 ∧ d 0 0 ≤ 3) (hc : 1 ≤ c ∧ c ≤ 1000) : Ct yX1_machineAt cX1_machineAt 3 (some .int) 0 (TyX kA) (WX h q kA d) (fun _ : Unit => WX h q kA d) [.ref h, .int (iI c)] (fun z _ => z = mAt d c) := by
  refine ct_int (by decide) rfl (Nat.le_of_ble_eq_true rfl) (fun X hX hR => ?_)
  refine g_iload_n hX dX1_machineAt_0 rfl ?_
  refine g_iconst hX dX1_machineAt_1 ?_
  refine g_isub hX dX1_machineAt_2 ?_
  refine g_iconst hX dX1_machineAt_3 ?_
  refine g_idiv hX dX1_machineAt_4 (by omega) (by omega) ?_
  refine g_istore_n hX dX1_machineAt_5 (by decide) ?_
  refine g_iload_n hX dX1_machineAt_6 rfl ?_
  refine g_aload_n hX dX1_machineAt_7 rfl ?_
  refine gx_machines hX dX1_machineAt_8 ?_
  refine g_icmp_ge (tgt := 18) hX dX1_machineAt_11 (by decide) (by omega) (by omega) (fun c_11 => ?_) (fun c_11 => ?_)
  · refine g_aload_n hX dX1_machineAt_18 rfl ?_
    refine gx_doubled hX dX1_machineAt_19 ?_
    exact hR _ () _ _ dX1_machineAt_22 (by unfold mAt; rw [if_neg (by omega)])
  · refine g_iload_n hX dX1_machineAt_14 rfl ?_
    refine g_goto (tgt := 22) hX dX1_machineAt_15 (by decide) ?_
    exact hR _ () _ _ dX1_machineAt_22 (by unfold mAt; rw [if_pos (by omega)])
set_option maxHeartbeats 4000000 in
/-- costOf(row, column) -/
theorem ct_costOf {op : Int → Int → Bool} {r c : Int} (hq : QT d op) (hr : 0 ≤ r ∧ r < 6) (hj : 0 ≤ d 8 r ∧ d 8 r < 5) (hc : 1 ≤ c ∧ c ≤ 1000) : Ct yX1_costOf cX1_costOf 7 (some .int) 1 (TyX kA) (WX h q kA d) (fun _ : Unit => WX h q kA d) [.ref h, .int (iI r), .int (iI c)] (fun z _ => z = kc d op (d 8 r) c) := by
  refine ct_int (by decide) rfl (Nat.le_of_ble_eq_true rfl) (fun X hX hR => ?_)
  obtain ⟨⟨hn, ht⟩, h4, h5, ho, hp⟩ := hq
  have hm := mAt_rng hn h4 hc.1
  have KB : ∀ lv : List (Option Value), (mAt d c < 0 ∨ op (d 8 r) (mAt d c) = false) → G X 7 (WX h q kA d) lv 33 [] := by
    intro lv hg
    refine g_ldc hX (z := 100000) q161 rfl dX1_costOf_33 ?_
    exact hR _ () _ _ dX1_costOf_35 (by unfold kc; rw [if_pos hg])
  refine g_aload_n hX dX1_costOf_0 rfl ?_
  refine gx_rowJob hX dX1_costOf_1 ?_
  refine g_iload_n hX dX1_costOf_4 rfl ?_
  refine lx_rowJob hX dX1_costOf_5 (by omega) ?_
  refine g_istore_n hX dX1_costOf_6 (by decide) ?_
  refine g_aload_n hX dX1_costOf_7 rfl ?_
  refine g_iload_n hX dX1_costOf_8 rfl ?_
  refine g_call hX (ct_machineAt hn hc) (by decide) (by decide) vwX1_machineAt (hdX1_machineAt npX1_machineAt) (ci := 0) rfl rfl rfl rfl (Nat.le_of_ble_eq_true rfl) dX1_costOf_9 (fun m _ hm2 => ?_)
  subst hm2
  refine g_istore hX dX1_costOf_12 (by decide) ?_
  refine g_iload hX dX1_costOf_14 rfl ?_
  refine g_if_lt (tgt := 33) hX dX1_costOf_16 (by decide) (by omega) (fun c_16 => ?_) (fun c_16 => ?_)
  · exact KB _ (Or.inl c_16)
  · refine g_aload_n hX dX1_costOf_19 rfl ?_
    refine gx_open hX dX1_costOf_20 ?_
    refine g_iload_n hX dX1_costOf_23 rfl ?_
    refine lx_open hX dX1_costOf_24 (by omega) ?_
    refine g_iload hX dX1_costOf_25 rfl ?_
    refine g_ishr hX dX1_costOf_27 ?_
    refine g_iconst hX dX1_costOf_28 ?_
    refine g_iand hX dX1_costOf_29 ?_
    refine g_int (z := if op (d 8 r) (mAt d c) then 1 else 0) (by rw [ho _ hj.1 hj.2, ms_bit _ (by omega) (by omega)]) ?_
    cases hb : op (d 8 r) (mAt d c) with
    | false =>
      refine g_z (z' := 0) (by simp) ?_
      refine g_if_ne (tgt := 36) hX dX1_costOf_30 (by decide) (by omega) (fun c_30 => absurd c_30 (by omega)) (fun c_30 => ?_)
      exact KB _ (Or.inr hb)
    | true =>
      refine g_z (z' := 1) (by simp) ?_
      refine g_if_ne (tgt := 36) hX dX1_costOf_30 (by decide) (by omega) (fun c_30 => ?_) (fun c_30 => absurd c_30 (by omega))
      have ht1 := ht (d 8 r * 3 + mAt d c) (by omega) (by omega)
      have hno : ¬ (mAt d c < 0 ∨ op (d 8 r) (mAt d c) = false) := by
        rw [hb]
        simp
        omega
      refine g_iload_n hX dX1_costOf_36 rfl ?_
      refine g_iconst hX dX1_costOf_37 ?_
      refine g_isub hX dX1_costOf_38 ?_
      refine g_iconst hX dX1_costOf_39 ?_
      refine g_irem hX dX1_costOf_40 (by omega) (by omega) ?_
      refine g_iconst hX dX1_costOf_41 ?_
      refine g_iadd hX dX1_costOf_42 ?_
      refine g_istore hX dX1_costOf_43 (by decide) ?_
      refine g_bipush hX dX1_costOf_45 (by decide) ?_
      refine g_iload hX dX1_costOf_47 rfl ?_
      refine g_imul hX dX1_costOf_49 ?_
      refine g_aload_n hX dX1_costOf_50 rfl ?_
      refine gx_times hX dX1_costOf_51 ?_
      refine g_iload_n hX dX1_costOf_54 rfl ?_
      refine g_iconst hX dX1_costOf_55 ?_
      refine g_imul hX dX1_costOf_56 ?_
      refine g_iload hX dX1_costOf_57 rfl ?_
      refine g_iadd hX dX1_costOf_59 ?_
      refine lx_times hX dX1_costOf_60 (by omega) ?_
      refine g_imul hX dX1_costOf_61 ?_
      refine g_istore hX dX1_costOf_62 (by decide) ?_
      refine g_iload hX dX1_costOf_64 rfl ?_
      refine g_aload_n hX dX1_costOf_66 rfl ?_
      refine gx_liked hX dX1_costOf_67 ?_
      refine g_icmp_ne (tgt := 80) hX dX1_costOf_70 (by decide) (by omega) (by omega) (fun c_70 => ?_) (fun c_70 => ?_)
      · refine g_iload hX dX1_costOf_80 rfl ?_
        exact hR _ () _ _ dX1_costOf_82 (by unfold kc; rw [if_neg hno, if_neg c_70]; omega)
      · refine g_iload hX dX1_costOf_73 rfl ?_
        refine g_iconst hX dX1_costOf_75 ?_
        refine g_isub hX dX1_costOf_76 ?_
        refine g_goto (tgt := 82) hX dX1_costOf_77 (by decide) ?_
        exact hR _ () _ _ dX1_costOf_82 (by unfold kc; rw [if_neg hno, if_pos c_70])
end
end
section
/-! DESK: advance -/
section
set_option maxRecDepth 100000
variable {h : Nat} {q : Nat → Nat} {kA : Nat → ClassId} {d : DS} {X : Cx}
/-- what is missing between the row of column a0 and the column c -/
def rst (d : DS) (op : Int → Int → Bool) (a0 c : Int) : Int := kc d op (d 8 (d 11 a0)) c - d 9 (d 11 a0) - d 10 c
def slA (d : DS) (op : Int → Int → Bool) (a0 c : Int) : Int := if rst d op a0 c < d 13 c then rst d op a0 c else d 13 c
def cfA (d : DS) (op : Int → Int → Bool) (a0 c : Int) : Int := if rst d op a0 c < d 13 c then a0 else d 12 c
/-- the least slack so far, ahead of column c -/
def bst (d : DS) (op : Int → Int → Bool) (a0 c least next : Int) : Prop := (least = 268435456 ∧ next = 0 ∧ ∀ e, 1 ≤ e → e < c → d 14 e = 0 → 268435456 ≤ slA d op a0 e) ∨ (1 ≤ next ∧ next < c ∧ d 14 next = 0 ∧ slA d op a0 next = least ∧ least < 268435456 ∧ ∀ e, 1 ≤ e → e < c → d 14 e = 0 → least ≤ slA d op a0 e)
/-- the state ahead of column c in the first loop -/
def adL (d : DS) (op : Int → Int → Bool) (a0 c : Int) (e : DS) : Prop := (∀ k, k ≠ 12 → k ≠ 13 → e k = d k) ∧ (∀ x, e 13 x = if 1 ≤ x ∧ x < c ∧ d 14 x = 0 then slA d op a0 x else d 13 x) ∧ (∀ x, e 12 x = if 1 ≤ x ∧ x < c ∧ d 14 x = 0 then cfA d op a0 x else d 12 x)
/-- what advance asks: numbers in their ranges, rows of reached columns apart -/
def adPre (d : DS) (op : Int → Int → Bool) (a0 : Int) : Prop := QT d op ∧ (5 ≤ d 7 0 ∧ d 7 0 ≤ 20) ∧ (0 ≤ a0 ∧ a0 ≤ d 7 0) ∧ (1 ≤ d 11 a0 ∧ d 11 a0 ≤ 5) ∧ (0 ≤ d 8 (d 11 a0) ∧ d 8 (d 11 a0) < 5) ∧ (∀ e, 0 ≤ e → e ≤ d 7 0 → d 14 e = 0 ∨ d 14 e = 1) ∧ (∀ e, 1 ≤ e → e ≤ d 7 0 → d 14 e = 0 → (-1000000 ≤ rst d op a0 e ∧ rst d op a0 e ≤ 1000000) ∧ (-1000000 ≤ d 13 e ∧ d 13 e ≤ 268435456)) ∧ (∀ e, 0 ≤ e → e ≤ d 7 0 → d 14 e = 1 → 1 ≤ d 11 e ∧ d 11 e ≤ 5) ∧ (∀ e e', 0 ≤ e → e ≤ d 7 0 → 0 ≤ e' → e' ≤ d 7 0 → d 14 e = 1 → d 14 e' = 1 → d 11 e = d 11 e' → e = e')
theorem slA_rng {op : Int → Int → Bool} {a0 e : Int} (hA : adPre d op a0) (h1 : 1 ≤ e) (h2 : e ≤ d 7 0) (h3 : d 14 e = 0) : -1000000 ≤ slA d op a0 e ∧ slA d op a0 e ≤ 268435456 := by
  have := hA.2.2.2.2.2.2.1 e h1 h2 h3
  unfold slA
  split <;> omega
theorem bst_rng {op : Int → Int → Bool} {a0 c least next : Int} (hA : adPre d op a0) (hc : c ≤ d 7 0 + 1) (hb : bst d op a0 c least next) : -1000000 ≤ least ∧ least ≤ 268435456 := by
  rcases hb with hb | hb
  · omega
  · have := slA_rng hA hb.1 (by omega) hb.2.2.1
    omega
set_option maxHeartbeats 4000000 in
theorem advance_loop1 {op : Int → Int → Bool} {a0 : Int} (hX : Ok X cX1_advance 7 2 RX1 (TyX kA)) (hA : adPre d op a0)
    (K : ∀ (e : DS) (least next : Int) (x5 x6 : Option Value), adL d op a0 (d 7 0 + 1) e → bst d op a0 (d 7 0 + 1) least next → G X 7 (WX h q kA e) [some (.ref h), some (.int (iI a0)), some (.int (iI (d 11 a0))), some (.int (iI least)), some (.int (iI next)), x5, x6] 118 []) :
    ∀ (n : Nat) (c : Int) (e : DS) (least next : Int) (x6 : Option Value), 1 ≤ c → c ≤ d 7 0 + 1 → d 7 0 + 1 - c < n → adL d op a0 c e → bst d op a0 c least next → G X 7 (WX h q kA e) [some (.ref h), some (.int (iI a0)), some (.int (iI (d 11 a0))), some (.int (iI least)), some (.int (iI next)), some (.int (iI c)), x6] 16 [] := by
  intro n
  induction n with
  | zero => intro c e least next x6 h0 h1 h2; omega
  | succ n ih =>
    intro c e least next x6 h0 h1 h2 hL hB
    obtain ⟨l1, l2, l3⟩ := hL
    have hQ := hA.1
    have hC := hA.2.1
    have ha0 := hA.2.2.1
    have hrow := hA.2.2.2.1
    have hjob := hA.2.2.2.2.1
    have e7 : e 7 0 = d 7 0 := by rw [l1 7 (by decide) (by decide)]
    have hlr := bst_rng hA h1 hB
    refine g_iload hX dX1_advance_16 rfl ?_
    refine g_aload_n hX dX1_advance_18 rfl ?_
    refine gx_columns hX dX1_advance_19 ?_
    refine g_icmp_gt (tgt := 118) hX dX1_advance_22 (by decide) (by omega) (by omega) (fun c_22 => ?_) (fun c_22 => ?_)
    · have : c = d 7 0 + 1 := by omega
      subst this
      exact K e least next _ _ ⟨l1, l2, l3⟩ hB
    · have e14 : e 14 c = d 14 c := by rw [l1 14 (by decide) (by decide)]
      have hre := hA.2.2.2.2.2.1 c (by omega) (by omega)
      have K112 : ∀ (e' : DS) (least' next' : Int) (x6 : Option Value), adL d op a0 (c + 1) e' → bst d op a0 (c + 1) least' next' → G X 7 (WX h q kA e') [some (.ref h), some (.int (iI a0)), some (.int (iI (d 11 a0))), some (.int (iI least')), some (.int (iI next')), some (.int (iI c)), x6] 112 [] := by
        intro e' least' next' x6 hL' hB'
        refine g_iinc hX dX1_advance_112 rfl (by decide) ?_
        refine g_goto (tgt := 16) hX dX1_advance_115 (by decide) ?_
        exact ih (c + 1) e' least' next' x6 (by omega) (by omega) (by omega) hL' hB'
      refine g_aload_n hX dX1_advance_25 rfl ?_
      refine gx_reached hX dX1_advance_26 ?_
      refine g_iload hX dX1_advance_29 rfl ?_
      refine lx_reached hX dX1_advance_31 (by omega) ?_
      refine g_if_ne (tgt := 112) hX dX1_advance_32 (by decide) (by omega) (fun c_32 => ?_) (fun c_32 => ?_)
      · refine K112 e least next _ ⟨l1, fun x => ?_, fun x => ?_⟩ ?_
        · rw [l2 x]
          by_cases hx : x = c
          · subst hx
            rw [if_neg (by omega), if_neg (by omega)]
          · by_cases h3 : 1 ≤ x ∧ x < c ∧ d 14 x = 0
            · rw [if_pos h3, if_pos (by omega)]
            · rw [if_neg h3, if_neg (by omega)]
        · rw [l3 x]
          by_cases hx : x = c
          · subst hx
            rw [if_neg (by omega), if_neg (by omega)]
          · by_cases h3 : 1 ≤ x ∧ x < c ∧ d 14 x = 0
            · rw [if_pos h3, if_pos (by omega)]
            · rw [if_neg h3, if_neg (by omega)]
        · rcases hB with ⟨b1, b2, b3⟩ | ⟨b1, b2, b3, b4, b5, b6⟩
          · refine Or.inl ⟨b1, b2, fun x x1 x2 x3 => b3 x x1 ?_ x3⟩
            by_cases hx : x = c
            · subst hx; omega
            · omega
          · refine Or.inr ⟨b1, by omega, b3, b4, b5, fun x x1 x2 x3 => b6 x x1 ?_ x3⟩
            by_cases hx : x = c
            · subst hx; omega
            · omega
      · have hu : d 14 c = 0 := by omega
        have hrg := hA.2.2.2.2.2.2.1 c h0 (by omega) hu
        have hslr := slA_rng hA h0 (by omega) hu
        have e0 := l1 0 (by decide) (by decide)
        have e2 := l1 2 (by decide) (by decide)
        have e3 := l1 3 (by decide) (by decide)
        have e4 := l1 4 (by decide) (by decide)
        have e5 := l1 5 (by decide) (by decide)
        have e8 := l1 8 (by decide) (by decide)
        have e9 := l1 9 (by decide) (by decide)
        have e10 := l1 10 (by decide) (by decide)
        have e13 : e 13 c = d 13 c := by rw [l2 c, if_neg (by omega)]
        have K89 : ∀ (e' : DS) (x6 : Option Value), adL d op a0 (c + 1) e' → G X 7 (WX h q kA e') [some (.ref h), some (.int (iI a0)), some (.int (iI (d 11 a0))), some (.int (iI least)), some (.int (iI next)), some (.int (iI c)), x6] 89 [] := by
          intro e' x6 hL'
          have es : e' 13 c = slA d op a0 c := by rw [hL'.2.1 c, if_pos (by omega)]
          refine g_aload_n hX dX1_advance_89 rfl ?_
          refine gx_slack hX dX1_advance_90 ?_
          refine g_iload hX dX1_advance_93 rfl ?_
          refine lx_slack hX dX1_advance_95 (by omega) ?_
          refine g_iload_n hX dX1_advance_96 rfl ?_
          refine g_icmp_ge (tgt := 112) hX dX1_advance_97 (by decide) (by omega) (by omega) (fun c_97 => ?_) (fun c_97 => ?_)
          · refine K112 e' least next _ hL' ?_
            rcases hB with ⟨b1, b2, b3⟩ | ⟨b1, b2, b3, b4, b5, b6⟩
            · refine Or.inl ⟨b1, b2, fun x x1 x2 x3 => ?_⟩
              by_cases hx : x = c
              · subst hx; omega
              · exact b3 x x1 (by omega) x3
            · refine Or.inr ⟨b1, by omega, b3, b4, b5, fun x x1 x2 x3 => ?_⟩
              by_cases hx : x = c
              · subst hx; omega
              · exact b6 x x1 (by omega) x3
          · refine g_aload_n hX dX1_advance_100 rfl ?_
            refine gx_slack hX dX1_advance_101 ?_
            refine g_iload hX dX1_advance_104 rfl ?_
            refine lx_slack hX dX1_advance_106 (by omega) ?_
            refine g_istore_n hX dX1_advance_107 (by decide) ?_
            refine g_iload hX dX1_advance_108 rfl ?_
            refine g_istore hX dX1_advance_110 (by decide) ?_
            rw [es]
            refine K112 e' _ c _ hL' (Or.inr ⟨h0, by omega, hu, rfl, by omega, fun x x1 x2 x3 => ?_⟩)
            by_cases hx : x = c
            · subst hx; omega
            · rcases hB with ⟨b1, b2, b3⟩ | ⟨b1, b2, b3, b4, b5, b6⟩
              · have := b3 x x1 (by omega) x3
                omega
              · have := b6 x x1 (by omega) x3
                omega
        refine g_aload_n hX dX1_advance_35 rfl ?_
        refine g_iload_n hX dX1_advance_36 rfl ?_
        refine g_iload hX dX1_advance_37 rfl ?_
        refine g_call hX (ct_costOf (QT_congr e0 e2 e3 e4 e5 hQ) (by omega) (by rw [e8]; exact hjob) (by omega)) (by decide) (by decide) vwX1_costOf (hdX1_costOf npX1_costOf) (ci := 0) rfl rfl rfl rfl (Nat.le_of_ble_eq_true rfl) dX1_advance_39 (fun kz _ hkz => ?_)
        rw [kc_congr e0 e2 e4 e5, e8] at hkz
        refine g_aload_n hX dX1_advance_42 rfl ?_
        refine gx_rowPrice hX dX1_advance_43 ?_
        refine g_iload_n hX dX1_advance_46 rfl ?_
        refine lx_rowPrice hX dX1_advance_47 (by omega) ?_
        refine g_isub hX dX1_advance_48 ?_
        refine g_aload_n hX dX1_advance_49 rfl ?_
        refine gx_columnPrice hX dX1_advance_50 ?_
        refine g_iload hX dX1_advance_53 rfl ?_
        refine lx_columnPrice hX dX1_advance_55 (by omega) ?_
        refine g_isub hX dX1_advance_56 ?_
        refine g_z (z' := rst d op a0 c) (by rw [hkz, e9, e10]; rfl) ?_
        refine g_istore hX dX1_advance_57 (by decide) ?_
        refine g_iload hX dX1_advance_59 rfl ?_
        refine g_aload_n hX dX1_advance_61 rfl ?_
        refine gx_slack hX dX1_advance_62 ?_
        refine g_iload hX dX1_advance_65 rfl ?_
        refine lx_slack hX dX1_advance_67 (by omega) ?_
        refine g_icmp_ge (tgt := 89) hX dX1_advance_68 (by decide) (by omega) (by omega) (fun c_68 => ?_) (fun c_68 => ?_)
        · refine K89 e _ ⟨l1, fun x => ?_, fun x => ?_⟩
          · rw [l2 x]
            by_cases hx : x = c
            · subst hx
              rw [if_neg (by omega), if_pos (by omega)]
              unfold slA
              rw [if_neg (by omega)]
            · by_cases h3 : 1 ≤ x ∧ x < c ∧ d 14 x = 0
              · rw [if_pos h3, if_pos (by omega)]
              · rw [if_neg h3, if_neg (by omega)]
          · rw [l3 x]
            by_cases hx : x = c
            · subst hx
              rw [if_neg (by omega), if_pos (by omega)]
              unfold cfA
              rw [if_neg (by omega)]
            · by_cases h3 : 1 ≤ x ∧ x < c ∧ d 14 x = 0
              · rw [if_pos h3, if_pos (by omega)]
              · rw [if_neg h3, if_neg (by omega)]
        · refine g_aload_n hX dX1_advance_71 rfl ?_
          refine gx_slack hX dX1_advance_72 ?_
          refine g_iload hX dX1_advance_75 rfl ?_
          refine g_iload hX dX1_advance_77 rfl ?_
          refine sx_slack hX dX1_advance_79 (by omega) ?_
          refine g_aload_n hX dX1_advance_80 rfl ?_
          refine gx_cameFrom hX dX1_advance_81 ?_
          refine g_iload hX dX1_advance_84 rfl ?_
          refine g_iload_n hX dX1_advance_86 rfl ?_
          refine g_i2b hX dX1_advance_87 (by omega) ?_
          refine sx_cameFrom hX dX1_advance_88 (by omega) (by omega) ?_
          refine K89 _ _ ⟨fun k k1 k2 => ?_, fun x => ?_, fun x => ?_⟩
          · rw [st1_ne k1, st1_ne k2, l1 k k1 k2]
          · rw [st1_ne (by decide), st1_at]
            by_cases hx : x = c
            · subst hx
              rw [if_pos rfl, if_pos (by omega)]
              unfold slA
              rw [if_pos (by omega)]
            · rw [if_neg hx, l2 x]
              by_cases h3 : 1 ≤ x ∧ x < c ∧ d 14 x = 0
              · rw [if_pos h3, if_pos (by omega)]
              · rw [if_neg h3, if_neg (by omega)]
          · rw [st1_at]
            by_cases hx : x = c
            · subst hx
              rw [if_pos rfl, if_pos (by omega)]
              unfold cfA
              rw [if_pos (by omega)]
            · rw [if_neg hx, st1_ne (by decide), l3 x]
              by_cases h3 : 1 ≤ x ∧ x < c ∧ d 14 x = 0
              · rw [if_pos h3, if_pos (by omega)]
              · rw [if_neg h3, if_neg (by omega)]
/-- the state ahead of column c in the second loop; b: behind the first -/
def adM (d b : DS) (least c : Int) (e : DS) : Prop := (∀ k, k ≠ 9 → k ≠ 10 → k ≠ 13 → e k = b k) ∧ (∀ x, e 10 x = if 0 ≤ x ∧ x < c ∧ d 14 x = 1 then d 10 x - least else d 10 x) ∧ (∀ x, e 13 x = if 0 ≤ x ∧ x < c ∧ d 14 x = 0 then b 13 x - least else b 13 x) ∧ (∀ x, 0 ≤ x → x < c → d 14 x = 1 → e 9 (d 11 x) = d 9 (d 11 x) + least) ∧ (∀ r, (∀ x, 0 ≤ x → x < c → d 14 x = 1 → ¬ d 11 x = r) → e 9 r = d 9 r)
set_option maxHeartbeats 4000000 in
theorem advance_loop2 {op : Int → Int → Bool} {a0 least next : Int} {b : DS} (hX : Ok X cX1_advance 7 2 RX1 (TyX kA)) (hA : adPre d op a0) (hL : adL d op a0 (d 7 0 + 1) b)
    (K : ∀ (e : DS) (lv : List (Option Value)), adM d b least (d 7 0 + 1) e → G X 7 (WX h q kA e) lv 189 [.int (iI next)]) :
    ∀ (n : Nat) (c : Int) (e : DS) (x1 x2 x6 : Option Value), 0 ≤ c → c ≤ d 7 0 + 1 → d 7 0 + 1 - c < n → adM d b least c e → G X 7 (WX h q kA e) [some (.ref h), x1, x2, some (.int (iI least)), some (.int (iI next)), some (.int (iI c)), x6] 121 [] := by
  intro n
  induction n with
  | zero => intro c e x1 x2 x6 h0 h1 h2; omega
  | succ n ih =>
    intro c e x1 x2 x6 h0 h1 h2 hM
    obtain ⟨m1, m2, m3, m4, m5⟩ := hM
    have hC := hA.2.1
    have e7 : e 7 0 = d 7 0 := by rw [m1 7 (by decide) (by decide) (by decide), hL.1 7 (by decide) (by decide)]
    refine g_iload hX dX1_advance_121 rfl ?_
    refine g_aload_n hX dX1_advance_123 rfl ?_
    refine gx_columns hX dX1_advance_124 ?_
    refine g_icmp_gt (tgt := 187) hX dX1_advance_127 (by decide) (by omega) (by omega) (fun c_127 => ?_) (fun c_127 => ?_)
    · refine g_iload hX dX1_advance_187 rfl ?_
      have : c = d 7 0 + 1 := by omega
      subst this
      exact K e _ ⟨m1, m2, m3, m4, m5⟩
    · have e14 : e 14 c = d 14 c := by rw [m1 14 (by decide) (by decide) (by decide), hL.1 14 (by decide) (by decide)]
      have e11 : e 11 c = d 11 c := by rw [m1 11 (by decide) (by decide) (by decide), hL.1 11 (by decide) (by decide)]
      have hre := hA.2.2.2.2.2.1 c (by omega) (by omega)
      refine g_aload_n hX dX1_advance_130 rfl ?_
      refine gx_reached hX dX1_advance_131 ?_
      refine g_iload hX dX1_advance_134 rfl ?_
      refine lx_reached hX dX1_advance_136 (by omega) ?_
      refine g_if_eq (tgt := 170) hX dX1_advance_137 (by decide) (by omega) (fun c_137 => ?_) (fun c_137 => ?_)
      · have hu : d 14 c = 0 := by omega
        refine g_aload_n hX dX1_advance_170 rfl ?_
        refine gx_slack hX dX1_advance_171 ?_
        refine g_iload hX dX1_advance_174 rfl ?_
        refine g_dup2 hX dX1_advance_176 rfl rfl ?_
        refine lx_slack hX dX1_advance_177 (by omega) ?_
        refine g_iload_n hX dX1_advance_178 rfl ?_
        refine g_isub hX dX1_advance_179 ?_
        refine sx_slack hX dX1_advance_180 (by omega) ?_
        refine g_iinc hX dX1_advance_181 rfl (by decide) ?_
        refine g_goto (tgt := 121) hX dX1_advance_184 (by decide) ?_
        refine ih (c + 1) _ _ _ _ (by omega) (by omega) (by omega) ⟨fun k k1 k2 k3 => ?_, fun x => ?_, fun x => ?_, fun x y1 y2 y3 => ?_, fun r hr => ?_⟩
        · rw [st1_ne k3, m1 k k1 k2 k3]
        · rw [st1_ne (by decide), m2 x]
          by_cases hx : x = c
          · subst hx
            rw [if_neg (by omega), if_neg (by omega)]
          · by_cases h3 : 0 ≤ x ∧ x < c ∧ d 14 x = 1
            · rw [if_pos h3, if_pos (by omega)]
            · rw [if_neg h3, if_neg (by omega)]
        · rw [st1_at]
          by_cases hx : x = c
          · subst hx
            rw [if_pos rfl, if_pos (by omega), m3 x, if_neg (by omega)]
          · rw [if_neg hx, m3 x]
            by_cases h3 : 0 ≤ x ∧ x < c ∧ d 14 x = 0
            · rw [if_pos h3, if_pos (by omega)]
            · rw [if_neg h3, if_neg (by omega)]
        · rw [st1_ne (by decide)]
          refine m4 x y1 ?_ y3
          by_cases hx : x = c
          · subst hx; omega
          · omega
        · rw [st1_ne (by decide)]
          exact m5 r (fun x y1 y2 y3 => hr x y1 (by omega) y3)
      · have hu : d 14 c = 1 := by omega
        have hrow := hA.2.2.2.2.2.2.2.1 c h0 (by omega) hu
        have hinj := hA.2.2.2.2.2.2.2.2
        refine g_aload_n hX dX1_advance_140 rfl ?_
        refine gx_rowPrice hX dX1_advance_141 ?_
        refine g_aload_n hX dX1_advance_144 rfl ?_
        refine gx_rowOf hX dX1_advance_145 ?_
        refine g_iload hX dX1_advance_148 rfl ?_
        refine lx_rowOf hX dX1_advance_150 (by omega) ?_
        refine g_dup2 hX dX1_advance_151 rfl rfl ?_
        refine lx_rowPrice hX dX1_advance_152 (by omega) ?_
        refine g_iload_n hX dX1_advance_153 rfl ?_
        refine g_iadd hX dX1_advance_154 ?_
        refine sx_rowPrice hX dX1_advance_155 (by omega) ?_
        refine g_aload_n hX dX1_advance_156 rfl ?_
        refine gx_columnPrice hX dX1_advance_157 ?_
        refine g_iload hX dX1_advance_160 rfl ?_
        refine g_dup2 hX dX1_advance_162 rfl rfl ?_
        refine lx_columnPrice hX dX1_advance_163 (by omega) ?_
        refine g_iload_n hX dX1_advance_164 rfl ?_
        refine g_isub hX dX1_advance_165 ?_
        refine sx_columnPrice hX dX1_advance_166 (by omega) ?_
        refine g_goto (tgt := 181) hX dX1_advance_167 (by decide) ?_
        refine g_iinc hX dX1_advance_181 rfl (by decide) ?_
        refine g_goto (tgt := 121) hX dX1_advance_184 (by decide) ?_
        refine ih (c + 1) _ _ _ _ (by omega) (by omega) (by omega) ⟨fun k k1 k2 k3 => ?_, fun x => ?_, fun x => ?_, fun x y1 y2 y3 => ?_, fun r hr => ?_⟩
        · rw [st1_ne k2, st1_ne k1, m1 k k1 k2 k3]
        · rw [st1_at]
          by_cases hx : x = c
          · subst hx
            rw [if_pos rfl, if_pos (by omega), st1_ne (by decide), m2 x, if_neg (by omega)]
          · rw [if_neg hx, st1_ne (by decide), m2 x]
            by_cases h3 : 0 ≤ x ∧ x < c ∧ d 14 x = 1
            · rw [if_pos h3, if_pos (by omega)]
            · rw [if_neg h3, if_neg (by omega)]
        · rw [st1_ne (by decide), st1_ne (by decide), m3 x]
          by_cases hx : x = c
          · subst hx
            rw [if_neg (by omega), if_neg (by omega)]
          · by_cases h3 : 0 ≤ x ∧ x < c ∧ d 14 x = 0
            · rw [if_pos h3, if_pos (by omega)]
            · rw [if_neg h3, if_neg (by omega)]
        · rw [st1_ne (by decide), st1_at, e11]
          by_cases hx : x = c
          · subst hx
            rw [if_pos rfl]
            rw [m5 (d 11 x) (fun y z1 z2 z3 z4 => by
              have := hinj y x z1 (by omega) h0 (by omega) z3 hu z4
              omega)]
          · have hne : ¬ d 11 x = d 11 c := fun z => hx (hinj x c y1 (by omega) h0 (by omega) y3 hu z)
            rw [if_neg hne]
            exact m4 x y1 (by omega) y3
        · have hne : ¬ r = d 11 c := fun z => hr c h0 (by omega) hu z.symm
          rw [st1_ne (by decide), st1_at, e11, if_neg hne]
          exact m5 r (fun x y1 y2 y3 => hr x y1 (by omega) y3)
/-- what advance does -/
def adPost (d : DS) (op : Int → Int → Bool) (a0 next : Int) (e : DS) : Prop := ∃ least : Int, bst d op a0 (d 7 0 + 1) least next ∧ (∀ k, k ≠ 9 → k ≠ 10 → k ≠ 12 → k ≠ 13 → e k = d k) ∧ (∀ x, e 10 x = if 0 ≤ x ∧ x ≤ d 7 0 ∧ d 14 x = 1 then d 10 x - least else d 10 x) ∧ (∀ x, 1 ≤ x → x ≤ d 7 0 → d 14 x = 0 → e 13 x = slA d op a0 x - least ∧ e 12 x = cfA d op a0 x) ∧ (∀ x, ¬ (1 ≤ x ∧ x ≤ d 7 0 ∧ d 14 x = 0) → e 12 x = d 12 x) ∧ (∀ x, 0 ≤ x → x ≤ d 7 0 → d 14 x = 1 → e 9 (d 11 x) = d 9 (d 11 x) + least) ∧ (∀ r, (∀ x, 0 ≤ x → x ≤ d 7 0 → d 14 x = 1 → ¬ d 11 x = r) → e 9 r = d 9 r)
set_option maxHeartbeats 4000000 in
theorem ct_advance {op : Int → Int → Bool} {a0 : Int} (hA : adPre d op a0) : Ct yX1_advance cX1_advance 7 (some .int) 2 (TyX kA) (WX h q kA d) (fun e : DS => WX h q kA e) [.ref h, .int (iI a0)] (fun z e => adPost d op a0 z e) := by
  refine ct_int (by decide) rfl (Nat.le_of_ble_eq_true rfl) (fun X hX hR => ?_)
  have hC := hA.2.1
  have ha0 := hA.2.2.1
  refine g_aload_n hX dX1_advance_0 rfl ?_
  refine gx_rowOf hX dX1_advance_1 ?_
  refine g_iload_n hX dX1_advance_4 rfl ?_
  refine lx_rowOf hX dX1_advance_5 (by omega) ?_
  refine g_istore_n hX dX1_advance_6 (by decide) ?_
  refine g_ldc hX (z := 268435456) q148 rfl dX1_advance_7 ?_
  refine g_istore_n hX dX1_advance_9 (by decide) ?_
  refine g_iconst hX dX1_advance_10 ?_
  refine g_istore hX dX1_advance_11 (by decide) ?_
  refine g_iconst hX dX1_advance_13 ?_
  refine g_istore hX dX1_advance_14 (by decide) ?_
  refine advance_loop1 hX hA (fun b least next x5 x6 hL hB => ?_) 30 1 d 268435456 0 _ (by omega) (by omega) (by omega) ⟨fun _ _ _ => rfl, fun x => by rw [if_neg (by omega)], fun x => by rw [if_neg (by omega)]⟩ (Or.inl ⟨rfl, rfl, fun x x1 x2 => by omega⟩)
  refine g_iconst hX dX1_advance_118 ?_
  refine g_istore hX dX1_advance_119 (by decide) ?_
  refine advance_loop2 hX hA hL (fun e lv hM => ?_) 30 0 b _ _ _ (by omega) (by omega) (by omega) ⟨fun _ _ _ _ => rfl, fun x => by rw [if_neg (by omega), hL.1 10 (by decide) (by decide)], fun x => by rw [if_neg (by omega)], fun x x1 x2 => by omega, fun r _ => by rw [hL.1 9 (by decide) (by decide)]⟩
  obtain ⟨l1, l2, l3⟩ := hL
  obtain ⟨m1, m2, m3, m4, m5⟩ := hM
  refine hR _ _ _ _ dX1_advance_189 ⟨least, hB, fun k k1 k2 k3 k4 => ?_, fun x => ?_, fun x x1 x2 x3 => ⟨?_, ?_⟩, fun x hx => ?_, fun x x1 x2 x3 => m4 x x1 (by omega) x3, fun r hr => m5 r (fun x x1 x2 x3 => hr x x1 (by omega) x3)⟩
  · rw [m1 k k1 k2 k4, l1 k k3 k4]
  · rw [m2 x]
    by_cases h3 : 0 ≤ x ∧ x ≤ d 7 0 ∧ d 14 x = 1
    · rw [if_pos h3, if_pos (by omega)]
    · rw [if_neg h3, if_neg (by omega)]
  · rw [m3 x, if_pos (by omega), l2 x, if_pos (by omega)]
  · rw [m1 12 (by decide) (by decide) (by decide), l3 x, if_pos (by omega)]
  · rw [m1 12 (by decide) (by decide) (by decide), l3 x, if_neg (by omega)]
end
end
section
/-! THE PLAIN LAW OF THE MATCHING: prices stay true, a chain of free edges brings a row in -/
section
theorem pig5 : ∀ a b c d e : Fin 4, a = b ∨ a = c ∨ a = d ∨ a = e ∨ b = c ∨ b = d ∨ b = e ∨ c = d ∨ c = e ∨ d = e := by decide +kernel
theorem pigI {a b c d e : Int} (ha : 1 ≤ a ∧ a ≤ 4) (hb : 1 ≤ b ∧ b ≤ 4) (hc : 1 ≤ c ∧ c ≤ 4) (hd : 1 ≤ d ∧ d ≤ 4) (he : 1 ≤ e ∧ e ≤ 4) : a = b ∨ a = c ∨ a = d ∨ a = e ∨ b = c ∨ b = d ∨ b = e ∨ c = d ∨ c = e ∨ d = e := by
  have key : ∀ x : Int, 1 ≤ x ∧ x ≤ 4 → ∃ k : Fin 4, x = (k.val : Int) + 1 := fun x hx => ⟨⟨(x - 1).toNat, by omega⟩, by show x = (((x - 1).toNat : Nat) : Int) + 1; omega⟩
  obtain ⟨a', rfl⟩ := key a ha
  obtain ⟨b', rfl⟩ := key b hb
  obtain ⟨c', rfl⟩ := key c hc
  obtain ⟨d', rfl⟩ := key d hd
  obtain ⟨e', rfl⟩ := key e he
  rcases pig5 a' b' c' d' e' with h | h | h | h | h | h | h | h | h | h <;> simp [h]
/-- prices that are true, a matching that is tight; row K stands at column 0 while it is brought in -/
def HM (C K : Int) (co : Int → Int → Int) (u v ro : Int → Int) : Prop :=
  (∀ r c, 1 ≤ r → r ≤ K → 1 ≤ c → c ≤ C → u r + v c ≤ co r c) ∧
  (∀ c, 0 ≤ c → c ≤ C → 0 ≤ ro c ∧ ro c ≤ K) ∧
  (∀ c, 1 ≤ c → c ≤ C → ro c ≠ 0 → u (ro c) + v c = co (ro c) c) ∧
  (∀ c, 1 ≤ c → c ≤ C → v c ≤ 0 ∧ (ro c = 0 → v c = 0)) ∧
  (∀ c c', 0 ≤ c → c ≤ C → 0 ≤ c' → c' ≤ C → ro c ≠ 0 → ro c = ro c' → c = c') ∧
  (∀ r, 1 ≤ r → r ≤ K → ∃ c, 0 ≤ c ∧ c ≤ C ∧ ro c = r) ∧
  (∀ r, 1 ≤ r → r ≤ K → 0 ≤ u r) ∧ ro 0 = K
/-- K rows are in -/
def HD (C K Rm : Int) (co : Int → Int → Int) (u v ro : Int → Int) : Prop :=
  (∀ r c, 1 ≤ r → r ≤ K → 1 ≤ c → c ≤ C → u r + v c ≤ co r c) ∧
  (∀ c, 1 ≤ c → c ≤ C → 0 ≤ ro c ∧ ro c ≤ K) ∧
  (∀ c, 1 ≤ c → c ≤ C → ro c ≠ 0 → u (ro c) + v c = co (ro c) c) ∧
  (∀ c, 1 ≤ c → c ≤ C → v c ≤ 0 ∧ (ro c = 0 → v c = 0)) ∧
  (∀ c c', 1 ≤ c → c ≤ C → 1 ≤ c' → c' ≤ C → ro c ≠ 0 → ro c = ro c' → c = c') ∧
  (∀ r, 1 ≤ r → r ≤ K → ∃ c, 1 ≤ c ∧ c ≤ C ∧ ro c = r) ∧
  (∀ r, 1 ≤ r → r ≤ K → 0 ≤ u r) ∧ (∀ r, K < r → r ≤ Rm → u r = 0)
/-- the search for a chain: a0 the column at hand, i columns reached -/
def SI (C K : Int) (co : Int → Int → Int) (u v ro cf sl re : Int → Int) (a0 i : Int) (rk rb : Int → Int) : Prop :=
  HM C K co u v ro ∧
  (∀ c, 0 ≤ c → c ≤ C → re c = 0 ∨ re c = 1) ∧
  (0 ≤ a0 ∧ a0 ≤ C ∧ re a0 = 0) ∧ (0 ≤ i ∧ (i = 0 → a0 = 0) ∧ (0 < i → re 0 = 1)) ∧
  (∀ c, 0 ≤ c → c ≤ C → re c = 1 → ro c ≠ 0) ∧
  (rk 0 = 0 ∧ rk a0 = i ∧ ∀ c, 0 ≤ c → c ≤ C → re c = 1 → 0 ≤ rk c ∧ rk c < i) ∧
  (∀ c, 1 ≤ c → c ≤ C → (re c = 1 ∨ c = a0) → (0 ≤ cf c ∧ cf c ≤ C) ∧ re (cf c) = 1 ∧ rk (cf c) < rk c ∧ u (ro (cf c)) + v c = co (ro (cf c)) c) ∧
  (∀ c, 1 ≤ c → c ≤ C → re c = 0 → (i = 0 → sl c = 268435456) ∧ (0 < i → (0 ≤ cf c ∧ cf c ≤ C) ∧ re (cf c) = 1 ∧ sl c = co (ro (cf c)) c - u (ro (cf c)) - v c) ∧ ∀ z, 0 ≤ z → z ≤ C → re z = 1 → sl c ≤ co (ro z) c - u (ro z) - v c) ∧
  (∀ r, rb r = 0 ∨ rb r = 1) ∧ (∀ r, rb r = 1 → ∃ c, 0 ≤ c ∧ c ≤ C ∧ re c = 1 ∧ ro c = r) ∧ (∀ c, 0 ≤ c → c ≤ C → re c = 1 → rb (ro c) = 1) ∧ rb 1 + rb 2 + rb 3 + rb 4 + rb 5 = i
variable {C K : Int} {co : Int → Int → Int} {u v ro cf sl re rk rb : Int → Int} {a0 i : Int}
theorem HM.free (hM : HM C K co u v ro) (hC : 5 ≤ C) (hK : 1 ≤ K ∧ K ≤ 5) : ∃ c, 1 ≤ c ∧ c ≤ C ∧ ro c = 0 := by
  obtain ⟨-, h2, -, -, h5, -, -, h8⟩ := hM
  have key : ∀ c, 1 ≤ c → c ≤ C → ro c ≠ 0 → 1 ≤ ro c ∧ ro c ≤ 4 := by
    intro c c1 c2 c3
    have := h2 c (by omega) c2
    have hne : ro c ≠ K := fun e => by
      have := h5 c 0 (by omega) c2 (by omega) (by omega) c3 (by rw [e, h8])
      omega
    omega
  have nn : ∀ x y, 1 ≤ x → x ≤ C → 1 ≤ y → y ≤ C → ro x ≠ 0 → x ≠ y → ro x ≠ ro y := fun x y a b c d e f g => f (h5 x y (by omega) b (by omega) d e g)
  by_cases e1 : ro 1 = 0
  · exact ⟨1, by omega, by omega, e1⟩
  by_cases e2 : ro 2 = 0
  · exact ⟨2, by omega, by omega, e2⟩
  by_cases e3 : ro 3 = 0
  · exact ⟨3, by omega, by omega, e3⟩
  by_cases e4 : ro 4 = 0
  · exact ⟨4, by omega, by omega, e4⟩
  by_cases e5 : ro 5 = 0
  · exact ⟨5, by omega, by omega, e5⟩
  exfalso
  rcases pigI (key 1 (by omega) (by omega) e1) (key 2 (by omega) (by omega) e2) (key 3 (by omega) (by omega) e3) (key 4 (by omega) (by omega) e4) (key 5 (by omega) (by omega) e5) with h | h | h | h | h | h | h | h | h | h
  · exact nn 1 2 (by omega) (by omega) (by omega) (by omega) e1 (by omega) h
  · exact nn 1 3 (by omega) (by omega) (by omega) (by omega) e1 (by omega) h
  · exact nn 1 4 (by omega) (by omega) (by omega) (by omega) e1 (by omega) h
  · exact nn 1 5 (by omega) (by omega) (by omega) (by omega) e1 (by omega) h
  · exact nn 2 3 (by omega) (by omega) (by omega) (by omega) e2 (by omega) h
  · exact nn 2 4 (by omega) (by omega) (by omega) (by omega) e2 (by omega) h
  · exact nn 2 5 (by omega) (by omega) (by omega) (by omega) e2 (by omega) h
  · exact nn 3 4 (by omega) (by omega) (by omega) (by omega) e3 (by omega) h
  · exact nn 3 5 (by omega) (by omega) (by omega) (by omega) e3 (by omega) h
  · exact nn 4 5 (by omega) (by omega) (by omega) (by omega) e4 (by omega) h
/-- the prices' ranges -/
theorem HM.rng (hM : HM C K co u v ro) (hC : 5 ≤ C) (hK : 1 ≤ K ∧ K ≤ 5) (hco : ∀ r c, 1 ≤ r → r ≤ K → 1 ≤ c → c ≤ C → 0 ≤ co r c ∧ co r c ≤ 100000) : (∀ r, 1 ≤ r → r ≤ K → 0 ≤ u r ∧ u r ≤ 100000) ∧ (∀ c, 1 ≤ c → c ≤ C → -100000 ≤ v c ∧ v c ≤ 0) := by
  obtain ⟨c0, c1, c2, c3⟩ := hM.free hC hK
  obtain ⟨h1, h2, h3, h4, h5, h6, h7, h8⟩ := hM
  have hu : ∀ r, 1 ≤ r → r ≤ K → 0 ≤ u r ∧ u r ≤ 100000 := by
    intro r r1 r2
    have a := h1 r c0 r1 r2 c1 c2
    have b := (h4 c0 c1 c2).2 c3
    have c := hco r c0 r1 r2 c1 c2
    have := h7 r r1 r2
    omega
  refine ⟨hu, fun c x1 x2 => ⟨?_, (h4 c x1 x2).1⟩⟩
  by_cases e : ro c = 0
  · have := (h4 c x1 x2).2 e
    omega
  · have a := h3 c x1 x2 e
    have b := h2 c (by omega) x2
    have c' := hu (ro c) (by omega) b.2
    have d := hco (ro c) c (by omega) b.2 x1 x2
    omega
theorem SI.cnt (hS : SI C K co u v ro cf sl re a0 i rk rb) : i ≤ 5 := by
  obtain ⟨-, -, -, -, -, -, -, -, b1, -, -, b4⟩ := hS
  have := b1 1
  have := b1 2
  have := b1 3
  have := b1 4
  have := b1 5
  omega
set_option maxHeartbeats 4000000 in
/-- one more column is reached -/
theorem SI.step (hS : SI C K co u v ro cf sl re a0 i rk rb) (hC : 5 ≤ C) (hK : 1 ≤ K ∧ K ≤ 5) (hco : ∀ r c, 1 ≤ r → r ≤ K → 1 ≤ c → c ≤ C → 0 ≤ co r c ∧ co r c ≤ 100000) (ha : ro a0 ≠ 0)
    {re1 sA cA u' v' cf' sl' : Int → Int} {least next : Int} (hre1 : ∀ x, re1 x = if x = a0 then 1 else re x)
    (hsA : ∀ c, 1 ≤ c → c ≤ C → re1 c = 0 → (co (ro a0) c - u (ro a0) - v c < sl c ∧ sA c = co (ro a0) c - u (ro a0) - v c ∧ cA c = a0) ∨ (sl c ≤ co (ro a0) c - u (ro a0) - v c ∧ sA c = sl c ∧ cA c = cf c))
    (hb : (least = 268435456 ∧ next = 0 ∧ ∀ e, 1 ≤ e → e ≤ C → re1 e = 0 → 268435456 ≤ sA e) ∨ (1 ≤ next ∧ next ≤ C ∧ re1 next = 0 ∧ sA next = least ∧ least < 268435456 ∧ ∀ e, 1 ≤ e → e ≤ C → re1 e = 0 → least ≤ sA e))
    (hv : ∀ x, 0 ≤ x → x ≤ C → (re1 x = 1 ∧ v' x = v x - least) ∨ (¬ re1 x = 1 ∧ v' x = v x))
    (hs : ∀ x, 1 ≤ x → x ≤ C → re1 x = 0 → sl' x = sA x - least ∧ cf' x = cA x)
    (hcf : ∀ x, 0 ≤ x → x ≤ C → re1 x = 1 → cf' x = cf x)
    (hu1 : ∀ x, 0 ≤ x → x ≤ C → re1 x = 1 → u' (ro x) = u (ro x) + least)
    (hu2 : ∀ r, (∀ x, 0 ≤ x → x ≤ C → re1 x = 1 → ¬ ro x = r) → u' r = u r) :
    ∃ rk' rb', SI C K co u' v' ro cf' sl' re1 next (i + 1) rk' rb' := by
  have hM := hS.1
  obtain ⟨c0, c01, c02, c03⟩ := hM.free hC hK
  obtain ⟨hur, hvr⟩ := hM.rng hC hK hco
  obtain ⟨⟨f1, f2, f3, f4, f5, f6, f7, f8⟩, s2, ⟨a1, a2, a3⟩, ⟨i0, i1, i2⟩, s5, ⟨k0, k1, k2⟩, s7, s8, b1, b2, b3, b4⟩ := hS
  have R1 : ∀ x, 0 ≤ x → x ≤ C → re1 x = 0 ∨ re1 x = 1 := by
    intro x x1 x2
    rw [hre1]
    split
    · exact Or.inr rfl
    · exact s2 x x1 x2
  have R2 : ∀ x, 0 ≤ x → x ≤ C → re1 x = 1 → ro x ≠ 0 := by
    intro x x1 x2 x3
    rw [hre1] at x3
    by_cases e : x = a0
    · rw [e]; exact ha
    · rw [if_neg e] at x3; exact s5 x x1 x2 x3
  have R3 : ∀ x, 0 ≤ x → x ≤ C → re1 x = 0 → re x = 0 ∧ x ≠ a0 := by
    intro x x1 x2 x3
    rw [hre1] at x3
    by_cases e : x = a0
    · rw [if_pos e] at x3; omega
    · rw [if_neg e] at x3; exact ⟨x3, e⟩
  have R4 : ∀ x, 0 ≤ x → x ≤ C → re1 x = 1 → x = a0 ∨ (x ≠ a0 ∧ re x = 1) := by
    intro x x1 x2 x3
    rw [hre1] at x3
    by_cases e : x = a0
    · exact Or.inl e
    · rw [if_neg e] at x3; exact Or.inr ⟨e, x3⟩
  have R5 : ∀ x, re x = 1 → re1 x = 1 := by
    intro x x3
    rw [hre1]
    split
    · rfl
    · exact x3
  have Ra : re1 a0 = 1 := by rw [hre1, if_pos rfl]
  have RR : ∀ x, 0 ≤ x → x ≤ C → re1 x = 1 → 1 ≤ ro x ∧ ro x ≤ K := by
    intro x x1 x2 x3
    have := R2 x x1 x2 x3
    have := f2 x x1 x2
    omega
  -- the new slacks
  have A1 : ∀ c, 1 ≤ c → c ≤ C → re1 c = 0 → 0 ≤ sA c ∧ sA c ≤ 200000 ∧ ((0 ≤ cA c ∧ cA c ≤ C) ∧ re1 (cA c) = 1 ∧ sA c = co (ro (cA c)) c - u (ro (cA c)) - v c) ∧ ∀ z, 0 ≤ z → z ≤ C → re1 z = 1 → sA c ≤ co (ro z) c - u (ro z) - v c := by
    intro c x1 x2 x3
    obtain ⟨r1, r2⟩ := R3 c (by omega) x2 x3
    have rr := RR a0 a1 a2 Ra
    have e1 := f1 (ro a0) c rr.1 rr.2 x1 x2
    have e2 := hco (ro a0) c rr.1 rr.2 x1 x2
    have e3 := hur (ro a0) rr.1 rr.2
    have e4 := hvr c x1 x2
    obtain ⟨t1, t2, t3⟩ := s8 c x1 x2 r1
    rcases hsA c x1 x2 x3 with ⟨g1, g2, g3⟩ | ⟨g1, g2, g3⟩
    · refine ⟨by omega, by omega, ⟨by omega, by rw [g3]; exact Ra, by rw [g3]; exact g2⟩, fun z z1 z2 z3 => ?_⟩
      rcases R4 z z1 z2 z3 with e | ⟨-, e⟩
      · rw [e]; omega
      · have := t3 z z1 z2 e
        omega
    · have hi : 0 < i := by
        rcases Int.lt_or_eq_of_le i0 with q | q
        · exact q
        · have := t1 q.symm
          omega
      obtain ⟨w1, w2, w3⟩ := t2 hi
      have ww := R2 (cf c) w1.1 w1.2 (R5 _ w2)
      have wr := RR (cf c) w1.1 w1.2 (R5 _ w2)
      have e5 := f1 (ro (cf c)) c wr.1 wr.2 x1 x2
      refine ⟨by omega, by omega, ⟨by omega, by rw [g3]; exact R5 _ w2, by rw [g3, g2]; exact w3⟩, fun z z1 z2 z3 => ?_⟩
      rcases R4 z z1 z2 z3 with e | ⟨-, e⟩
      · rw [e]; omega
      · have := t3 z z1 z2 e
        omega
  have hu0 : re1 c0 = 0 := by
    rcases R1 c0 (by omega) c02 with q | q
    · exact q
    · exact absurd c03 (R2 c0 (by omega) c02 q)
  have hB : 1 ≤ next ∧ next ≤ C ∧ re1 next = 0 ∧ sA next = least ∧ ∀ e, 1 ≤ e → e ≤ C → re1 e = 0 → least ≤ sA e := by
    rcases hb with ⟨-, -, g⟩ | ⟨g1, g2, g3, g4, g5, g6⟩
    · have e1 := g c0 c01 c02 hu0
      have e2 := (A1 c0 c01 c02 hu0).2.1
      omega
    · exact ⟨g1, g2, g3, g4, g6⟩
  obtain ⟨n1, n2, n3, n4, n5⟩ := hB
  have hl : 0 ≤ least := by
    have := (A1 next n1 n2 n3).1
    omega
  -- a row: reached or not
  have U : ∀ r, (∃ z, 0 ≤ z ∧ z ≤ C ∧ re1 z = 1 ∧ ro z = r ∧ u' r = u r + least) ∨ ((∀ z, 0 ≤ z → z ≤ C → re1 z = 1 → ¬ ro z = r) ∧ u' r = u r) := by
    intro r
    by_cases e : ∃ z, 0 ≤ z ∧ z ≤ C ∧ re1 z = 1 ∧ ro z = r
    · obtain ⟨z, z1, z2, z3, z4⟩ := e
      exact Or.inl ⟨z, z1, z2, z3, z4, by rw [← z4]; exact hu1 z z1 z2 z3⟩
    · have e' : ∀ z, 0 ≤ z → z ≤ C → re1 z = 1 → ¬ ro z = r := fun z z1 z2 z3 z4 => e ⟨z, z1, z2, z3, z4⟩
      exact Or.inr ⟨e', hu2 r e'⟩
  have hM' : HM C K co u' v' ro := by
    refine ⟨fun r c r1 r2 x1 x2 => ?_, f2, fun c x1 x2 x3 => ?_, fun c x1 x2 => ⟨?_, fun x3 => ?_⟩, f5, f6, fun r r1 r2 => ?_, f8⟩
    · have e1 := f1 r c r1 r2 x1 x2
      rcases U r with ⟨z, z1, z2, z3, z4, z5⟩ | ⟨z4, z5⟩
      · rcases hv c (by omega) x2 with ⟨g1, g2⟩ | ⟨g1, g2⟩
        · omega
        · have g3 : re1 c = 0 := by
            rcases R1 c (by omega) x2 with q | q
            · exact q
            · exact absurd q g1
          have e2 := n5 c x1 x2 g3
          have e3 := (A1 c x1 x2 g3).2.2.2 z z1 z2 z3
          rw [z4] at e3
          omega
      · rcases hv c (by omega) x2 with ⟨g1, g2⟩ | ⟨g1, g2⟩ <;> omega
    · have e1 := f3 c x1 x2 x3
      rcases hv c (by omega) x2 with ⟨g1, g2⟩ | ⟨g1, g2⟩
      · have := hu1 c (by omega) x2 g1
        omega
      · have := hu2 (ro c) (fun z z1 z2 z3 z4 => by
          have hzc := f5 z c z1 z2 (by omega) x2 (R2 z z1 z2 z3) z4
          rw [hzc] at z3
          exact g1 z3)
        omega
    · have := (f4 c x1 x2).1
      rcases hv c (by omega) x2 with ⟨g1, g2⟩ | ⟨g1, g2⟩ <;> omega
    · rcases hv c (by omega) x2 with ⟨g1, g2⟩ | ⟨g1, g2⟩
      · exact absurd x3 (R2 c (by omega) x2 g1)
      · rw [g2]; exact (f4 c x1 x2).2 x3
    · have := f7 r r1 r2
      rcases U r with ⟨z, z1, z2, z3, z4, z5⟩ | ⟨z4, z5⟩ <;> omega
  have hrow : rb (ro a0) = 0 := by
    rcases b1 (ro a0) with q | q
    · exact q
    · obtain ⟨c, x1, x2, x3, x4⟩ := b2 _ q
      have := f5 c a0 x1 x2 a1 a2 (s5 c x1 x2 x3) x4
      rw [this] at x3
      omega
  have nne : ∀ x, 0 ≤ x → x ≤ C → re1 x = 1 → x ≠ next := fun x x1 x2 x3 e => by rw [e, n3] at x3; omega
  refine ⟨fun c => if c = next then i + 1 else rk c, fun r => if r = ro a0 then 1 else rb r, hM', R1, ⟨by omega, n2, n3⟩, ⟨by omega, fun e => by omega, fun _ => ?_⟩, R2, ⟨?_, ?_, fun c x1 x2 x3 => ?_⟩, fun c x1 x2 x3 => ?_, fun c x1 x2 x3 => ⟨fun e => by omega, fun _ => ?_, fun z z1 z2 z3 => ?_⟩, fun r => ?_, fun r hr => ?_, fun c x1 x2 x3 => ?_, ?_⟩
  · rcases Int.lt_or_eq_of_le i0 with q | q
    · exact R5 0 (i2 q)
    · rw [hre1, if_pos (i1 q.symm).symm]
  · show (if 0 = next then i + 1 else rk 0) = 0
    rw [if_neg (by omega)]; exact k0
  · show (if next = next then i + 1 else rk next) = i + 1
    rw [if_pos rfl]
  · show 0 ≤ (if c = next then i + 1 else rk c) ∧ (if c = next then i + 1 else rk c) < i + 1
    rw [if_neg (nne c x1 x2 x3)]
    rcases R4 c x1 x2 x3 with e | ⟨-, e⟩
    · rw [e, k1]; omega
    · have := k2 c x1 x2 e
      omega
  · show (0 ≤ cf' c ∧ cf' c ≤ C) ∧ re1 (cf' c) = 1 ∧ (if cf' c = next then i + 1 else rk (cf' c)) < (if c = next then i + 1 else rk c) ∧ u' (ro (cf' c)) + v' c = co (ro (cf' c)) c
    by_cases e : c = next
    · subst e
      obtain ⟨g1, g2⟩ := hs c n1 n2 n3
      obtain ⟨-, -, ⟨g3, g4, g5⟩, -⟩ := A1 c n1 n2 n3
      rw [g2]
      refine ⟨g3, g4, ?_, ?_⟩
      · rw [if_neg (nne _ g3.1 g3.2 g4), if_pos rfl]
        rcases R4 _ g3.1 g3.2 g4 with e | ⟨-, e⟩
        · rw [e, k1]; omega
        · have := k2 _ g3.1 g3.2 e
          omega
      · have e1 := hu1 _ g3.1 g3.2 g4
        rcases hv c (by omega) x2 with ⟨g6, g7⟩ | ⟨g6, g7⟩
        · omega
        · omega
    · have x3 : re1 c = 1 := by
        rcases x3 with q | q
        · exact q
        · exact absurd q e
      rw [hcf c (by omega) x2 x3]
      have hh : re c = 1 ∨ c = a0 := by
        rcases R4 c (by omega) x2 x3 with q | ⟨-, q⟩
        · exact Or.inr q
        · exact Or.inl q
      obtain ⟨g1, g2, g3, g4⟩ := s7 c x1 x2 hh
      refine ⟨g1, R5 _ g2, ?_, ?_⟩
      · rw [if_neg (nne _ g1.1 g1.2 (R5 _ g2)), if_neg e]; exact g3
      · have e1 := hu1 _ g1.1 g1.2 (R5 _ g2)
        rcases hv c (by omega) x2 with ⟨g6, g7⟩ | ⟨g6, g7⟩
        · omega
        · exact absurd x3 g6
  · obtain ⟨g1, g2⟩ := hs c x1 x2 x3
    obtain ⟨-, -, ⟨g3, g4, g5⟩, -⟩ := A1 c x1 x2 x3
    rw [g2]
    refine ⟨g3, g4, ?_⟩
    have e1 := hu1 _ g3.1 g3.2 g4
    rcases hv c (by omega) x2 with ⟨g6, g7⟩ | ⟨g6, g7⟩
    · omega
    · omega
  · obtain ⟨g1, g2⟩ := hs c x1 x2 x3
    obtain ⟨-, -, -, g5⟩ := A1 c x1 x2 x3
    have e0 := g5 z z1 z2 z3
    have e1 := hu1 z z1 z2 z3
    rcases hv c (by omega) x2 with ⟨g6, g7⟩ | ⟨g6, g7⟩
    · omega
    · omega
  · show (if r = ro a0 then 1 else rb r) = 0 ∨ (if r = ro a0 then 1 else rb r) = 1
    split
    · exact Or.inr rfl
    · exact b1 r
  · have hr : (if r = ro a0 then 1 else rb r) = 1 := hr
    by_cases e : r = ro a0
    · exact ⟨a0, a1, a2, Ra, e.symm⟩
    · rw [if_neg e] at hr
      obtain ⟨c, x1, x2, x3, x4⟩ := b2 r hr
      exact ⟨c, x1, x2, R5 _ x3, x4⟩
  · show (if ro c = ro a0 then 1 else rb (ro c)) = 1
    split
    · rfl
    · rename_i hne
      rcases R4 c x1 x2 x3 with e | ⟨-, e⟩
      · exact absurd (by rw [e]) hne
      · exact b3 c x1 x2 e
  · show (if 1 = ro a0 then 1 else rb 1) + (if 2 = ro a0 then 1 else rb 2) + (if 3 = ro a0 then 1 else rb 3) + (if 4 = ro a0 then 1 else rb 4) + (if 5 = ro a0 then 1 else rb 5) = i + 1
    have rr := RR a0 a1 a2 Ra
    have hc : ro a0 = 1 ∨ ro a0 = 2 ∨ ro a0 = 3 ∨ ro a0 = 4 ∨ ro a0 = 5 := by omega
    rcases hc with e | e | e | e | e <;> rw [e] at hrow ⊢ <;> simp <;> omega
end
end
section
/-! THE PLAIN LAW OF THE MATCHING: the chain is turned -/
section
/-- the chain is being turned: b is the column that has no row of its own; ro0: the rows before -/
def AI (C K : Int) (co : Int → Int → Int) (u v re ro0 rk : Int → Int) (a0 : Int) (ro : Int → Int) (b n : Int) : Prop :=
  (0 ≤ b ∧ b ≤ C) ∧ (re b = 1 ∨ b = a0) ∧
  (∀ c, 0 ≤ c → c ≤ C → c ≠ b → 0 ≤ ro c ∧ ro c ≤ K) ∧
  (∀ c c', 0 ≤ c → c ≤ C → 0 ≤ c' → c' ≤ C → c ≠ b → c' ≠ b → ro c ≠ 0 → ro c = ro c' → c = c') ∧
  (∀ r, 1 ≤ r → r ≤ K → ∃ c, 0 ≤ c ∧ c ≤ C ∧ c ≠ b ∧ ro c = r) ∧
  (∀ c, 1 ≤ c → c ≤ C → c ≠ b → ro c ≠ 0 → u (ro c) + v c = co (ro c) c) ∧
  (∀ c, 1 ≤ c → c ≤ C → c ≠ b → ro c = 0 → v c = 0) ∧
  (∀ c, 0 ≤ c → c ≤ C → re c = 1 → rk c < rk b → ro c = ro0 c) ∧ 0 ≤ rk b ∧ rk b + n ≤ 5
variable {C K : Int} {co : Int → Int → Int} {u v ro cf sl re rk rb : Int → Int} {a0 i : Int}
theorem SI.aug (hS : SI C K co u v ro cf sl re a0 i rk rb) (ha : ro a0 = 0) : AI C K co u v re ro rk a0 ro a0 0 := by
  have h5 := hS.cnt
  obtain ⟨⟨f1, f2, f3, f4, f5, f6, f7, f8⟩, s2, ⟨a1, a2, a3⟩, ⟨i0, i1, i2⟩, s5, ⟨k0, k1, k2⟩, s7, s8, b1, b2, b3, b4⟩ := hS
  refine ⟨⟨a1, a2⟩, Or.inr rfl, fun c x1 x2 _ => f2 c x1 x2, fun c c' x1 x2 y1 y2 _ _ z1 z2 => f5 c c' x1 x2 y1 y2 z1 z2, fun r r1 r2 => ?_, fun c x1 x2 _ x3 => f3 c x1 x2 x3, fun c x1 x2 _ x3 => (f4 c x1 x2).2 x3, fun _ _ _ _ _ => rfl, by omega, by omega⟩
  obtain ⟨c, x1, x2, x3⟩ := f6 r r1 r2
  exact ⟨c, x1, x2, fun e => by rw [e, ha] at x3; omega, x3⟩
theorem AI.step {ro' : Int → Int} {b n : Int} (hS : SI C K co u v ro cf sl re a0 i rk rb) (hA : AI C K co u v re ro rk a0 ro' b n) (hb : b ≠ 0) :
    (0 ≤ cf b ∧ cf b ≤ C) ∧ (0 ≤ ro' (cf b) ∧ ro' (cf b) ≤ K) ∧ AI C K co u v re ro rk a0 (fun x => if x = b then ro' (cf b) else ro' x) (cf b) (n + 1) := by
  obtain ⟨⟨f1, f2, f3, f4, f5, f6, f7, f8⟩, s2, ⟨a1, a2, a3⟩, ⟨i0, i1, i2⟩, s5, ⟨k0, k1, k2⟩, s7, s8, b1, b2, b3, b4⟩ := hS
  obtain ⟨⟨g1, g2⟩, g3, g4, g5, g6, g7, g8, g9, g10, g11⟩ := hA
  obtain ⟨t1, t2, t3, t4⟩ := s7 b (by omega) g2 g3
  have hne : cf b ≠ b := fun e => by rw [e] at t3; omega
  have hro := g9 (cf b) t1.1 t1.2 t2 t3
  have hn0 : ro' (cf b) ≠ 0 := by rw [hro]; exact s5 _ t1.1 t1.2 t2
  have hk := k2 (cf b) t1.1 t1.2 t2
  have hr := g4 (cf b) t1.1 t1.2 hne
  refine ⟨t1, hr, t1, Or.inl t2, fun c x1 x2 x3 => ?_, fun c c' x1 x2 y1 y2 z1 z2 z3 z4 => ?_, fun r r1 r2 => ?_, fun c x1 x2 x3 x4 => ?_, fun c x1 x2 x3 x4 => ?_, fun c x1 x2 x3 x4 => ?_, by omega, by omega⟩
  · show 0 ≤ (if c = b then ro' (cf b) else ro' c) ∧ (if c = b then ro' (cf b) else ro' c) ≤ K
    by_cases e : c = b
    · rw [if_pos e]; exact hr
    · rw [if_neg e]; exact g4 c x1 x2 e
  · have z3 : (if c = b then ro' (cf b) else ro' c) ≠ 0 := z3
    have z4 : (if c = b then ro' (cf b) else ro' c) = (if c' = b then ro' (cf b) else ro' c') := z4
    by_cases e : c = b
    · by_cases e' : c' = b
      · rw [e, e']
      · rw [if_pos e, if_neg e'] at z4
        exact absurd (g5 (cf b) c' t1.1 t1.2 y1 y2 hne e' hn0 z4) (fun q => z2 q.symm)
    · by_cases e' : c' = b
      · rw [if_neg e, if_pos e'] at z4
        exact absurd (g5 (cf b) c t1.1 t1.2 x1 x2 hne e hn0 z4.symm) (fun q => z1 q.symm)
      · rw [if_neg e] at z3
        rw [if_neg e, if_neg e'] at z4
        exact g5 c c' x1 x2 y1 y2 e e' z3 z4
  · obtain ⟨c, x1, x2, x3, x4⟩ := g6 r r1 r2
    by_cases e : c = cf b
    · refine ⟨b, g1, g2, fun q => hne q.symm, ?_⟩
      show (if b = b then ro' (cf b) else ro' b) = r
      rw [if_pos rfl, ← e]; exact x4
    · refine ⟨c, x1, x2, e, ?_⟩
      show (if c = b then ro' (cf b) else ro' c) = r
      rw [if_neg x3]; exact x4
  · have x4 : (if c = b then ro' (cf b) else ro' c) ≠ 0 := x4
    show u (if c = b then ro' (cf b) else ro' c) + v c = co (if c = b then ro' (cf b) else ro' c) c
    by_cases e : c = b
    · rw [if_pos e, hro, e]; exact t4
    · rw [if_neg e] at x4 ⊢; exact g7 c x1 x2 e x4
  · have x4 : (if c = b then ro' (cf b) else ro' c) = 0 := x4
    by_cases e : c = b
    · rw [if_pos e] at x4; exact absurd x4 hn0
    · rw [if_neg e] at x4; exact g8 c x1 x2 e x4
  · show (if c = b then ro' (cf b) else ro' c) = ro c
    have hcb : c ≠ b := fun e => by rw [e] at x4; omega
    rw [if_neg hcb]
    exact g9 c x1 x2 x3 (by omega)
theorem AI.done {ro' : Int → Int} {n Rm : Int} (hS : SI C K co u v ro cf sl re a0 i rk rb) (hu : ∀ r, K < r → r ≤ Rm → u r = 0) (hA : AI C K co u v re ro rk a0 ro' 0 n) : HD C K Rm co u v ro' := by
  obtain ⟨⟨f1, f2, f3, f4, f5, f6, f7, f8⟩, -⟩ := hS
  obtain ⟨⟨g1, g2⟩, g3, g4, g5, g6, g7, g8, g9, g10, g11⟩ := hA
  refine ⟨f1, fun c x1 x2 => g4 c (by omega) x2 (by omega), fun c x1 x2 x3 => g7 c x1 x2 (by omega) x3, fun c x1 x2 => ⟨(f4 c x1 x2).1, fun x3 => g8 c x1 x2 (by omega) x3⟩, fun c c' x1 x2 y1 y2 z1 z2 => g5 c c' (by omega) x2 (by omega) y2 (by omega) (by omega) z1 z2, fun r r1 r2 => ?_, f7, hu⟩
  obtain ⟨c, x1, x2, x3, x4⟩ := g6 r r1 r2
  exact ⟨c, by omega, x2, x4⟩
/-- a row is put at column 0 -/
theorem HD.enter {ro' : Int → Int} {Rm : Int} (hRm : K ≤ Rm) (hD : HD C (K - 1) Rm co u v ro) (hC : 0 ≤ C) (hK : 1 ≤ K ∧ K ≤ 5) (hco : ∀ c, 1 ≤ c → c ≤ C → 0 ≤ co K c) (h0 : ro' 0 = K) (h1 : ∀ x, 1 ≤ x → x ≤ C → ro' x = ro x) : HM C K co u v ro' := by
  obtain ⟨f1, f2, f3, f4, f5, f6, f7, f8⟩ := hD
  have key : ∀ c, 0 ≤ c → c ≤ C → c = 0 ∨ (1 ≤ c ∧ ro' c = ro c ∧ 0 ≤ ro c ∧ ro c ≤ K - 1) := by
    intro c x1 x2
    by_cases e : c = 0
    · exact Or.inl e
    · have := f2 c (by omega) x2
      exact Or.inr ⟨by omega, h1 c (by omega) x2, this.1, this.2⟩
  refine ⟨fun r c r1 r2 x1 x2 => ?_, fun c x1 x2 => ?_, fun c x1 x2 x3 => ?_, fun c x1 x2 => ?_, fun c c' x1 x2 y1 y2 z1 z2 => ?_, fun r r1 r2 => ?_, fun r r1 r2 => ?_, h0⟩
  · by_cases e : r = K
    · subst e
      have := f8 r (by omega) (by omega)
      have := (f4 c x1 x2).1
      have := hco c x1 x2
      omega
    · exact f1 r c r1 (by omega) x1 x2
  · rcases key c x1 x2 with e | ⟨e1, e2, e3, e4⟩
    · rw [e, h0]; omega
    · rw [e2]; omega
  · rw [h1 c x1 x2] at x3 ⊢
    exact f3 c x1 x2 x3
  · rw [h1 c x1 x2]
    exact f4 c x1 x2
  · rcases key c x1 x2 with e | ⟨e1, e2, e3, e4⟩
    · rcases key c' y1 y2 with e' | ⟨e1', e2', e3', e4'⟩
      · rw [e, e']
      · rw [e, h0, e2'] at z2; omega
    · rcases key c' y1 y2 with e' | ⟨e1', e2', e3', e4'⟩
      · rw [e', h0, e2] at z2; omega
      · rw [e2] at z1; rw [e2, e2'] at z2
        exact f5 c c' e1 x2 e1' y2 z1 z2
  · by_cases e : r = K
    · exact ⟨0, by omega, hC, by rw [h0, e]⟩
    · obtain ⟨c, x1, x2, x3⟩ := f6 r r1 (by omega)
      exact ⟨c, by omega, x2, by rw [h1 c x1 x2]; exact x3⟩
  · by_cases e : r = K
    · subst e
      have := f8 r (by omega) (by omega)
      omega
    · exact f7 r r1 (by omega)
/-- nothing is reached yet -/
theorem HM.begin (hM : HM C K co u v ro) (hC : 0 ≤ C) (hre : ∀ c, 0 ≤ c → c ≤ C → re c = 0) (hsl : ∀ c, 0 ≤ c → c ≤ C → sl c = 268435456) : SI C K co u v ro cf sl re 0 0 (fun _ => 0) (fun _ => 0) := by
  have no : ∀ {p : Prop} c, 0 ≤ c → c ≤ C → re c = 1 → p := by
    intro p c x1 x2 x3
    rw [hre c x1 x2] at x3
    omega
  refine ⟨hM, fun c x1 x2 => Or.inl (hre c x1 x2), ⟨by omega, hC, hre 0 (by omega) hC⟩, ⟨by omega, fun _ => rfl, fun q => by omega⟩, fun c x1 x2 x3 => no c x1 x2 x3, ⟨rfl, rfl, fun c x1 x2 x3 => no c x1 x2 x3⟩, fun c x1 x2 x3 => ?_, fun c x1 x2 x3 => ⟨fun _ => hsl c (by omega) x2, fun q => by omega, fun z z1 z2 z3 => no z z1 z2 z3⟩, fun _ => Or.inl rfl, fun r q => ?_, fun c x1 x2 x3 => no c x1 x2 x3, rfl⟩
  · rcases x3 with q | q
    · exact no c (by omega) x2 q
    · omega
  · exact absurd (show (0 : Int) = 1 from q) (by decide)
end
end
section
/-! DESK: insert -/
section
set_option maxRecDepth 100000
variable {h : Nat} {q : Nat → Nat} {kA : Nat → ClassId} {d : DS} {X : Cx}
/-- the cost of row r at column c -/
def coR (d : DS) (op : Int → Int → Bool) : Int → Int → Int := fun r c => kc d op (d 8 r) c
/-- all but the fields of the matching stay -/
def kp (d e : DS) : Prop := ∀ k, k ≠ 9 → k ≠ 10 → k ≠ 11 → k ≠ 12 → k ≠ 13 → k ≠ 14 → e k = d k
theorem kp.qt {e : DS} {op : Int → Int → Bool} (hk : kp d e) (hq : QT d op) : QT e op :=
  QT_congr (hk 0 (by decide) (by decide) (by decide) (by decide) (by decide) (by decide)) (hk 2 (by decide) (by decide) (by decide) (by decide) (by decide) (by decide)) (hk 3 (by decide) (by decide) (by decide) (by decide) (by decide) (by decide)) (hk 4 (by decide) (by decide) (by decide) (by decide) (by decide) (by decide)) (hk 5 (by decide) (by decide) (by decide) (by decide) (by decide) (by decide)) hq
theorem kp.co {e : DS} {op : Int → Int → Bool} (hk : kp d e) : coR e op = coR d op := by
  unfold coR
  rw [kc_congr (hk 0 (by decide) (by decide) (by decide) (by decide) (by decide) (by decide)) (hk 2 (by decide) (by decide) (by decide) (by decide) (by decide) (by decide)) (hk 4 (by decide) (by decide) (by decide) (by decide) (by decide) (by decide)) (hk 5 (by decide) (by decide) (by decide) (by decide) (by decide) (by decide)), hk 8 (by decide) (by decide) (by decide) (by decide) (by decide) (by decide)]
set_option maxHeartbeats 4000000 in
theorem insert_loop1 {r : Int} {d1 : DS} (hX : Ok X cX1_insert 5 3 RX1 (TyX kA)) (hC : 5 ≤ d1 7 0 ∧ d1 7 0 ≤ 20)
    (K : ∀ (e : DS) (x2 : Option Value), (∀ k, k ≠ 12 → k ≠ 13 → k ≠ 14 → e k = d1 k) → (∀ x, 0 ≤ x → x ≤ d1 7 0 → e 13 x = 268435456 ∧ e 14 x = 0) → G X 5 (WX h q kA e) [some (.ref h), some (.int (iI r)), x2, none, none] 46 []) :
    ∀ (n : Nat) (c : Int) (e : DS), 0 ≤ c → c ≤ d1 7 0 + 1 → d1 7 0 + 1 - c < n → (∀ k, k ≠ 12 → k ≠ 13 → k ≠ 14 → e k = d1 k) → (∀ x, 0 ≤ x → x < c → e 13 x = 268435456 ∧ e 14 x = 0) → G X 5 (WX h q kA e) [some (.ref h), some (.int (iI r)), some (.int (iI c)), none, none] 10 [] := by
  intro n
  induction n with
  | zero => intro c e h0 h1 h2; omega
  | succ n ih =>
    intro c e h0 h1 h2 l1 l2
    have e7 : e 7 0 = d1 7 0 := by rw [l1 7 (by decide) (by decide) (by decide)]
    refine g_iload_n hX dX1_insert_10 rfl ?_
    refine g_aload_n hX dX1_insert_11 rfl ?_
    refine gx_columns hX dX1_insert_12 ?_
    refine g_icmp_gt (tgt := 46) hX dX1_insert_15 (by decide) (by omega) (by omega) (fun c_15 => ?_) (fun c_15 => ?_)
    · exact K e _ l1 (fun x x1 x2 => l2 x x1 (by omega))
    · refine g_aload_n hX dX1_insert_18 rfl ?_
      refine gx_slack hX dX1_insert_19 ?_
      refine g_iload_n hX dX1_insert_22 rfl ?_
      refine g_ldc hX (z := 268435456) q148 rfl dX1_insert_23 ?_
      refine sx_slack hX dX1_insert_25 (by omega) ?_
      refine g_aload_n hX dX1_insert_26 rfl ?_
      refine gx_reached hX dX1_insert_27 ?_
      refine g_iload_n hX dX1_insert_30 rfl ?_
      refine g_iconst hX dX1_insert_31 ?_
      refine sx_reached hX dX1_insert_32 (by omega) (by omega) ?_
      refine g_aload_n hX dX1_insert_33 rfl ?_
      refine gx_cameFrom hX dX1_insert_34 ?_
      refine g_iload_n hX dX1_insert_37 rfl ?_
      refine g_iconst hX dX1_insert_38 ?_
      refine sx_cameFrom hX dX1_insert_39 (by omega) (by omega) ?_
      refine g_iinc hX dX1_insert_40 rfl (by decide) ?_
      refine g_goto (tgt := 10) hX dX1_insert_43 (by decide) ?_
      refine ih (c + 1) _ (by omega) (by omega) (by omega) (fun k k1 k2 k3 => ?_) (fun x x1 x2 => ?_)
      · rw [st1_ne k1, st1_ne k3, st1_ne k2, l1 k k1 k2 k3]
      · rw [st1_ne (by decide), st1_ne (by decide), st1_at, st1_ne (by decide), st1_at, st1_ne (by decide)]
        by_cases hx : x = c
        · rw [if_pos hx, if_pos hx]; exact ⟨rfl, rfl⟩
        · rw [if_neg hx, if_neg hx]; exact l2 x x1 (by omega)
set_option maxHeartbeats 4000000 in
theorem insert_loop3 {op : Int → Int → Bool} {r a0 i Rm : Int} {b : DS} {rk rb : Int → Int} (hX : Ok X cX1_insert 5 3 RX1 (TyX kA)) (hC : 5 ≤ b 7 0 ∧ b 7 0 ≤ 20) (hr : 1 ≤ r ∧ r ≤ 5) (hu : ∀ x, r < x → x ≤ Rm → b 9 x = 0) (hS : SI (b 7 0) r (coR b op) (b 9) (b 10) (b 11) (b 12) (b 13) (b 14) a0 i rk rb)
    (K : ∀ (e : DS) (lv : List (Option Value)), (∀ k, k ≠ 11 → e k = b k) → HD (b 7 0) r Rm (coR b op) (b 9) (b 10) (e 11) → G X 5 (WX h q kA e) lv 128 []) :
    ∀ (n : Nat) (m c : Int) (e : DS) (x4 : Option Value), 0 ≤ m → 6 - m < n → (∀ k, k ≠ 11 → e k = b k) → AI (b 7 0) r (coR b op) (b 9) (b 10) (b 14) (b 11) rk a0 (e 11) c m → G X 5 (WX h q kA e) [some (.ref h), some (.int (iI r)), some (.int (iI c)), some (.int (iI m)), x4] 89 [] := by
  intro n
  induction n with
  | zero =>
    intro m c e x4 h0 h1 l1 hA
    have := hA.2.2.2.2.2.2.2.2
    omega
  | succ n ih =>
    intro m c e x4 h0 h1 l1 hA
    have hrk := hA.2.2.2.2.2.2.2.2
    have hc := hA.1
    refine g_iload_n hX dX1_insert_89 rfl ?_
    refine g_iconst hX dX1_insert_90 ?_
    refine g_icmp_gt (tgt := 128) hX dX1_insert_91 (by decide) (by omega) (by omega) (fun c_91 => absurd c_91 (by omega)) (fun c_91 => ?_)
    refine g_iload_n hX dX1_insert_94 rfl ?_
    refine g_if_eq (tgt := 128) hX dX1_insert_95 (by decide) (by omega) (fun c_95 => ?_) (fun c_95 => ?_)
    · subst c_95
      exact K e _ l1 (hA.done hS hu)
    · obtain ⟨t1, t2, t3⟩ := hA.step hS c_95
      have e12 : e 12 c = b 12 c := by rw [l1 12 (by decide)]
      rw [← e12] at t1 t2 t3
      refine g_aload_n hX dX1_insert_98 rfl ?_
      refine gx_cameFrom hX dX1_insert_99 ?_
      refine g_iload_n hX dX1_insert_102 rfl ?_
      refine lx_cameFrom hX dX1_insert_103 (by omega) ?_
      refine g_istore hX dX1_insert_104 (by decide) ?_
      refine g_aload_n hX dX1_insert_106 rfl ?_
      refine gx_rowOf hX dX1_insert_107 ?_
      refine g_iload_n hX dX1_insert_110 rfl ?_
      refine g_aload_n hX dX1_insert_111 rfl ?_
      refine gx_rowOf hX dX1_insert_112 ?_
      refine g_iload hX dX1_insert_115 rfl ?_
      refine lx_rowOf hX dX1_insert_117 (by omega) ?_
      refine sx_rowOf hX dX1_insert_118 (by omega) (by omega) ?_
      refine g_iload hX dX1_insert_119 rfl ?_
      refine g_istore_n hX dX1_insert_121 (by decide) ?_
      refine g_iinc hX dX1_insert_122 rfl (by decide) ?_
      refine g_goto (tgt := 89) hX dX1_insert_125 (by decide) ?_
      refine ih (m + 1) (e 12 c) _ _ (by omega) (by omega) (fun k k1 => ?_) ?_
      · rw [st1_ne k1, l1 k k1]
      · have : st1 e 11 c (e 11 (e 12 c)) 11 = fun x => if x = c then e 11 (e 12 c) else e 11 x := by
          funext x
          rw [st1_at]
        rw [this]
        exact t3
set_option maxHeartbeats 4000000 in
theorem insert_adv {op : Int → Int → Bool} {r a0 i : Int} {e : DS} {rk rb : Int → Int} (hQ : QT e op) (hC : 5 ≤ e 7 0 ∧ e 7 0 ≤ 20) (hr : 1 ≤ r ∧ r ≤ 5) (hj : ∀ x, 1 ≤ x → x ≤ r → 0 ≤ e 8 x ∧ e 8 x < 5) (hS : SI (e 7 0) r (coR e op) (e 9) (e 10) (e 11) (e 12) (e 13) (e 14) a0 i rk rb) (ha : ¬ e 11 a0 = 0) : adPre (st1 e 14 a0 1) op a0 := by
  have hco : ∀ x c, 1 ≤ x → x ≤ r → 1 ≤ c → c ≤ e 7 0 → 0 ≤ coR e op x c ∧ coR e op x c ≤ 100000 := fun x c x1 x2 c1 c2 => kc_rng hQ (hj x x1 x2) c1
  obtain ⟨hur, hvr⟩ := hS.1.rng hC.1 hr hco
  obtain ⟨⟨f1, f2, f3, f4, f5, f6, f7, f8⟩, s2, ⟨a1, a2, a3⟩, ⟨i0, i1, i2⟩, s5, ⟨k0, k1, k2⟩, s7, s8, b1, b2, b3, b4⟩ := hS
  have n7 : st1 e 14 a0 1 7 = e 7 := st1_ne (by decide)
  have n8 : st1 e 14 a0 1 8 = e 8 := st1_ne (by decide)
  have n9 : st1 e 14 a0 1 9 = e 9 := st1_ne (by decide)
  have n10 : st1 e 14 a0 1 10 = e 10 := st1_ne (by decide)
  have n11 : st1 e 14 a0 1 11 = e 11 := st1_ne (by decide)
  have n12 : st1 e 14 a0 1 12 = e 12 := st1_ne (by decide)
  have n13 : st1 e 14 a0 1 13 = e 13 := st1_ne (by decide)
  have R2 : ∀ x, 0 ≤ x → x ≤ e 7 0 → st1 e 14 a0 1 14 x = 1 → e 11 x ≠ 0 := by
    intro x x1 x2 x3
    rw [st1_at] at x3
    by_cases z : x = a0
    · rw [z]; exact ha
    · rw [if_neg z] at x3; exact s5 x x1 x2 x3
  have ra := f2 a0 a1 a2
  have hk : kc (st1 e 14 a0 1) op = kc e op := kc_congr (st1_ne (by decide)) (st1_ne (by decide)) (st1_ne (by decide)) (st1_ne (by decide))
  unfold adPre
  rw [n7, n8, n11, n13]
  refine ⟨QT_congr (st1_ne (by decide)) (st1_ne (by decide)) (st1_ne (by decide)) (st1_ne (by decide)) (st1_ne (by decide)) hQ, hC, ⟨a1, a2⟩, by omega, hj _ (by omega) (by omega), fun x x1 x2 => ?_, fun x x1 x2 x3 => ⟨?_, ?_⟩, fun x x1 x2 x3 => ?_, fun x x' x1 x2 y1 y2 z1 z2 z3 => f5 x x' x1 x2 y1 y2 (R2 x x1 x2 z1) z3⟩
  · rw [st1_at]
    split
    · exact Or.inr rfl
    · exact s2 x x1 x2
  · have g1 := f1 (e 11 a0) x (by omega) (by omega) x1 x2
    have g2 := hco (e 11 a0) x (by omega) (by omega) x1 x2
    have g3 := hur (e 11 a0) (by omega) (by omega)
    have g4 := hvr x x1 x2
    have g5 : rst (st1 e 14 a0 1) op a0 x = coR e op (e 11 a0) x - e 9 (e 11 a0) - e 10 x := by
      unfold rst coR
      rw [hk, n8, n9, n10, n11]
    rw [g5]
    omega
  · rw [st1_at] at x3
    by_cases z : x = a0
    · rw [if_pos z] at x3; omega
    · rw [if_neg z] at x3
      obtain ⟨t1, t2, t3⟩ := s8 x x1 x2 x3
      rcases Int.lt_or_eq_of_le i0 with w | w
      · obtain ⟨w1, w2, w3⟩ := t2 w
        have wn := s5 _ w1.1 w1.2 w2
        have wr := f2 _ w1.1 w1.2
        have g1 := f1 (e 11 (e 12 x)) x (by omega) (by omega) x1 x2
        have g2 := hco (e 11 (e 12 x)) x (by omega) (by omega) x1 x2
        have g3 := hur (e 11 (e 12 x)) (by omega) (by omega)
        have g4 := hvr x x1 x2
        omega
      · have := t1 w.symm
        omega
  · have := R2 x x1 x2 x3
    have := f2 x x1 x2
    omega
set_option maxHeartbeats 4000000 in
theorem insert_si {op : Int → Int → Bool} {r a0 i next Rm : Int} {e e' : DS} {rk rb : Int → Int} (hQ : QT e op) (hC : 5 ≤ e 7 0 ∧ e 7 0 ≤ 20) (hr : 1 ≤ r ∧ r ≤ 5) (hj : ∀ x, 1 ≤ x → x ≤ r → 0 ≤ e 8 x ∧ e 8 x < 5) (hS : SI (e 7 0) r (coR e op) (e 9) (e 10) (e 11) (e 12) (e 13) (e 14) a0 i rk rb) (ha : ¬ e 11 a0 = 0) (hu : ∀ x, r < x → x ≤ Rm → e 9 x = 0) (hP : adPost (st1 e 14 a0 1) op a0 next e') : (∀ k, k ≠ 9 → k ≠ 10 → k ≠ 12 → k ≠ 13 → k ≠ 14 → e' k = e k) ∧ (∀ x, r < x → x ≤ Rm → e' 9 x = 0) ∧ ∃ rk' rb', SI (e 7 0) r (coR e op) (e' 9) (e' 10) (e' 11) (e' 12) (e' 13) (e' 14) next (i + 1) rk' rb' := by
  have hco : ∀ x c, 1 ≤ x → x ≤ r → 1 ≤ c → c ≤ e 7 0 → 0 ≤ coR e op x c ∧ coR e op x c ≤ 100000 := fun x c x1 x2 c1 c2 => kc_rng hQ (hj x x1 x2) c1
  have n7 : st1 e 14 a0 1 7 = e 7 := st1_ne (by decide)
  have n8 : st1 e 14 a0 1 8 = e 8 := st1_ne (by decide)
  have n9 : st1 e 14 a0 1 9 = e 9 := st1_ne (by decide)
  have n10 : st1 e 14 a0 1 10 = e 10 := st1_ne (by decide)
  have n11 : st1 e 14 a0 1 11 = e 11 := st1_ne (by decide)
  have n12 : st1 e 14 a0 1 12 = e 12 := st1_ne (by decide)
  have n13 : st1 e 14 a0 1 13 = e 13 := st1_ne (by decide)
  have hk : kc (st1 e 14 a0 1) op = kc e op := kc_congr (st1_ne (by decide)) (st1_ne (by decide)) (st1_ne (by decide)) (st1_ne (by decide))
  have g5 : ∀ x, rst (st1 e 14 a0 1) op a0 x = coR e op (e 11 a0) x - e 9 (e 11 a0) - e 10 x := by
    intro x
    unfold rst coR
    rw [hk, n8, n9, n10, n11]
  obtain ⟨least, p1, p2, p3, p4, p5, p6, p7⟩ := hP
  rw [n7] at p1 p3 p4 p5 p6 p7
  rw [n10] at p3
  rw [n9, n11] at p6
  rw [n9, n11] at p7
  rw [n12] at p5
  have h11 : e' 11 = e 11 := by rw [p2 11 (by decide) (by decide) (by decide) (by decide), n11]
  have h14 : e' 14 = st1 e 14 a0 1 14 := p2 14 (by decide) (by decide) (by decide) (by decide)
  have f2 := hS.1.2.1
  refine ⟨fun k k1 k2 k3 k4 k5 => by rw [p2 k k1 k2 k3 k4, st1_ne k5], fun x x1 x2 => ?_, ?_⟩
  · rw [p7 x (fun y y1 y2 y3 y4 => by have := f2 y y1 y2; omega)]
    exact hu x x1 x2
  · rw [h11, h14]
    refine hS.step hC.1 hr hco ha (re1 := st1 e 14 a0 1 14) (sA := slA (st1 e 14 a0 1) op a0) (cA := cfA (st1 e 14 a0 1) op a0) (least := least) (fun x => st1_at) (fun c c1 c2 c3 => ?_) ?_ (fun x x1 x2 => ?_) p4 (fun x x1 x2 x3 => p5 x (by omega)) p6 p7
    · unfold slA cfA
      rw [g5, n13, n12]
      by_cases z : coR e op (e 11 a0) c - e 9 (e 11 a0) - e 10 c < e 13 c
      · rw [if_pos z, if_pos z]; exact Or.inl ⟨z, rfl, rfl⟩
      · rw [if_neg z, if_neg z]; exact Or.inr ⟨by omega, rfl, rfl⟩
    · rcases p1 with ⟨b1, b2, b3⟩ | ⟨b1, b2, b3, b4, b5, b6⟩
      · exact Or.inl ⟨b1, b2, fun x x1 x2 x3 => b3 x x1 (by omega) x3⟩
      · exact Or.inr ⟨b1, by omega, b3, b4, b5, fun x x1 x2 x3 => b6 x x1 (by omega) x3⟩
    · have := p3 x
      by_cases z : st1 e 14 a0 1 14 x = 1
      · rw [if_pos ⟨x1, x2, z⟩] at this; exact Or.inl ⟨z, this⟩
      · rw [if_neg (fun w => z w.2.2)] at this; exact Or.inr ⟨z, this⟩
set_option maxHeartbeats 4000000 in
theorem insert_loop2 {op : Int → Int → Bool} {r Rm : Int} {b : DS} (hX : Ok X cX1_insert 5 3 RX1 (TyX kA)) (hQ : QT b op) (hC : 5 ≤ b 7 0 ∧ b 7 0 ≤ 20) (hr : 1 ≤ r ∧ r ≤ 5) (hj : ∀ x, 1 ≤ x → x ≤ r → 0 ≤ b 8 x ∧ b 8 x < 5)
    (K : ∀ (e : DS) (a0 i : Int) (rk rb : Int → Int) (x4 : Option Value), (∀ k, k ≠ 9 → k ≠ 10 → k ≠ 12 → k ≠ 13 → k ≠ 14 → e k = b k) → (∀ x, r < x → x ≤ Rm → e 9 x = 0) → SI (e 7 0) r (coR e op) (e 9) (e 10) (e 11) (e 12) (e 13) (e 14) a0 i rk rb → e 11 a0 = 0 → G X 5 (WX h q kA e) [some (.ref h), some (.int (iI r)), some (.int (iI a0)), some (.int (iI i)), x4] 87 []) :
    ∀ (n : Nat) (a0 i : Int) (e : DS) (rk rb : Int → Int) (x4 : Option Value), 6 - i < n → (∀ k, k ≠ 9 → k ≠ 10 → k ≠ 12 → k ≠ 13 → k ≠ 14 → e k = b k) → (∀ x, r < x → x ≤ Rm → e 9 x = 0) → SI (e 7 0) r (coR e op) (e 9) (e 10) (e 11) (e 12) (e 13) (e 14) a0 i rk rb → G X 5 (WX h q kA e) [some (.ref h), some (.int (iI r)), some (.int (iI a0)), some (.int (iI i)), x4] 50 [] := by
  intro n
  induction n with
  | zero =>
    intro a0 i e rk rb x4 h1 l1 l2 hS
    have := hS.cnt
    omega
  | succ n ih =>
    intro a0 i e rk rb x4 h1 l1 l2 hS
    have h5 := hS.cnt
    have hi := hS.2.2.2.1
    have ha := hS.2.2.1
    have e0 := l1 0 (by decide) (by decide) (by decide) (by decide) (by decide)
    have e2 := l1 2 (by decide) (by decide) (by decide) (by decide) (by decide)
    have e3 := l1 3 (by decide) (by decide) (by decide) (by decide) (by decide)
    have e4 := l1 4 (by decide) (by decide) (by decide) (by decide) (by decide)
    have e5 := l1 5 (by decide) (by decide) (by decide) (by decide) (by decide)
    have e7 := l1 7 (by decide) (by decide) (by decide) (by decide) (by decide)
    have e8 := l1 8 (by decide) (by decide) (by decide) (by decide) (by decide)
    have hQe : QT e op := QT_congr e0 e2 e3 e4 e5 hQ
    have hCe : 5 ≤ e 7 0 ∧ e 7 0 ≤ 20 := by rw [e7]; exact hC
    have hje : ∀ x, 1 ≤ x → x ≤ r → 0 ≤ e 8 x ∧ e 8 x < 5 := by rw [e8]; exact hj
    have K68 : ¬ e 11 a0 = 0 → G X 5 (WX h q kA e) [some (.ref h), some (.int (iI r)), some (.int (iI a0)), some (.int (iI i)), x4] 68 [] := by
      intro hn
      refine g_aload_n hX dX1_insert_68 rfl ?_
      refine gx_reached hX dX1_insert_69 ?_
      refine g_iload_n hX dX1_insert_72 rfl ?_
      refine g_iconst hX dX1_insert_73 ?_
      refine sx_reached hX dX1_insert_74 (by omega) (by omega) ?_
      refine g_aload_n hX dX1_insert_75 rfl ?_
      refine g_iload_n hX dX1_insert_76 rfl ?_
      refine g_call hX (ct_advance (insert_adv hQe hCe hr hje hS hn)) (by decide) (by decide) vwX1_advance (hdX1_advance npX1_advance) (ci := 0) rfl rfl rfl rfl (Nat.le_of_ble_eq_true rfl) dX1_insert_77 (fun next e' hp => ?_)
      obtain ⟨p1, p2, rk', rb', p3⟩ := insert_si hQe hCe hr hje hS hn l2 hp
      refine g_istore_n hX dX1_insert_80 (by decide) ?_
      refine g_iinc hX dX1_insert_81 rfl (by decide) ?_
      refine g_goto (tgt := 50) hX dX1_insert_84 (by decide) ?_
      refine ih next (i + 1) e' rk' rb' _ (by omega) (fun k k1 k2 k3 k4 k5 => by rw [p1 k k1 k2 k3 k4 k5, l1 k k1 k2 k3 k4 k5]) p2 ?_
      have ec : coR e' op = coR e op := by
        unfold coR
        rw [kc_congr (p1 0 (by decide) (by decide) (by decide) (by decide) (by decide)) (p1 2 (by decide) (by decide) (by decide) (by decide) (by decide)) (p1 4 (by decide) (by decide) (by decide) (by decide) (by decide)) (p1 5 (by decide) (by decide) (by decide) (by decide) (by decide)), p1 8 (by decide) (by decide) (by decide) (by decide) (by decide)]
      rw [ec, p1 7 (by decide) (by decide) (by decide) (by decide) (by decide)]
      exact p3
    refine g_iload_n hX dX1_insert_50 rfl ?_
    refine g_iconst hX dX1_insert_51 ?_
    refine g_icmp_gt (tgt := 87) hX dX1_insert_52 (by decide) (by omega) (by omega) (fun c_52 => absurd c_52 (by omega)) (fun c_52 => ?_)
    refine g_iload_n hX dX1_insert_55 rfl ?_
    refine g_if_eq (tgt := 68) hX dX1_insert_56 (by decide) (by omega) (fun c_56 => ?_) (fun c_56 => ?_)
    · refine K68 ?_
      rw [hi.2.1 c_56, hS.1.2.2.2.2.2.2.2]
      omega
    · have hrr := hS.1.2.1 a0 ha.1 ha.2.1
      refine g_aload_n hX dX1_insert_59 rfl ?_
      refine gx_rowOf hX dX1_insert_60 ?_
      refine g_iload_n hX dX1_insert_63 rfl ?_
      refine lx_rowOf hX dX1_insert_64 (by omega) ?_
      refine g_if_eq (tgt := 87) hX dX1_insert_65 (by decide) (by omega) (fun c_65 => ?_) (fun c_65 => ?_)
      · exact K e a0 i rk rb _ l1 l2 hS c_65
      · exact K68 c_65
set_option maxHeartbeats 4000000 in
/-- insert(row): one more row is in -/
theorem ct_insert {op : Int → Int → Bool} {r Rm : Int} (hQ : QT d op) (hC : 5 ≤ d 7 0 ∧ d 7 0 ≤ 20) (hr : 1 ≤ r ∧ r ≤ 5) (hRm : r ≤ Rm) (hj : ∀ x, 1 ≤ x → x ≤ r → 0 ≤ d 8 x ∧ d 8 x < 5) (hD : HD (d 7 0) (r - 1) Rm (coR d op) (d 9) (d 10) (d 11)) : CtV yX1_insert cX1_insert 5 3 (TyX kA) (WX h q kA d) (fun e : DS => WX h q kA e) [.ref h, .int (iI r)] (fun e => kp d e ∧ HD (d 7 0) r Rm (coR d op) (e 9) (e 10) (e 11)) := by
  refine ct_void (by decide) rfl (Nat.le_of_ble_eq_true rfl) (fun X hX hR => ?_)
  have hco : ∀ x c, 1 ≤ x → x ≤ r → 1 ≤ c → c ≤ d 7 0 → 0 ≤ coR d op x c ∧ coR d op x c ≤ 100000 := fun x c x1 x2 c1 c2 => kc_rng hQ (hj x x1 x2) c1
  have hu := hD.2.2.2.2.2.2.2
  have hM : HM (d 7 0) r (coR d op) (d 9) (d 10) (st1 d 11 0 r 11) := hD.enter hRm (by omega) hr (fun c c1 c2 => (hco r c hr.1 (by omega) c1 c2).1) st1_eq (fun x x1 x2 => st1_off (by omega))
  refine g_aload_n hX dX1_insert_0 rfl ?_
  refine gx_rowOf hX dX1_insert_1 ?_
  refine g_iconst hX dX1_insert_4 ?_
  refine g_iload_n hX dX1_insert_5 rfl ?_
  refine g_i2b hX dX1_insert_6 (by omega) ?_
  refine sx_rowOf hX dX1_insert_7 (by omega) (by omega) ?_
  refine g_iconst hX dX1_insert_8 ?_
  refine g_istore_n hX dX1_insert_9 (by decide) ?_
  refine insert_loop1 hX (d1 := st1 d 11 0 r) (by rw [st1_ne (by decide)]; exact hC) (fun b x2 l1 l2 => ?_) 30 0 _ (by omega) (by rw [st1_ne (by decide)]; omega) (by rw [st1_ne (by decide)]; omega) (fun _ _ _ _ => rfl) (fun x x1 x2 => by omega)
  rw [st1_ne (by decide)] at l2
  have hkb : kp d b := fun k k1 k2 k3 k4 k5 k6 => by rw [l1 k k4 k5 k6, st1_ne k3]
  have b7 : b 7 = d 7 := by rw [l1 7 (by decide) (by decide) (by decide), st1_ne (by decide)]
  have b8 : b 8 = d 8 := by rw [l1 8 (by decide) (by decide) (by decide), st1_ne (by decide)]
  have b9 : b 9 = d 9 := by rw [l1 9 (by decide) (by decide) (by decide), st1_ne (by decide)]
  have b10 : b 10 = d 10 := by rw [l1 10 (by decide) (by decide) (by decide), st1_ne (by decide)]
  have b11 : b 11 = st1 d 11 0 r 11 := l1 11 (by decide) (by decide) (by decide)
  have hS : SI (b 7 0) r (coR b op) (b 9) (b 10) (b 11) (b 12) (b 13) (b 14) 0 0 (fun _ => 0) (fun _ => 0) := by
    rw [hkb.co, b7, b9, b10, b11]
    exact hM.begin (by omega) (fun c c1 c2 => (l2 c c1 c2).2) (fun c c1 c2 => (l2 c c1 c2).1)
  refine g_iconst hX dX1_insert_46 ?_
  refine g_istore_n hX dX1_insert_47 (by decide) ?_
  refine g_iconst hX dX1_insert_48 ?_
  refine g_istore_n hX dX1_insert_49 (by decide) ?_
  refine insert_loop2 hX (hkb.qt hQ) (by rw [b7]; exact hC) hr (by rw [b8]; exact hj) (fun e a0 i rk rb x4 m1 m2 hS2 ha => ?_) 10 0 0 b _ _ _ (by omega) (fun _ _ _ _ _ _ => rfl) (by rw [b9]; intro x x1 x2; exact hu x (by omega) x2) hS
  have e7 : e 7 = d 7 := by rw [m1 7 (by decide) (by decide) (by decide) (by decide) (by decide), b7]
  have hke : kp d e := fun k k1 k2 k3 k4 k5 k6 => by rw [m1 k k1 k2 k4 k5 k6, hkb k k1 k2 k3 k4 k5 k6]
  refine g_iconst hX dX1_insert_87 ?_
  refine g_istore_n hX dX1_insert_88 (by decide) ?_
  refine insert_loop3 hX (by rw [e7]; exact hC) hr m2 hS2 (fun e' lv z1 z2 => ?_) 10 0 a0 e _ (by omega) (by omega) (fun _ _ => rfl) (hS2.aug ha)
  refine hR _ _ _ dX1_insert_128 ⟨fun k k1 k2 k3 k4 k5 k6 => by rw [z1 k k3, hke k k1 k2 k3 k4 k5 k6], ?_⟩
  rw [hke.co, e7] at z2
  rw [z1 9 (by decide), z1 10 (by decide)]
  exact z2
end
end
section
/-! SUMS, and the matching's value is the least -/
section
def SmN (f : Int → Int) : Nat → Int
  | 0 => 0
  | n + 1 => SmN f n + f ((n : Int) + 1)
/-- f 1 + .. + f n -/
def Sm (f : Int → Int) (n : Int) : Int := SmN f n.toNat
theorem Sm_0 (f : Int → Int) : Sm f 0 = 0 := rfl
theorem Sm_succ (f : Int → Int) {n : Int} (h : 0 ≤ n) : Sm f (n + 1) = Sm f n + f (n + 1) := by
  unfold Sm
  have e : (n + 1).toNat = n.toNat + 1 := by omega
  rw [e]
  show SmN f n.toNat + f ((n.toNat : Int) + 1) = _
  congr 2
  omega
theorem int_ind {p : Int → Prop} (h0 : p 0) (hs : ∀ n, 0 ≤ n → p n → p (n + 1)) {n : Int} (hn : 0 ≤ n) : p n := by
  have key : ∀ k : Nat, p (k : Int) := by
    intro k
    induction k with
    | zero => exact h0
    | succ k ih => exact hs (k : Int) (by omega) ih
  have := key n.toNat
  rwa [show ((n.toNat : Nat) : Int) = n by omega] at this
theorem Sm_congr {f g : Int → Int} {n : Int} (hn : 0 ≤ n) (h : ∀ i, 1 ≤ i → i ≤ n → f i = g i) : Sm f n = Sm g n := by
  revert h
  refine int_ind (p := fun n => (∀ i, 1 ≤ i → i ≤ n → f i = g i) → Sm f n = Sm g n) (fun _ => rfl) (fun n h0 ih h => ?_) hn
  rw [Sm_succ f h0, Sm_succ g h0, ih (fun i a b => h i a (by omega)), h (n + 1) (by omega) (by omega)]
theorem Sm_le {f g : Int → Int} {n : Int} (hn : 0 ≤ n) (h : ∀ i, 1 ≤ i → i ≤ n → f i ≤ g i) : Sm f n ≤ Sm g n := by
  revert h
  refine int_ind (p := fun n => (∀ i, 1 ≤ i → i ≤ n → f i ≤ g i) → Sm f n ≤ Sm g n) (fun _ => by rw [Sm_0, Sm_0]; omega) (fun n h0 ih h => ?_) hn
  rw [Sm_succ f h0, Sm_succ g h0]
  have := ih (fun i a b => h i a (by omega))
  have := h (n + 1) (by omega) (by omega)
  omega
theorem Sm_add {f g : Int → Int} {n : Int} (hn : 0 ≤ n) : Sm (fun i => f i + g i) n = Sm f n + Sm g n := by
  refine int_ind (p := fun n => Sm (fun i => f i + g i) n = Sm f n + Sm g n) rfl (fun n h0 ih => ?_) hn
  rw [Sm_succ _ h0, Sm_succ f h0, Sm_succ g h0, ih]
  omega
theorem Sm_z {n : Int} (hn : 0 ≤ n) : Sm (fun _ => 0) n = 0 := by
  refine int_ind (p := fun n => Sm (fun _ => 0) n = 0) rfl (fun n h0 ih => ?_) hn
  rw [Sm_succ _ h0, ih]
  rfl
theorem Sm_swap {f : Int → Int → Int} {n m : Int} (hn : 0 ≤ n) (hm : 0 ≤ m) : Sm (fun i => Sm (fun j => f i j) m) n = Sm (fun j => Sm (fun i => f i j) n) m := by
  refine int_ind (p := fun n => Sm (fun i => Sm (fun j => f i j) m) n = Sm (fun j => Sm (fun i => f i j) n) m) ?_ (fun n h0 ih => ?_) hn
  · rw [Sm_0]
    exact (Sm_z hm).symm
  · rw [Sm_succ _ h0, ih]
    have e : Sm (fun j => Sm (fun i => f i j) (n + 1)) m = Sm (fun j => Sm (fun i => f i j) n + f (n + 1) j) m := Sm_congr hm (fun j _ _ => Sm_succ _ h0)
    rw [e, Sm_add hm]
/-- a single place -/
theorem Sm_one {n k w : Int} (hn : 0 ≤ n) : Sm (fun i => if i = k then w else 0) n = if 1 ≤ k ∧ k ≤ n then w else 0 := by
  refine int_ind (p := fun n => Sm (fun i => if i = k then w else 0) n = if 1 ≤ k ∧ k ≤ n then w else 0) ?_ (fun n h0 ih => ?_) hn
  · rw [Sm_0, if_neg (by omega)]
  · rw [Sm_succ _ h0, ih]
    by_cases e : n + 1 = k
    · rw [if_pos e, if_neg (by omega), if_pos (by omega)]
      omega
    · rw [if_neg e]
      by_cases e2 : 1 ≤ k ∧ k ≤ n
      · rw [if_pos e2, if_pos (by omega)]
        omega
      · rw [if_neg e2, if_neg (by omega)]
        omega
/-- at most one place, and w ≤ 0 -/
theorem Sm_most {n w : Int} {s : Int → Int} {k : Int} (hn : 0 ≤ n) (hw : w ≤ 0) (hs : ∀ i i', 1 ≤ i → i ≤ n → 1 ≤ i' → i' ≤ n → s i = k → s i' = k → i = i') : w ≤ Sm (fun i => if s i = k then w else 0) n := by
  by_cases h : ∃ i, 1 ≤ i ∧ i ≤ n ∧ s i = k
  · obtain ⟨i, a, b, c⟩ := h
    have e : Sm (fun x => if s x = k then w else 0) n = Sm (fun x => if x = i then w else 0) n := by
      refine Sm_congr hn (fun x x1 x2 => ?_)
      by_cases e : x = i
      · rw [e, if_pos c, if_pos rfl]
      · rw [if_neg e, if_neg (fun q => e (hs x i x1 x2 a b q c))]
    rw [e, Sm_one hn, if_pos ⟨a, b⟩]
    omega
  · have e : Sm (fun x => if s x = k then w else 0) n = Sm (fun _ => 0) n := by
      refine Sm_congr hn (fun x x1 x2 => ?_)
      rw [if_neg (fun q => h ⟨x, x1, x2, q⟩)]
    rw [e, Sm_z hn]
    exact hw
variable {C R Rm : Int} {co : Int → Int → Int} {u v ro : Int → Int}
/-- rows to columns, apart -/
def asR (C R : Int) (s : Int → Int) : Prop := (∀ r, 1 ≤ r → r ≤ R → 1 ≤ s r ∧ s r ≤ C) ∧ ∀ r r', 1 ≤ r → r ≤ R → 1 ≤ r' → r' ≤ R → s r = s r' → r = r'
theorem HD.inv (hD : HD C R Rm co u v ro) : ∃ s, asR C R s ∧ (∀ r, 1 ≤ r → r ≤ R → ro (s r) = r) ∧ ∀ c, 1 ≤ c → c ≤ C → ro c ≠ 0 → s (ro c) = c := by
  obtain ⟨f1, f2, f3, f4, f5, f6, f7, f8⟩ := hD
  have h : ∀ r, ∃ c, 1 ≤ r → r ≤ R → 1 ≤ c ∧ c ≤ C ∧ ro c = r := by
    intro r
    by_cases e : 1 ≤ r ∧ r ≤ R
    · obtain ⟨c, hc⟩ := f6 r e.1 e.2
      exact ⟨c, fun _ _ => hc⟩
    · exact ⟨0, fun a b => absurd ⟨a, b⟩ e⟩
  refine ⟨fun r => Classical.choose (h r), ⟨fun r a b => ?_, fun r r' a b a' b' e => ?_⟩, fun r a b => (Classical.choose_spec (h r) a b).2.2, fun c a b hc => ?_⟩
  · have := Classical.choose_spec (h r) a b
    exact ⟨this.1, this.2.1⟩
  · have e : Classical.choose (h r) = Classical.choose (h r') := e
    have e1 := (Classical.choose_spec (h r) a b).2.2
    have e2 := (Classical.choose_spec (h r') a' b').2.2
    rw [e] at e1
    omega
  · have hr := f2 c a b
    have := Classical.choose_spec (h (ro c)) (by omega) hr.2
    refine f5 _ c this.1 this.2.1 a b ?_ this.2.2
    rw [this.2.2]
    exact hc
/-- a sum over the matched columns is a sum over the rows -/
theorem HD.sum (hD : HD C R Rm co u v ro) (hC : 0 ≤ C) (hR : 0 ≤ R) {s : Int → Int} (hs : asR C R s) (hro : ∀ r, 1 ≤ r → r ≤ R → ro (s r) = r) (hi : ∀ c, 1 ≤ c → c ≤ C → ro c ≠ 0 → s (ro c) = c) (g : Int → Int → Int) : Sm (fun c => if 0 < ro c then g (ro c) c else 0) C = Sm (fun r => g r (s r)) R := by
  obtain ⟨f1, f2, f3, f4, f5, f6, f7, f8⟩ := hD
  have e1 : Sm (fun c => if 0 < ro c then g (ro c) c else 0) C = Sm (fun c => Sm (fun r => if r = ro c then g (ro c) c else 0) R) C := by
    refine Sm_congr hC (fun c c1 c2 => ?_)
    rw [Sm_one hR]
    have := f2 c c1 c2
    by_cases e : 0 < ro c
    · rw [if_pos e, if_pos (by omega)]
    · rw [if_neg e, if_neg (by omega)]
  rw [e1, Sm_swap hC hR]
  refine Sm_congr hR (fun r r1 r2 => ?_)
  have e2 : Sm (fun c => if r = ro c then g (ro c) c else 0) C = Sm (fun c => if c = s r then g r (s r) else 0) C := by
    refine Sm_congr hC (fun c c1 c2 => ?_)
    by_cases e : r = ro c
    · have hc : s (ro c) = c := hi c c1 c2 (by omega)
      rw [if_pos e, if_pos (by rw [e]; exact hc.symm), e, hc]
    · rw [if_neg e, if_neg (fun q => e (by rw [q]; exact (hro r r1 r2).symm))]
  rw [e2, Sm_one hC, if_pos (hs.1 r r1 r2)]
theorem sum_cols {v s : Int → Int} (hC : 0 ≤ C) (hR : 0 ≤ R) (hs : asR C R s) : Sm (fun r => v (s r)) R = Sm (fun c => Sm (fun r => if s r = c then v c else 0) R) C := by
  rw [Sm_swap hC hR]
  refine Sm_congr hR (fun r r1 r2 => ?_)
  have e : Sm (fun c => if s r = c then v c else 0) C = Sm (fun c => if c = s r then v (s r) else 0) C := by
    refine Sm_congr hC (fun c _ _ => ?_)
    by_cases e : c = s r
    · rw [if_pos e.symm, if_pos e, e]
    · rw [if_neg e, if_neg (fun q => e q.symm)]
  rw [e, Sm_one hC, if_pos (hs.1 r r1 r2)]
/-- THE MATCHING IS THE CHEAPEST -/
theorem HD.opt (hD : HD C R Rm co u v ro) (hC : 0 ≤ C) (hR : 0 ≤ R) : ∃ s, asR C R s ∧ Sm (fun c => if 0 < ro c then co (ro c) c else 0) C = Sm (fun r => co r (s r)) R ∧ ∀ s', asR C R s' → Sm (fun r => co r (s r)) R ≤ Sm (fun r => co r (s' r)) R := by
  obtain ⟨s, hs, hro, hi⟩ := hD.inv
  refine ⟨s, hs, hD.sum hC hR hs hro hi co, fun s' hs' => ?_⟩
  obtain ⟨f1, f2, f3, f4, f5, f6, f7, f8⟩ := hD
  have e1 : Sm (fun r => co r (s r)) R = Sm (fun r => u r + v (s r)) R := by
    refine Sm_congr hR (fun r r1 r2 => ?_)
    have hc := hs.1 r r1 r2
    have := f3 (s r) hc.1 hc.2 (by rw [hro r r1 r2]; omega)
    rw [hro r r1 r2] at this
    exact this.symm
  have e2 : Sm (fun r => u r + v (s' r)) R ≤ Sm (fun r => co r (s' r)) R := by
    refine Sm_le hR (fun r r1 r2 => ?_)
    have hc := hs'.1 r r1 r2
    exact f1 r (s' r) r1 r2 hc.1 hc.2
  have e3 : Sm (fun r => v (s r)) R = Sm v C := by
    rw [sum_cols hC hR hs]
    refine Sm_congr hC (fun c c1 c2 => ?_)
    by_cases e : ro c = 0
    · rw [(f4 c c1 c2).2 e]
      have : Sm (fun r => if s r = c then (0 : Int) else 0) R = Sm (fun _ => 0) R := Sm_congr hR (fun r _ _ => by split <;> rfl)
      rw [this, Sm_z hR]
    · have hr := f2 c c1 c2
      have : Sm (fun r => if s r = c then v c else 0) R = Sm (fun r => if r = ro c then v c else 0) R := by
        refine Sm_congr hR (fun r r1 r2 => ?_)
        by_cases z : r = ro c
        · rw [if_pos z, if_pos (by rw [z]; exact hi c c1 c2 e)]
        · rw [if_neg z, if_neg (fun q => z (by rw [← q]; exact (hro r r1 r2).symm))]
      rw [this, Sm_one hR, if_pos (by omega)]
  have e4 : Sm v C ≤ Sm (fun r => v (s' r)) R := by
    rw [sum_cols hC hR hs']
    exact Sm_le hC (fun c c1 c2 => Sm_most hR (f4 c c1 c2).1 (fun r r' a b a' b' z z' => hs'.2 r r' a b a' b' (by rw [z, z'])))
  have e5 : Sm (fun r => u r + v (s r)) R = Sm u R + Sm (fun r => v (s r)) R := Sm_add hR
  have e6 : Sm (fun r => u r + v (s' r)) R = Sm u R + Sm (fun r => v (s' r)) R := Sm_add hR
  omega
end
end
section
/-! DESK: match, totalOf -/
section
set_option maxRecDepth 100000
variable {h : Nat} {q : Nat → Nat} {kA : Nat → ClassId} {d : DS} {X : Cx}
def cols (d : DS) : Int := (if 0 ≤ d 4 0 then d 0 0 + 1 else d 0 0) * 5
def sj (f : Int → Int) : Int := f 0 + f 1 + f 2 + f 3 + f 4
/-- jobs of Q to columns, apart -/
def asJ (C : Int) (Q : Int → Bool) (t : Int → Int) : Prop := (∀ j, 0 ≤ j → j < 5 → Q j = true → 1 ≤ t j ∧ t j ≤ C) ∧ ∀ j j', 0 ≤ j → j < 5 → 0 ≤ j' → j' < 5 → Q j = true → Q j' = true → t j = t j' → j = j'
def sQ (Q : Int → Bool) (k : Int → Int → Int) (t : Int → Int) : Int := sj (fun j => if Q j then k j (t j) else 0)
/-- z is the least sum -/
def Opt (C : Int) (Q : Int → Bool) (k : Int → Int → Int) (z : Int) : Prop := (∃ t, asJ C Q t ∧ z = sQ Q k t) ∧ ∀ t, asJ C Q t → z ≤ sQ Q k t
theorem Sm_5 (f : Int → Int) : Sm f 5 = f 1 + f 2 + f 3 + f 4 + f 5 := by
  show SmN f 5 = _
  simp [SmN]
/-- the rows are the jobs of Q, one by one -/
def JB (Q : Int → Bool) (j R : Int) (jb : Int → Int) : Prop := (0 ≤ R ∧ R ≤ j) ∧ ∃ rw : Int → Int, (∀ i, 0 ≤ i → i < j → Q i = true → (1 ≤ rw i ∧ rw i ≤ R) ∧ jb (rw i) = i) ∧ (∀ r, 1 ≤ r → r ≤ R → (0 ≤ jb r ∧ jb r < j) ∧ Q (jb r) = true ∧ rw (jb r) = r) ∧ ∀ F : Int → Int, Sm (fun r => F (jb r)) R = Sm (fun i => if Q (i - 1) then F (i - 1) else 0) j
theorem JB_0 {Q : Int → Bool} {jb : Int → Int} : JB Q 0 0 jb := ⟨by omega, fun _ => 0, fun i a b => by omega, fun r a b => by omega, fun F => rfl⟩
theorem JB_f {Q : Int → Bool} {j R : Int} {jb : Int → Int} (hJ : JB Q j R jb) (hq : Q j = false) (hj : 0 ≤ j) : JB Q (j + 1) R jb := by
  obtain ⟨h0, rw', h1, h2, h3⟩ := hJ
  refine ⟨by omega, rw', fun i a b c => ?_, fun r a b => ?_, fun F => ?_⟩
  · by_cases e : i = j
    · rw [e, hq] at c; exact absurd c (by decide)
    · exact h1 i a (by omega) c
  · have := h2 r a b
    exact ⟨by omega, this.2⟩
  · rw [Sm_succ _ hj, h3 F, show j + 1 - 1 = j by omega, hq]
    simp
theorem JB_t {Q : Int → Bool} {j R : Int} {jb jb' : Int → Int} (hJ : JB Q j R jb) (hq : Q j = true) (hj : 0 ≤ j) (e1 : jb' (R + 1) = j) (e2 : ∀ r, 1 ≤ r → r ≤ R → jb' r = jb r) : JB Q (j + 1) (R + 1) jb' := by
  obtain ⟨h0, rw', h1, h2, h3⟩ := hJ
  refine ⟨by omega, fun i => if i = j then R + 1 else rw' i, fun i a b c => ?_, fun r a b => ?_, fun F => ?_⟩
  · show (1 ≤ (if i = j then R + 1 else rw' i) ∧ (if i = j then R + 1 else rw' i) ≤ R + 1) ∧ jb' (if i = j then R + 1 else rw' i) = i
    by_cases e : i = j
    · rw [if_pos e]; exact ⟨by omega, by rw [e1, e]⟩
    · rw [if_neg e]
      have := h1 i a (by omega) c
      refine ⟨by omega, ?_⟩
      rw [e2 _ this.1.1 this.1.2]
      exact this.2
  · show (0 ≤ jb' r ∧ jb' r < j + 1) ∧ Q (jb' r) = true ∧ (if jb' r = j then R + 1 else rw' (jb' r)) = r
    by_cases e : r = R + 1
    · rw [e, e1]; exact ⟨by omega, hq, by rw [if_pos rfl]⟩
    · have e3 := e2 r a (by omega)
      have := h2 r a (by omega)
      rw [e3, if_neg (by omega)]
      exact ⟨by omega, this.2⟩
  · rw [Sm_succ _ hj, Sm_succ _ h0.1, e1, show j + 1 - 1 = j by omega, hq, if_pos rfl, ← h3 F]
    congr 1
    refine Sm_congr h0.1 (fun r a b => ?_)
    rw [e2 r a b]
/-- from rows to jobs -/
theorem opt_jobs {Q : Int → Bool} {C R z : Int} {jb : Int → Int} {k : Int → Int → Int} (hJ : JB Q 5 R jb) (ho : ∃ s, asR C R s ∧ z = Sm (fun r => k (jb r) (s r)) R ∧ ∀ s', asR C R s' → Sm (fun r => k (jb r) (s r)) R ≤ Sm (fun r => k (jb r) (s' r)) R) : Opt C Q k z := by
  obtain ⟨h0, rw', h1, h2, h3⟩ := hJ
  obtain ⟨s, hs, hz, hm⟩ := ho
  have key : ∀ t : Int → Int, Sm (fun r => k (jb r) (t (jb r))) R = sQ Q k t := by
    intro t
    rw [h3 (fun j => k j (t j)), Sm_5]
    rfl
  have e1 : Sm (fun r => k (jb r) (s r)) R = sQ Q k (fun j => s (rw' j)) := by
    rw [← key]
    refine Sm_congr h0.1 (fun r a b => ?_)
    rw [(h2 r a b).2.2]
  refine ⟨⟨fun j => s (rw' j), ⟨fun j a b c => ?_, fun j j' a b a' b' c c' e => ?_⟩, by rw [hz, e1]⟩, fun t ht => ?_⟩
  · have := h1 j a b c
    exact hs.1 _ this.1.1 this.1.2
  · have x := h1 j a b c
    have y := h1 j' a' b' c'
    have := hs.2 _ _ x.1.1 x.1.2 y.1.1 y.1.2 e
    rw [← x.2, ← y.2, this]
  · have hv : asR C R (fun r => t (jb r)) := by
      refine ⟨fun r a b => ?_, fun r r' a b a' b' e => ?_⟩
      · have := h2 r a b
        exact ht.1 _ this.1.1 this.1.2 this.2.1
      · have x := h2 r a b
        have y := h2 r' a' b'
        have e : t (jb r) = t (jb r') := e
        have := ht.2 _ _ x.1.1 x.1.2 y.1.1 y.1.2 x.2.1 y.2.1 e
        rw [← x.2.2, ← y.2.2, this]
    have := hm _ hv
    rw [hz, ← key t]
    exact this
set_option maxHeartbeats 4000000 in
theorem match_loop1 {Q : Int → Bool} {b : DS} (hX : Ok X cX1_match 4 4 RX1 (TyX kA))
    (K : ∀ (e : DS) (x2 x3 : Option Value), (∀ k, k ≠ 6 → k ≠ 8 → e k = b k) → JB Q 5 (e 6 0) (e 8) → G X 4 (WX h q kA e) [some (.ref h), some (.int (iI (ms Q))), x2, x3] 73 []) :
    ∀ (n : Nat) (j : Int) (e : DS) (x3 : Option Value), 0 ≤ j → j ≤ 5 → 5 - j < n → (∀ k, k ≠ 6 → k ≠ 8 → e k = b k) → JB Q j (e 6 0) (e 8) → G X 4 (WX h q kA e) [some (.ref h), some (.int (iI (ms Q))), some (.int (iI j)), x3] 33 [] := by
  intro n
  induction n with
  | zero => intro j e x3 h0 h1 h2; omega
  | succ n ih =>
    intro j e x3 h0 h1 h2 l1 hJ
    have hR := hJ.1
    refine g_iload_n hX dX1_match_33 rfl ?_
    refine g_iconst hX dX1_match_34 ?_
    refine g_icmp_ge (tgt := 73) hX dX1_match_35 (by decide) (by omega) (by omega) (fun c_35 => ?_) (fun c_35 => ?_)
    · have : j = 5 := by omega
      subst this
      exact K e _ _ l1 hJ
    · refine g_iload_n hX dX1_match_38 rfl ?_
      refine g_iload_n hX dX1_match_39 rfl ?_
      refine g_ishr hX dX1_match_40 ?_
      refine g_iconst hX dX1_match_41 ?_
      refine g_iand hX dX1_match_42 ?_
      refine g_int (z := if Q j then 1 else 0) (ms_bit Q h0 (by omega)) ?_
      cases hb : Q j with
      | false =>
        refine g_z (z' := 0) (by simp) ?_
        refine g_if_eq (tgt := 67) hX dX1_match_43 (by decide) (by omega) (fun c_43 => ?_) (fun c_43 => absurd c_43 (by omega))
        refine g_iinc hX dX1_match_67 rfl (by decide) ?_
        refine g_goto (tgt := 33) hX dX1_match_70 (by decide) ?_
        exact ih (j + 1) e _ (by omega) (by omega) (by omega) l1 (JB_f hJ hb h0)
      | true =>
        refine g_z (z' := 1) (by simp) ?_
        refine g_if_eq (tgt := 67) hX dX1_match_43 (by decide) (by omega) (fun c_43 => absurd c_43 (by omega)) (fun c_43 => ?_)
        refine g_aload_n hX dX1_match_46 rfl ?_
        refine g_dup hX dX1_match_47 rfl ?_
        refine gx_rows hX dX1_match_48 ?_
        refine g_iconst hX dX1_match_51 ?_
        refine g_iadd hX dX1_match_52 ?_
        refine px_rows hX dX1_match_53 ?_
        refine g_aload_n hX dX1_match_56 rfl ?_
        refine gx_rowJob hX dX1_match_57 ?_
        refine g_aload_n hX dX1_match_60 rfl ?_
        refine gx_rows hX dX1_match_61 ?_
        refine g_z (z' := e 6 0 + 1) st1_eq ?_
        refine g_iload_n hX dX1_match_64 rfl ?_
        refine g_i2b hX dX1_match_65 (by omega) ?_
        refine sx_rowJob hX dX1_match_66 (by omega) (by omega) ?_
        refine g_iinc hX dX1_match_67 rfl (by decide) ?_
        refine g_goto (tgt := 33) hX dX1_match_70 (by decide) ?_
        refine ih (j + 1) _ _ (by omega) (by omega) (by omega) (fun k k1 k2 => by rw [st1_ne k2, st1_ne k1, l1 k k1 k2]) ?_
        have e6 : st1 (st1 e 6 0 (e 6 0 + 1)) 8 (e 6 0 + 1) j 6 0 = e 6 0 + 1 := by rw [st1_ne (by decide), st1_eq]
        rw [e6]
        exact JB_t hJ hb h0 st1_eq (fun r a b => by rw [st1_off (by omega), st1_ne (by decide)])
set_option maxHeartbeats 4000000 in
theorem match_loop2 {v : Int} {b : DS} (hX : Ok X cX1_match 4 4 RX1 (TyX kA)) (hR : 0 ≤ b 6 0 ∧ b 6 0 ≤ 5)
    (K : ∀ (e : DS) (x2 x3 : Option Value), (∀ k, k ≠ 9 → e k = b k) → (∀ x, 0 ≤ x → x ≤ b 6 0 → e 9 x = 0) → G X 4 (WX h q kA e) [some (.ref h), some (.int (iI v)), x2, x3] 96 []) :
    ∀ (n : Nat) (r : Int) (e : DS) (x3 : Option Value), 0 ≤ r → r ≤ b 6 0 + 1 → b 6 0 + 1 - r < n → (∀ k, k ≠ 9 → e k = b k) → (∀ x, 0 ≤ x → x < r → e 9 x = 0) → G X 4 (WX h q kA e) [some (.ref h), some (.int (iI v)), some (.int (iI r)), x3] 75 [] := by
  intro n
  induction n with
  | zero => intro j e x3 h0 h1 h2; omega
  | succ n ih =>
    intro r e x3 h0 h1 h2 l1 l2
    have e6 : e 6 0 = b 6 0 := by rw [l1 6 (by decide)]
    refine g_iload_n hX dX1_match_75 rfl ?_
    refine g_aload_n hX dX1_match_76 rfl ?_
    refine gx_rows hX dX1_match_77 ?_
    refine g_icmp_gt (tgt := 96) hX dX1_match_80 (by decide) (by omega) (by omega) (fun c_80 => ?_) (fun c_80 => ?_)
    · exact K e _ _ l1 (fun x a b => l2 x a (by omega))
    · refine g_aload_n hX dX1_match_83 rfl ?_
      refine gx_rowPrice hX dX1_match_84 ?_
      refine g_iload_n hX dX1_match_87 rfl ?_
      refine g_iconst hX dX1_match_88 ?_
      refine sx_rowPrice hX dX1_match_89 (by omega) ?_
      refine g_iinc hX dX1_match_90 rfl (by decide) ?_
      refine g_goto (tgt := 75) hX dX1_match_93 (by decide) ?_
      refine ih (r + 1) _ _ (by omega) (by omega) (by omega) (fun k k1 => by rw [st1_ne k1, l1 k k1]) (fun x a b => ?_)
      rw [st1_at]
      split
      · rfl
      · exact l2 x a (by omega)
set_option maxHeartbeats 4000000 in
theorem match_loop3 {v : Int} {b : DS} (hX : Ok X cX1_match 4 4 RX1 (TyX kA)) (hC : 5 ≤ b 7 0 ∧ b 7 0 ≤ 20)
    (K : ∀ (e : DS) (x2 x3 : Option Value), (∀ k, k ≠ 10 → k ≠ 11 → e k = b k) → (∀ x, 0 ≤ x → x ≤ b 7 0 → e 10 x = 0 ∧ e 11 x = 0) → G X 4 (WX h q kA e) [some (.ref h), some (.int (iI v)), x2, x3] 126 []) :
    ∀ (n : Nat) (r : Int) (e : DS) (x3 : Option Value), 0 ≤ r → r ≤ b 7 0 + 1 → b 7 0 + 1 - r < n → (∀ k, k ≠ 10 → k ≠ 11 → e k = b k) → (∀ x, 0 ≤ x → x < r → e 10 x = 0 ∧ e 11 x = 0) → G X 4 (WX h q kA e) [some (.ref h), some (.int (iI v)), some (.int (iI r)), x3] 98 [] := by
  intro n
  induction n with
  | zero => intro j e x3 h0 h1 h2; omega
  | succ n ih =>
    intro r e x3 h0 h1 h2 l1 l2
    have e7 : e 7 0 = b 7 0 := by rw [l1 7 (by decide) (by decide)]
    refine g_iload_n hX dX1_match_98 rfl ?_
    refine g_aload_n hX dX1_match_99 rfl ?_
    refine gx_columns hX dX1_match_100 ?_
    refine g_icmp_gt (tgt := 126) hX dX1_match_103 (by decide) (by omega) (by omega) (fun c_103 => ?_) (fun c_103 => ?_)
    · exact K e _ _ l1 (fun x a b => l2 x a (by omega))
    · refine g_aload_n hX dX1_match_106 rfl ?_
      refine gx_columnPrice hX dX1_match_107 ?_
      refine g_iload_n hX dX1_match_110 rfl ?_
      refine g_iconst hX dX1_match_111 ?_
      refine sx_columnPrice hX dX1_match_112 (by omega) ?_
      refine g_aload_n hX dX1_match_113 rfl ?_
      refine gx_rowOf hX dX1_match_114 ?_
      refine g_iload_n hX dX1_match_117 rfl ?_
      refine g_iconst hX dX1_match_118 ?_
      refine sx_rowOf hX dX1_match_119 (by omega) (by omega) ?_
      refine g_iinc hX dX1_match_120 rfl (by decide) ?_
      refine g_goto (tgt := 98) hX dX1_match_123 (by decide) ?_
      refine ih (r + 1) _ _ (by omega) (by omega) (by omega) (fun k k1 k2 => by rw [st1_ne k2, st1_ne k1, l1 k k1 k2]) (fun x a b => ?_)
      rw [st1_ne (by decide), st1_at, st1_at, st1_ne (by decide)]
      by_cases z : x = r
      · rw [if_pos z, if_pos z]; exact ⟨rfl, rfl⟩
      · rw [if_neg z, if_neg z]; exact l2 x a (by omega)
set_option maxHeartbeats 4000000 in
theorem match_loop4 {op : Int → Int → Bool} {v : Int} {b : DS} (hX : Ok X cX1_match 4 4 RX1 (TyX kA)) (hQ : QT b op) (hC : 5 ≤ b 7 0 ∧ b 7 0 ≤ 20) (hR : 0 ≤ b 6 0 ∧ b 6 0 ≤ 5) (hj : ∀ x, 1 ≤ x → x ≤ b 6 0 → 0 ≤ b 8 x ∧ b 8 x < 5)
    (K : ∀ (e : DS) (x2 x3 : Option Value), kp b e → HD (b 7 0) (b 6 0) (b 6 0) (coR b op) (e 9) (e 10) (e 11) → G X 4 (WX h q kA e) [some (.ref h), some (.int (iI v)), x2, x3] 147 []) :
    ∀ (n : Nat) (r : Int) (e : DS) (x3 : Option Value), 1 ≤ r → r ≤ b 6 0 + 1 → b 6 0 + 1 - r < n → kp b e → HD (b 7 0) (r - 1) (b 6 0) (coR b op) (e 9) (e 10) (e 11) → G X 4 (WX h q kA e) [some (.ref h), some (.int (iI v)), some (.int (iI r)), x3] 128 [] := by
  intro n
  induction n with
  | zero => intro j e x3 h0 h1 h2; omega
  | succ n ih =>
    intro r e x3 h0 h1 h2 l1 l2
    have e6 : e 6 = b 6 := l1 6 (by decide) (by decide) (by decide) (by decide) (by decide) (by decide)
    have e7 : e 7 = b 7 := l1 7 (by decide) (by decide) (by decide) (by decide) (by decide) (by decide)
    have e8 : e 8 = b 8 := l1 8 (by decide) (by decide) (by decide) (by decide) (by decide) (by decide)
    have e60 : e 6 0 = b 6 0 := by rw [e6]
    refine g_iload_n hX dX1_match_128 rfl ?_
    refine g_aload_n hX dX1_match_129 rfl ?_
    refine gx_rows hX dX1_match_130 ?_
    refine g_icmp_gt (tgt := 147) hX dX1_match_133 (by decide) (by omega) (by omega) (fun c_133 => ?_) (fun c_133 => ?_)
    · have : r - 1 = b 6 0 := by omega
      rw [this] at l2
      exact K e _ _ l1 l2
    · refine g_aload_n hX dX1_match_136 rfl ?_
      refine g_iload_n hX dX1_match_137 rfl ?_
      refine g_callV hX (ct_insert (Rm := b 6 0) (op := op) (l1.qt hQ) (by rw [e7]; exact hC) (by omega) (by omega) (fun x a c => by rw [e8]; exact hj x a (by omega)) (by rw [e7, l1.co]; exact l2)) (by decide) (by decide) vwX1_insert (hdX1_insert npX1_insert) (ci := 0) rfl rfl rfl rfl (Nat.le_of_ble_eq_true rfl) dX1_match_138 (fun e' he => ?_)
      rw [e7, l1.co] at he
      refine g_iinc hX dX1_match_141 rfl (by decide) ?_
      refine g_goto (tgt := 128) hX dX1_match_144 (by decide) ?_
      refine ih (r + 1) e' _ (by omega) (by omega) (by omega) (fun k k1 k2 k3 k4 k5 k6 => by rw [he.1 k k1 k2 k3 k4 k5 k6, l1 k k1 k2 k3 k4 k5 k6]) ?_
      rw [show r + 1 - 1 = r by omega]
      exact he.2
set_option maxHeartbeats 4000000 in
theorem match_loop5 {op : Int → Int → Bool} {v : Int} {b : DS} (hX : Ok X cX1_match 4 4 RX1 (TyX kA)) (hQ : QT b op) (hC : 5 ≤ b 7 0 ∧ b 7 0 ≤ 20) (hro : ∀ c, 1 ≤ c → c ≤ b 7 0 → 0 ≤ b 11 c ∧ b 11 c ≤ 5 ∧ (0 < b 11 c → 0 ≤ b 8 (b 11 c) ∧ b 8 (b 11 c) < 5))
    (K : ∀ (lv : List (Option Value)), G X 4 (WX h q kA b) lv 189 [.int (iI (Sm (fun c => if 0 < b 11 c then coR b op (b 11 c) c else 0) (b 7 0)))]) :
    ∀ (n : Nat) (c : Int), 1 ≤ c → c ≤ b 7 0 + 1 → b 7 0 + 1 - c < n → G X 4 (WX h q kA b) [some (.ref h), some (.int (iI v)), some (.int (iI (Sm (fun c => if 0 < b 11 c then coR b op (b 11 c) c else 0) (c - 1)))), some (.int (iI c))] 151 [] := by
  intro n
  induction n with
  | zero => intro j h0 h1 h2; omega
  | succ n ih =>
    intro c h0 h1 h2
    have hs : Sm (fun c => if 0 < b 11 c then coR b op (b 11 c) c else 0) c = Sm (fun c => if 0 < b 11 c then coR b op (b 11 c) c else 0) (c - 1) + (if 0 < b 11 c then coR b op (b 11 c) c else 0) := by
      have := Sm_succ (fun c => if 0 < b 11 c then coR b op (b 11 c) c else 0) (n := c - 1) (by omega)
      rw [show c - 1 + 1 = c by omega] at this
      exact this
    have hi := ih (c + 1) (by omega)
    rw [show c + 1 - 1 = c by omega, hs] at hi
    refine g_iload_n hX dX1_match_151 rfl ?_
    refine g_aload_n hX dX1_match_152 rfl ?_
    refine gx_columns hX dX1_match_153 ?_
    refine g_icmp_gt (tgt := 188) hX dX1_match_156 (by decide) (by omega) (by omega) (fun c_156 => ?_) (fun c_156 => ?_)
    · refine g_iload_n hX dX1_match_188 rfl ?_
      have : c - 1 = b 7 0 := by omega
      rw [this]
      exact K _
    · obtain ⟨r1, r2, r3⟩ := hro c h0 (by omega)
      refine g_aload_n hX dX1_match_159 rfl ?_
      refine gx_rowOf hX dX1_match_160 ?_
      refine g_iload_n hX dX1_match_163 rfl ?_
      refine lx_rowOf hX dX1_match_164 (by omega) ?_
      refine g_if_le (tgt := 182) hX dX1_match_165 (by decide) (by omega) (fun c_165 => ?_) (fun c_165 => ?_)
      · refine g_iinc hX dX1_match_182 rfl (by decide) ?_
        refine g_goto (tgt := 151) hX dX1_match_185 (by decide) ?_
        rw [if_neg (by omega)] at hi
        rw [Int.add_zero] at hi
        exact hi (by omega) (by omega)
      · refine g_iload_n hX dX1_match_168 rfl ?_
        refine g_aload_n hX dX1_match_169 rfl ?_
        refine g_aload_n hX dX1_match_170 rfl ?_
        refine gx_rowOf hX dX1_match_171 ?_
        refine g_iload_n hX dX1_match_174 rfl ?_
        refine lx_rowOf hX dX1_match_175 (by omega) ?_
        refine g_iload_n hX dX1_match_176 rfl ?_
        refine g_call hX (ct_costOf hQ (by omega) (r3 c_165) (by omega)) (by decide) (by decide) vwX1_costOf (hdX1_costOf npX1_costOf) (ci := 0) rfl rfl rfl rfl (Nat.le_of_ble_eq_true rfl) dX1_match_177 (fun kz _ hkz => ?_)
        subst hkz
        refine g_iadd hX dX1_match_180 ?_
        refine g_istore_n hX dX1_match_181 (by decide) ?_
        refine g_iinc hX dX1_match_182 rfl (by decide) ?_
        refine g_goto (tgt := 151) hX dX1_match_185 (by decide) ?_
        rw [if_pos c_165] at hi
        exact hi (by omega) (by omega)
/-- all but the fields of the matching stay -/
def kpm (d e : DS) : Prop := ∀ k, (k < 6 ∨ 14 < k) → e k = d k
theorem HD_0 {C Rm : Int} {co : Int → Int → Int} {u v ro : Int → Int} (hu : ∀ r, 0 < r → r ≤ Rm → u r = 0) (hv : ∀ c, 1 ≤ c → c ≤ C → v c = 0 ∧ ro c = 0) : HD C 0 Rm co u v ro := by
  refine ⟨fun r c a b => by omega, fun c a b => by rw [(hv c a b).2]; omega, fun c a b z => absurd (hv c a b).2 z, fun c a b => ⟨by rw [(hv c a b).1]; omega, fun _ => (hv c a b).1⟩, fun c c' a b a' b' z => absurd (hv c a b).2 z, fun r a b => by omega, fun r a b => by omega, hu⟩
set_option maxHeartbeats 4000000 in
/-- match(set): the least sum of costs of giving the set's jobs different columns -/
theorem ct_match {Q : Int → Bool} {op : Int → Int → Bool} (hQ : QT d op) : Ct yX1_match cX1_match 4 (some .int) 4 (TyX kA) (WX h q kA d) (fun e : DS => WX h q kA e) [.ref h, .int (iI (ms Q))] (fun z e => kpm d e ∧ Opt (cols d) Q (kc d op) z) := by
  refine ct_int (by decide) rfl (Nat.le_of_ble_eq_true rfl) (fun X hX hR => ?_)
  have hn := hQ.1.1
  have h4 := hQ.2.1
  have K31 : ∀ (e : DS), e = st1 (st1 d 6 0 0) 7 0 (cols d) → G X 4 (WX h q kA e) [some (.ref h), some (.int (iI (ms Q))), none, none] 31 [] := by
    intro b hb
    have b6 : b 6 0 = 0 := by rw [hb, st1_ne (by decide), st1_eq]
    have b7 : b 7 0 = cols d := by rw [hb, st1_eq]
    have bk : ∀ k, k ≠ 6 → k ≠ 7 → b k = d k := fun k k1 k2 => by rw [hb, st1_ne k2, st1_ne k1]
    have hC : 5 ≤ b 7 0 ∧ b 7 0 ≤ 20 := by
      rw [b7]
      unfold cols
      split <;> omega
    refine g_iconst hX dX1_match_31 ?_
    refine g_istore_n hX dX1_match_32 (by decide) ?_
    refine match_loop1 hX (Q := Q) (b := b) (fun e x2 x3 l1 hJ => ?_) 10 0 b _ (by omega) (by omega) (by omega) (fun _ _ _ => rfl) (by rw [b6]; exact JB_0)
    have hRr := hJ.1
    have hjr : ∀ x, 1 ≤ x → x ≤ e 6 0 → 0 ≤ e 8 x ∧ e 8 x < 5 := by
      obtain ⟨_, _, _, j2, _⟩ := hJ
      exact fun x a b => (j2 x a b).1
    refine g_iconst hX dX1_match_73 ?_
    refine g_istore_n hX dX1_match_74 (by decide) ?_
    refine match_loop2 hX (b := e) ⟨hRr.1, by omega⟩ (fun e2 x2 x3 m1 m2 => ?_) 10 0 e _ (by omega) (by omega) (by omega) (fun _ _ => rfl) (fun x a b => by omega)
    have e27 : e2 7 0 = b 7 0 := by rw [m1 7 (by decide), l1 7 (by decide) (by decide)]
    refine g_iconst hX dX1_match_96 ?_
    refine g_istore_n hX dX1_match_97 (by decide) ?_
    refine match_loop3 hX (b := e2) (by rw [e27]; exact hC) (fun e3 x2 x3 n1 n2 => ?_) 30 0 e2 _ (by omega) (by omega) (by omega) (fun _ _ _ => rfl) (fun x a b => by omega)
    have e36 : e3 6 = e 6 := by rw [n1 6 (by decide) (by decide), m1 6 (by decide)]
    have e37 : e3 7 0 = b 7 0 := by rw [n1 7 (by decide) (by decide), e27]
    have e38 : e3 8 = e 8 := by rw [n1 8 (by decide) (by decide), m1 8 (by decide)]
    have e39 : e3 9 = e2 9 := n1 9 (by decide) (by decide)
    have e3k : ∀ k, (k < 6 ∨ 14 < k) → e3 k = d k := fun k hk => by rw [n1 k (by omega) (by omega), m1 k (by omega), l1 k (by omega) (by omega), bk k (by omega) (by omega)]
    have hQ3 : QT e3 op := QT_congr (e3k 0 (by omega)) (e3k 2 (by omega)) (e3k 3 (by omega)) (e3k 4 (by omega)) (e3k 5 (by omega)) hQ
    have hco3 : kc e3 op = kc d op := kc_congr (e3k 0 (by omega)) (e3k 2 (by omega)) (e3k 4 (by omega)) (e3k 5 (by omega))
    refine g_iconst hX dX1_match_126 ?_
    refine g_istore_n hX dX1_match_127 (by decide) ?_
    refine match_loop4 hX (op := op) (b := e3) hQ3 (by rw [e37]; exact hC) (by rw [e36]; omega) (by rw [e36, e38]; exact hjr) (fun e4 x2 x3 o1 o2 => ?_) 10 1 e3 _ (by omega) (by rw [e36]; omega) (by rw [e36]; omega) (fun _ _ _ _ _ _ _ => rfl) (HD_0 (fun r a b => by rw [e39]; exact m2 r (by omega) (by rw [e36] at b; exact b)) (fun c a b => n2 c (by omega) (by rw [e27, ← e37]; exact b)))
    have e47 : e4 7 0 = b 7 0 := by rw [o1 7 (by decide) (by decide) (by decide) (by decide) (by decide) (by decide), e37]
    have e46 : e4 6 = e 6 := by rw [o1 6 (by decide) (by decide) (by decide) (by decide) (by decide) (by decide), e36]
    have e48 : e4 8 = e 8 := by rw [o1 8 (by decide) (by decide) (by decide) (by decide) (by decide) (by decide), e38]
    have hQ4 : QT e4 op := o1.qt hQ3
    rw [e37, e36] at o2
    have r4 := o2.2.1
    refine g_iconst hX dX1_match_147 ?_
    refine g_istore_n hX dX1_match_148 (by decide) ?_
    refine g_iconst hX dX1_match_149 ?_
    refine g_istore_n hX dX1_match_150 (by decide) ?_
    have L5 := match_loop5 (h := h) (q := q) (kA := kA) hX (op := op) (v := ms Q) (b := e4) hQ4 (by rw [e47]; exact hC) (fun c a b => by
      rw [e47] at b
      have := r4 c a b
      refine ⟨this.1, by omega, fun z => ?_⟩
      rw [e48]
      exact hjr _ (by omega) this.2) (fun lv => ?_) 30 1 (by omega) (by omega) (by omega)
    · exact L5
    · refine hR _ _ _ _ dX1_match_189 ⟨fun k hk => by rw [o1 k (by omega) (by omega) (by omega) (by omega) (by omega) (by omega), e3k k hk], ?_⟩
      rw [o1.co, e47, b7]
      rw [b7] at o2
      refine opt_jobs hJ ?_
      obtain ⟨s, g1, g2, g3⟩ := o2.opt (by rw [← b7]; omega) hRr.1
      have hcc : coR e3 op = fun r c => kc d op (e 8 r) c := by
        unfold coR
        rw [hco3, e38]
      rw [hcc] at g2 g3 ⊢
      exact ⟨s, g1, g2, g3⟩
  refine g_aload_n hX dX1_match_0 rfl ?_
  refine g_iconst hX dX1_match_1 ?_
  refine px_rows hX dX1_match_2 ?_
  refine g_aload_n hX dX1_match_5 rfl ?_
  refine g_aload_n hX dX1_match_6 rfl ?_
  refine gx_doubled hX dX1_match_7 ?_
  refine g_if_lt (tgt := 22) hX dX1_match_10 (by decide) (by rw [st1_ne (by decide)]; omega) (fun c_10 => ?_) (fun c_10 => ?_)
  · refine g_aload_n hX dX1_match_22 rfl ?_
    refine gx_machines hX dX1_match_23 ?_
    refine g_iconst hX dX1_match_26 ?_
    refine g_imul hX dX1_match_27 ?_
    refine px_columns hX dX1_match_28 ?_
    refine K31 _ ?_
    unfold cols
    have c10 : ¬ 0 ≤ d 4 0 := by
      rw [st1_ne (by decide)] at c_10
      omega
    rw [if_neg c10, st1_ne (a := 0) (by decide)]
  · refine g_aload_n hX dX1_match_13 rfl ?_
    refine gx_machines hX dX1_match_14 ?_
    refine g_iconst hX dX1_match_17 ?_
    refine g_iadd hX dX1_match_18 ?_
    refine g_goto (tgt := 26) hX dX1_match_19 (by decide) ?_
    refine g_iconst hX dX1_match_26 ?_
    refine g_imul hX dX1_match_27 ?_
    refine px_columns hX dX1_match_28 ?_
    refine K31 _ ?_
    unfold cols
    have c10 : 0 ≤ d 4 0 := by
      rw [st1_ne (by decide)] at c_10
      omega
    rw [if_pos c10, st1_ne (a := 0) (by decide)]
end
section
set_option maxRecDepth 100000
variable {h : Nat} {q : Nat → Nat} {kA : Nat → ClassId} {d : DS} {X : Cx}
theorem sj_le {f g : Int → Int} (hf : ∀ j, 0 ≤ j → j < 5 → f j ≤ g j) : sj f ≤ sj g := by
  unfold sj
  have := hf 0 (by decide) (by decide)
  have := hf 1 (by decide) (by decide)
  have := hf 2 (by decide) (by decide)
  have := hf 3 (by decide) (by decide)
  have := hf 4 (by decide) (by decide)
  omega
theorem Opt_rng {Q : Int → Bool} {op : Int → Int → Bool} {z : Int} (hQ : QT d op) (ho : Opt (cols d) Q (kc d op) z) : 0 ≤ z ∧ z ≤ 500000 := by
  obtain ⟨⟨t, ht, e⟩, -⟩ := ho
  have key : ∀ j, 0 ≤ j → j < 5 → 0 ≤ (if Q j then kc d op j (t j) else 0) ∧ (if Q j then kc d op j (t j) else 0) ≤ 100000 := by
    intro j a b
    cases hb : Q j with
    | false => simp
    | true =>
      have := kc_rng hQ ⟨a, b⟩ (ht.1 j a b hb).1
      simpa using this
  have e1 : sj (fun _ => 0) ≤ z := by
    rw [e]
    exact sj_le (fun j a b => (key j a b).1)
  have e2 : z ≤ sj (fun _ => 100000) := by
    rw [e]
    exact sj_le (fun j a b => (key j a b).2)
  have e3 : sj (fun _ => 0) = 0 := rfl
  have e4 : sj (fun _ => 100000) = 500000 := rfl
  omega
theorem shr3_all {z : Int} (h0 : 0 ≤ z) (h1 : z ≤ 1000000) : iI z >>> (iI 3 &&& 31) = iI (z / 8) := by
  rw [iI_toNat h0]
  have := pk_shrN (n := z.toNat) (by omega) (iI 3 &&& 31) 3 (by decide)
  rw [this, ← iI_nat]
  congr 1
  omega
set_option maxHeartbeats 4000000 in
/-- totalOf(set): the least total, -1 when there is no plan -/
theorem ct_totalOf {Q : Int → Bool} {op : Int → Int → Bool} (hQ : QT d op) : Ct yX1_totalOf cX1_totalOf 3 (some .int) 5 (TyX kA) (WX h q kA d) (fun e : DS => WX h q kA e) [.ref h, .int (iI (ms Q))] (fun z e => kpm d e ∧ ∃ s, Opt (cols d) Q (kc d op) s ∧ ((100000 ≤ s ∧ z = -1) ∨ (s < 100000 ∧ z = (s + 7) / 8))) := by
  refine ct_int (by decide) rfl (Nat.le_of_ble_eq_true rfl) (fun X hX hR => ?_)
  refine g_aload_n hX dX1_totalOf_0 rfl ?_
  refine g_iload_n hX dX1_totalOf_1 rfl ?_
  refine g_call hX (ct_match (Q := Q) hQ) (by decide) (by decide) vwX1_match (hdX1_match npX1_match) (ci := 0) rfl rfl rfl rfl (Nat.le_of_ble_eq_true rfl) dX1_totalOf_2 (fun s e hs => ?_)
  have hr := Opt_rng hQ hs.2
  refine g_istore_n hX dX1_totalOf_5 (by decide) ?_
  refine g_iload_n hX dX1_totalOf_6 rfl ?_
  refine g_ldc hX (z := 100000) q161 rfl dX1_totalOf_7 ?_
  refine g_icmp_lt (tgt := 16) hX dX1_totalOf_9 (by decide) (by omega) (by omega) (fun c_9 => ?_) (fun c_9 => ?_)
  · refine g_iload_n hX dX1_totalOf_16 rfl ?_
    refine g_bipush hX dX1_totalOf_17 (by decide) ?_
    refine g_iadd hX dX1_totalOf_19 ?_
    refine g_iconst hX dX1_totalOf_20 ?_
    refine g_ishr hX dX1_totalOf_21 ?_
    refine g_int (z := (s + 7) / 8) (shr3_all (by omega) (by omega)) ?_
    exact hR _ _ _ _ dX1_totalOf_22 ⟨hs.1, s, hs.2, Or.inr ⟨c_9, rfl⟩⟩
  · refine g_iconst hX dX1_totalOf_12 ?_
    refine g_goto (tgt := 22) hX dX1_totalOf_13 (by decide) ?_
    exact hR _ _ _ _ dX1_totalOf_22 ⟨hs.1, s, hs.2, Or.inl ⟨c_9, rfl⟩⟩
end
end
section
/-! PLAIN: the least total of a question, in the desk's words -/
section
/-- the desk's numbers under a question: doubled db, liked lk -/
def ql (d : DS) (db lk : Int) : DS := st1 (st1 d 4 0 db) 5 0 lk
def Tot (d : DS) (db lk : Int) (op : Int → Int → Bool) (Q : Int → Bool) (z : Int) : Prop := ∃ s, Opt (cols (ql d db lk)) Q (kc (ql d db lk) op) s ∧ ((100000 ≤ s ∧ z = -1) ∨ (s < 100000 ∧ z = (s + 7) / 8))
/-- job j on machine m alone -/
def one (op : Int → Int → Bool) (j m : Int) : Int → Int → Bool := fun i => if i = j then (fun x => decide (x = m)) else op i
variable {d e : DS} {db lk : Int} {op : Int → Int → Bool} {Q : Int → Bool}
theorem ql_0 : ql d db lk 0 = d 0 := by unfold ql; rw [st1_ne (by decide), st1_ne (by decide)]
theorem ql_2 : ql d db lk 2 = d 2 := by unfold ql; rw [st1_ne (by decide), st1_ne (by decide)]
theorem ql_4 : ql d db lk 4 0 = db := by unfold ql; rw [st1_ne (by decide), st1_eq]
theorem ql_5 : ql d db lk 5 0 = lk := by unfold ql; rw [st1_eq]
theorem kc_ql (h0 : e 0 = d 0) (h2 : e 2 = d 2) (h4 : e 4 0 = db) (h5 : e 5 0 = lk) : kc e op = kc (ql d db lk) op ∧ cols e = cols (ql d db lk) := by
  constructor
  · funext j c
    unfold kc mAt
    rw [ql_0, ql_2, ql_4, ql_5, h0, h2, h4, h5]
  · unfold cols
    rw [ql_0, ql_4, h0, h4]
/-- a question, without its masks -/
def QK (d : DS) (db lk : Int) (op : Int → Int → Bool) : Prop := DT d ∧ (-1 ≤ db ∧ db < d 0 0) ∧ (-1 ≤ lk ∧ lk < d 0 0) ∧ ∀ j m, 0 ≤ j → j < 5 → 0 ≤ m → m < d 0 0 → op j m = true → 0 < d 2 (j * 3 + m)
theorem QK.qt (hq : QK d db lk op) (h0 : e 0 = d 0) (h2 : e 2 = d 2) (h4 : e 4 0 = db) (h5 : e 5 0 = lk) (h3 : ∀ j, 0 ≤ j → j < 5 → e 3 j = ms (op j)) : QT e op := by
  obtain ⟨a, b, c, f⟩ := hq
  unfold QT DT
  rw [h0, h2, h4, h5]
  exact ⟨a, b, c, h3, f⟩
theorem QK.rng (hq : QK d db lk op) {j c : Int} (hj : 0 ≤ j ∧ j < 5) (hc : 1 ≤ c) : 0 ≤ kc (ql d db lk) op j c ∧ kc (ql d db lk) op j c ≤ 100000 := by
  have h : QT (fun k => if k = 3 then (fun i => ms (op i)) else ql d db lk k) op := hq.qt ql_0 ql_2 ql_4 ql_5 (fun _ _ _ => rfl)
  have := kc_rng h hj hc
  have e1 : kc (fun k => if k = 3 then (fun i => ms (op i)) else ql d db lk k) op = kc (ql d db lk) op := kc_congr rfl rfl rfl rfl
  rw [e1] at this
  exact this
theorem Opt_uniq {C : Int} {k : Int → Int → Int} {s s' : Int} (h : Opt C Q k s) (h' : Opt C Q k s') : s = s' := by
  obtain ⟨⟨t, a, b⟩, c⟩ := h
  obtain ⟨⟨t', a', b'⟩, c'⟩ := h'
  have := c t' a'
  have := c' t a
  omega
theorem Tot_uniq {z z' : Int} (h : Tot d db lk op Q z) (h' : Tot d db lk op Q z') : z = z' := by
  obtain ⟨s, a, b⟩ := h
  obtain ⟨s', a', b'⟩ := h'
  have := Opt_uniq a a'
  omega
theorem sj_nn {f : Int → Int} (hf : ∀ j, 0 ≤ j → j < 5 → 0 ≤ f j) {j : Int} (h0 : 0 ≤ j) (h1 : j < 5) : f j ≤ sj f := by
  have a0 := hf 0 (by decide) (by decide)
  have a1 := hf 1 (by decide) (by decide)
  have a2 := hf 2 (by decide) (by decide)
  have a3 := hf 3 (by decide) (by decide)
  have a4 := hf 4 (by decide) (by decide)
  unfold sj
  have : j = 0 ∨ j = 1 ∨ j = 2 ∨ j = 3 ∨ j = 4 := by omega
  rcases this with e | e | e | e | e <;> subst e <;> omega
theorem QK.nn (hq : QK d db lk op) {s : Int} (h : Opt (cols (ql d db lk)) Q (kc (ql d db lk) op) s) : 0 ≤ s := by
  obtain ⟨⟨t, a, b⟩, c⟩ := h
  rw [b]
  have : sj (fun _ => 0) ≤ sQ Q (kc (ql d db lk) op) t := sj_le (fun j x y => by
    show 0 ≤ (if Q j then kc (ql d db lk) op j (t j) else 0)
    cases hb : Q j with
    | false => simp
    | true =>
      have := hq.rng ⟨x, y⟩ (a.1 j x y hb).1
      simp
      exact this.1)
  have e : sj (fun _ => 0) = 0 := rfl
  omega
theorem Tot_rng (hq : QK d db lk op) {z : Int} (h : Tot d db lk op Q z) : -1 ≤ z ∧ z ≤ 100000 := by
  obtain ⟨s, ho, g⟩ := h
  have := hq.nn ho
  omega
/-- a plan: every job has a machine -/
theorem Tot_plan (hq : QK d db lk op) (hm : ∀ j, 0 ≤ j → j < 5 → Q j = true → ∃ m, 0 ≤ m ∧ m < d 0 0 ∧ op j m = true) {z : Int} (h : Tot d db lk op Q z) : 0 ≤ z := by
  obtain ⟨s, ho, g⟩ := h
  have hn := hq.1.1
  have ht := hq.1.2
  have hr := Tot_rng hq ⟨s, ho, g⟩
  have hch : ∀ j, ∃ m, (0 ≤ j → j < 5 → Q j = true → 0 ≤ m ∧ m < d 0 0 ∧ op j m = true) := by
    intro j
    by_cases e : 0 ≤ j ∧ j < 5 ∧ Q j = true
    · obtain ⟨m, hm⟩ := hm j e.1 e.2.1 e.2.2
      exact ⟨m, fun _ _ _ => hm⟩
    · exact ⟨0, fun a b c => absurd ⟨a, b, c⟩ e⟩
  obtain ⟨M, hM⟩ : ∃ M : Int → Int, ∀ j, 0 ≤ j → j < 5 → Q j = true → 0 ≤ M j ∧ M j < d 0 0 ∧ op j (M j) = true := ⟨fun j => Classical.choose (hch j), fun j => Classical.choose_spec (hch j)⟩
  have hnn := hq.nn ho
  have hle := ho.2 (fun j => 5 * M j + j + 1) ⟨fun j a b c => by
      have := hM j a b c
      unfold cols
      rw [ql_0]
      show 1 ≤ 5 * M j + j + 1 ∧ 5 * M j + j + 1 ≤ _
      split <;> omega, fun j j' a b a' b' c c' e => by
      have e : 5 * M j + j + 1 = 5 * M j' + j' + 1 := e
      omega⟩
  have hsm : sQ Q (kc (ql d db lk) op) (fun j => 5 * M j + j + 1) ≤ sj (fun _ => 700) := by
    refine sj_le (fun j a b => ?_)
    show (if Q j then kc (ql d db lk) op j (5 * M j + j + 1) else 0) ≤ 700
    cases hb : Q j with
    | false => simp
    | true =>
      have hm := hM j a b hb
      simp only [if_true]
      generalize M j = m at hm ⊢
      have hmA : mAt (ql d db lk) (5 * m + j + 1) = m := by
        unfold mAt
        rw [ql_0]
        have : (5 * m + j + 1 - 1) / 5 = m := by omega
        rw [this, if_pos hm.2.1]
      unfold kc
      rw [hmA, if_neg (by rw [hm.2.2]; simp; omega), ql_2, ql_5]
      have hT := ht (j * 3 + m) (by omega) (by omega)
      have e5 : (5 * m + j + 1 - 1) % 5 = j := by omega
      rw [e5]
      generalize d 2 (j * 3 + m) = T at hT
      have hj : j = 0 ∨ j = 1 ∨ j = 2 ∨ j = 3 ∨ j = 4 := by omega
      rcases hj with e | e | e | e | e <;> subst e <;> split <;> omega
  have e7 : sj (fun _ => 700) = 3500 := rfl
  omega
theorem Tot_pick (hq : QK d db lk op) {z j : Int} (h : Tot d db lk op Q z) (hz : 0 ≤ z) (h0 : 0 ≤ j) (h1 : j < 5) (hj : Q j = true) : ∃ m, 0 ≤ m ∧ m < d 0 0 ∧ op j m = true ∧ Tot d db lk (one op j m) Q z := by
  obtain ⟨s, ⟨⟨t, a, b⟩, c⟩, g⟩ := h
  have hs : s < 100000 := by omega
  have hn := hq.1.1
  have hterm : kc (ql d db lk) op j (t j) ≤ s := by
    rw [b]
    have := sj_nn (f := fun i => if Q i then kc (ql d db lk) op i (t i) else 0) (fun i x y => by
      show 0 ≤ (if Q i then kc (ql d db lk) op i (t i) else 0)
      cases hb : Q i with
      | false => simp
      | true =>
        have := hq.rng ⟨x, y⟩ (a.1 i x y hb).1
        simp
        exact this.1) h0 h1
    have this : (if Q j then kc (ql d db lk) op j (t j) else 0) ≤ _ := this
    rw [hj, if_pos rfl] at this
    exact this
  have htj := a.1 j h0 h1 hj
  have hmr := mAt_rng (d := ql d db lk) (c := t j) (by rw [ql_0]; exact hn) (by rw [ql_0, ql_4]; exact hq.2.1) htj.1
  rw [ql_0] at hmr
  have hno : ¬ (mAt (ql d db lk) (t j) < 0 ∨ op j (mAt (ql d db lk) (t j)) = false) := by
    intro hh
    unfold kc at hterm
    rw [if_pos hh] at hterm
    omega
  have hop : op j (mAt (ql d db lk) (t j)) = true := by
    cases hb : op j (mAt (ql d db lk) (t j)) with
    | true => rfl
    | false => exact absurd (Or.inr hb) hno
  refine ⟨mAt (ql d db lk) (t j), by omega, hmr.2, hop, s, ⟨⟨t, a, ?_⟩, fun t' ht' => ?_⟩, g⟩
  · rw [b]
    unfold sQ sj
    have key : ∀ i, kc (ql d db lk) op i (t i) = kc (ql d db lk) (one op j (mAt (ql d db lk) (t j))) i (t i) := by
      intro i
      unfold kc one
      by_cases e : i = j
      · subst e
        simp [hop]
      · simp [e]
    simp only [key]
  · refine Int.le_trans (c t' ht') (sj_le (fun i x y => ?_))
    show (if Q i then kc (ql d db lk) op i (t' i) else 0) ≤ (if Q i then kc (ql d db lk) (one op j (mAt (ql d db lk) (t j))) i (t' i) else 0)
    cases hb : Q i with
    | false => simp
    | true =>
      simp only [if_true]
      have r := hq.rng ⟨x, y⟩ (ht'.1 i x y hb).1
      by_cases e : i = j
      · subst e
        by_cases e2 : mAt (ql d db lk) (t' i) = mAt (ql d db lk) (t i)
        · have : kc (ql d db lk) op i (t' i) = kc (ql d db lk) (one op i (mAt (ql d db lk) (t i))) i (t' i) := by
            unfold kc one
            simp [e2, hop]
          omega
        · have : kc (ql d db lk) (one op i (mAt (ql d db lk) (t i))) i (t' i) = 100000 := by
            unfold kc one
            simp [e2]
          omega
      · have : kc (ql d db lk) op i (t' i) = kc (ql d db lk) (one op j (mAt (ql d db lk) (t j))) i (t' i) := by
          unfold kc one
          simp [e]
        omega
end
section
variable {d : DS} {db lk : Int} {Q : Int → Bool}
theorem sj_cg {f g : Int → Int} (h : ∀ j, 0 ≤ j → j < 5 → f j = g j) : sj f = sj g := by
  unfold sj
  rw [h 0 (by decide) (by decide), h 1 (by decide) (by decide), h 2 (by decide) (by decide), h 3 (by decide) (by decide), h 4 (by decide) (by decide)]
/-- a question asks of a job's machines by the job's number alone -/
theorem Tot_cg {op op' : Int → Int → Bool} {z : Int} (h : ∀ j, 0 ≤ j → j < 5 → op j = op' j) : Tot d db lk op Q z ↔ Tot d db lk op' Q z := by
  have e : ∀ t, sQ Q (kc (ql d db lk) op) t = sQ Q (kc (ql d db lk) op') t := by
    intro t
    have k : ∀ j c, 0 ≤ j → j < 5 → kc (ql d db lk) op j c = kc (ql d db lk) op' j c := by
      intro j c a b
      unfold kc
      rw [h j a b]
    unfold sQ
    refine sj_cg (fun j a b => ?_)
    rw [k j (t j) a b]
  unfold Tot Opt
  simp only [e]
end
end
section
/-! DESK: firstMachine, learn, least, machineOf -/
section
set_option maxRecDepth 100000
variable {h : Nat} {q : Nat → Nat} {kA : Nat → ClassId} {d : DS} {X : Cx}
theorem tot_of {e : DS} {db lk z : Int} {op : Int → Int → Bool} {Q : Int → Bool} (h0 : e 0 = d 0) (h2 : e 2 = d 2) (h4 : e 4 0 = db) (h5 : e 5 0 = lk) (ht : ∃ s, Opt (cols e) Q (kc e op) s ∧ ((100000 ≤ s ∧ z = -1) ∨ (s < 100000 ∧ z = (s + 7) / 8))) : Tot d db lk op Q z := by
  obtain ⟨e1, e2⟩ := kc_ql (op := op) h0 h2 h4 h5
  rw [e1, e2] at ht
  exact ht
theorem QK_one {op : Int → Int → Bool} {db lk j m : Int} (hq : QK d db lk op) (hm : op j m = true) : QK d db lk (one op j m) := by
  obtain ⟨a, b, c, f⟩ := hq
  refine ⟨a, b, c, fun i x i0 i1 x0 x1 hx => ?_⟩
  unfold one at hx
  by_cases e : i = j
  · subst e
    simp at hx
    subst hx
    exact f i x i0 i1 x0 x1 hm
  · simp [e] at hx
    exact f i x i0 i1 x0 x1 hx
theorem ms_8 {m : Int} (h0 : 0 ≤ m) (h1 : m < 5) : -128 ≤ ms (fun i => decide (i = m)) ∧ ms (fun i => decide (i = m)) ≤ 127 := by
  have := ms_rng (fun i => decide (i = m))
  omega
set_option maxHeartbeats 4000000 in
theorem first_loop {P : Int → Bool} {op : Int → Int → Bool} {j : Int} (hX : Ok X cX1_firstMachine 5 6 RX1 (TyX kA)) (hq : QK d (-1) (-1) op) (h4 : d 4 0 = -1) (h5 : d 5 0 = -1) (h3 : ∀ i, 0 ≤ i → i < 5 → d 3 i = ms (op i)) (hp : d 1 0 = ms P) (hj : 0 ≤ j ∧ j < 5) (hL : -1 ≤ d 16 0 ∧ d 16 0 ≤ 100000) (hex : ∃ m, 0 ≤ m ∧ m < d 0 0 ∧ op j m = true ∧ Tot d (-1) (-1) (one op j m) P (d 16 0))
    (K : ∀ (e : DS) (m : Int) (lv : List (Option Value)), 0 ≤ m → m < d 0 0 → op j m = true → Tot d (-1) (-1) (one op j m) P (d 16 0) → (∀ m', 0 ≤ m' → m' < m → op j m' = true → ¬ Tot d (-1) (-1) (one op j m') P (d 16 0)) → (∀ k, (k < 6 ∧ k ≠ 3) ∨ 14 < k → e k = d k) → (∀ i, i ≠ j → e 3 i = d 3 i) → G X 5 (WX h q kA e) lv 55 [.int (iI m)]) :
    ∀ (n : Nat) (m : Int) (e : DS) (x4 : Option Value), 0 ≤ m → m ≤ d 0 0 → d 0 0 - m < n → (∀ m', 0 ≤ m' → m' < m → op j m' = true → ¬ Tot d (-1) (-1) (one op j m') P (d 16 0)) → (∀ k, (k < 6 ∧ k ≠ 3) ∨ 14 < k → e k = d k) → (∀ i, i ≠ j → e 3 i = d 3 i) → G X 5 (WX h q kA e) [some (.ref h), some (.int (iI j)), some (.int (iI (ms (op j)))), some (.int (iI m)), x4] 9 [] := by
  intro n
  induction n with
  | zero => intro m e x4 h0 h1 h2; omega
  | succ n ih =>
    intro m e x4 h0 h1 h2 l0 l1 l2
    have hn := hq.1.1
    have e0 : e 0 0 = d 0 0 := by rw [l1 0 (by decide)]
    refine g_iload_n hX dX1_firstMachine_9 rfl ?_
    refine g_aload_n hX dX1_firstMachine_10 rfl ?_
    refine gx_machines hX dX1_firstMachine_11 ?_
    refine g_icmp_ge (tgt := 62) hX dX1_firstMachine_14 (by decide) (by omega) (by omega) (fun c_14 => ?_) (fun c_14 => ?_)
    · exfalso
      obtain ⟨m0, a, b, c, f⟩ := hex
      exact l0 m0 a (by omega) c f
    · refine g_iload_n hX dX1_firstMachine_17 rfl ?_
      refine g_iload_n hX dX1_firstMachine_18 rfl ?_
      refine g_ishr hX dX1_firstMachine_19 ?_
      refine g_iconst hX dX1_firstMachine_20 ?_
      refine g_iand hX dX1_firstMachine_21 ?_
      refine g_int (z := if op j m then 1 else 0) (ms_bit _ h0 (by omega)) ?_
      cases hb : op j m with
      | false =>
        refine g_z (z' := 0) (by simp) ?_
        refine g_if_eq (tgt := 56) hX dX1_firstMachine_22 (by decide) (by omega) (fun c_22 => ?_) (fun c_22 => absurd c_22 (by omega))
        refine g_iinc hX dX1_firstMachine_56 rfl (by decide) ?_
        refine g_goto (tgt := 9) hX dX1_firstMachine_59 (by decide) ?_
        refine ih (m + 1) e _ (by omega) (by omega) (by omega) (fun m' a b c => ?_) l1 l2
        by_cases z : m' = m
        · rw [z, hb] at c; exact absurd c (by decide)
        · exact l0 m' a (by omega) c
      | true =>
        refine g_z (z' := 1) (by simp) ?_
        refine g_if_eq (tgt := 56) hX dX1_firstMachine_22 (by decide) (by omega) (fun c_22 => absurd c_22 (by omega)) (fun c_22 => ?_)
        refine g_aload_n hX dX1_firstMachine_25 rfl ?_
        refine gx_open hX dX1_firstMachine_26 ?_
        refine g_iload_n hX dX1_firstMachine_29 rfl ?_
        refine g_iconst hX dX1_firstMachine_30 ?_
        refine g_iload_n hX dX1_firstMachine_31 rfl ?_
        refine g_ishl hX dX1_firstMachine_32 ?_
        refine g_int (ms_one h0 (by omega)) ?_
        have h8 := ms_8 h0 (show m < 5 by omega)
        refine g_i2b hX dX1_firstMachine_33 (by omega) ?_
        refine sx_open hX dX1_firstMachine_34 (by omega) (by omega) ?_
        refine g_aload_n hX dX1_firstMachine_35 rfl ?_
        refine g_aload_n hX dX1_firstMachine_36 rfl ?_
        refine gx_present hX dX1_firstMachine_37 ?_
        generalize hE : st1 e 3 j (ms (fun i => decide (i = m))) = e'
        have k1 : ∀ k, (k < 6 ∧ k ≠ 3) ∨ 14 < k → e' k = d k := fun k hk => by rw [← hE, st1_ne (by omega), l1 k hk]
        have k3 : ∀ i, 0 ≤ i → i < 5 → e' 3 i = ms (one op j m i) := by
          intro i i0 i1
          rw [← hE, st1_at]
          unfold one
          by_cases z : i = j
          · rw [if_pos z, if_pos z]
          · rw [if_neg z, if_neg z, l2 i z, h3 i i0 i1]
        have hq' := QK_one hq hb
        have hQT : QT e' (one op j m) := hq'.qt (k1 0 (by decide)) (k1 2 (by decide)) (by rw [k1 4 (by decide)]; exact h4) (by rw [k1 5 (by decide)]; exact h5) k3
        refine g_z (z' := ms P) (by rw [k1 1 (by decide)]; exact hp) ?_
        refine g_call hX (ct_totalOf (Q := P) hQT) (by decide) (by decide) vwX1_totalOf (hdX1_totalOf npX1_totalOf) (ci := 0) rfl rfl rfl rfl (Nat.le_of_ble_eq_true rfl) dX1_firstMachine_40 (fun z e2 hz => ?_)
        have hT : Tot d (-1) (-1) (one op j m) P z := tot_of (k1 0 (by decide)) (k1 2 (by decide)) (by rw [k1 4 (by decide)]; exact h4) (by rw [k1 5 (by decide)]; exact h5) hz.2
        have hzr := Tot_rng hq' hT
        have f1 : ∀ k, (k < 6 ∧ k ≠ 3) ∨ 14 < k → e2 k = d k := fun k hk => by rw [hz.1 k (by omega), k1 k hk]
        have f3 : ∀ i, i ≠ j → e2 3 i = d 3 i := fun i hi => by rw [hz.1 3 (by omega), ← hE, st1_off hi, l2 i hi]
        have e16 : e2 16 0 = d 16 0 := by rw [f1 16 (by decide)]
        refine g_istore hX dX1_firstMachine_43 (by decide) ?_
        refine g_iload hX dX1_firstMachine_45 rfl ?_
        refine g_aload_n hX dX1_firstMachine_47 rfl ?_
        refine gx_leastTotal hX dX1_firstMachine_48 ?_
        refine g_icmp_ne (tgt := 56) hX dX1_firstMachine_51 (by decide) (by omega) (by omega) (fun c_51 => ?_) (fun c_51 => ?_)
        · refine g_iinc hX dX1_firstMachine_56 rfl (by decide) ?_
          refine g_goto (tgt := 9) hX dX1_firstMachine_59 (by decide) ?_
          refine ih (m + 1) e2 _ (by omega) (by omega) (by omega) (fun m' a b c => ?_) f1 f3
          by_cases w : m' = m
          · rw [w]
            intro hT'
            exact c_51 (by rw [e16]; exact Tot_uniq hT hT')
          · exact l0 m' a (by omega) c
        · refine g_iload_n hX dX1_firstMachine_54 rfl ?_
          refine K e2 m _ h0 (by omega) hb ?_ l0 f1 f3
          rw [← e16, ← c_51]
          exact hT
set_option maxHeartbeats 4000000 in
/-- firstMachine(j): the first machine of j's with which the least total can be had -/
theorem ct_firstMachine {P : Int → Bool} {op : Int → Int → Bool} {j : Int} (hq : QK d (-1) (-1) op) (h4 : d 4 0 = -1) (h5 : d 5 0 = -1) (h3 : ∀ i, 0 ≤ i → i < 5 → d 3 i = ms (op i)) (hp : d 1 0 = ms P) (hj : 0 ≤ j ∧ j < 5) (hL : -1 ≤ d 16 0 ∧ d 16 0 ≤ 100000) (hex : ∃ m, 0 ≤ m ∧ m < d 0 0 ∧ op j m = true ∧ Tot d (-1) (-1) (one op j m) P (d 16 0)) : Ct yX1_firstMachine cX1_firstMachine 5 (some .int) 6 (TyX kA) (WX h q kA d) (fun e : DS => WX h q kA e) [.ref h, .int (iI j)] (fun z e => (0 ≤ z ∧ z < d 0 0) ∧ op j z = true ∧ Tot d (-1) (-1) (one op j z) P (d 16 0) ∧ (∀ m', 0 ≤ m' → m' < z → op j m' = true → ¬ Tot d (-1) (-1) (one op j m') P (d 16 0)) ∧ (∀ k, (k < 6 ∧ k ≠ 3) ∨ 14 < k → e k = d k) ∧ (∀ i, i ≠ j → e 3 i = d 3 i)) := by
  refine ct_int (by decide) rfl (Nat.le_of_ble_eq_true rfl) (fun X hX hR => ?_)
  have hn := hq.1.1
  refine g_aload_n hX dX1_firstMachine_0 rfl ?_
  refine gx_open hX dX1_firstMachine_1 ?_
  refine g_iload_n hX dX1_firstMachine_4 rfl ?_
  refine lx_open hX dX1_firstMachine_5 (by omega) ?_
  refine g_z (h3 j hj.1 hj.2) ?_
  refine g_istore_n hX dX1_firstMachine_6 (by decide) ?_
  refine g_iconst hX dX1_firstMachine_7 ?_
  refine g_istore_n hX dX1_firstMachine_8 (by decide) ?_
  exact first_loop hX hq h4 h5 h3 hp hj hL hex (fun e m lv a b c f g k1 k2 => hR _ _ _ _ dX1_firstMachine_55 ⟨⟨a, b⟩, c, f, g, k1, k2⟩) 10 0 d _ (by omega) (by omega) (by omega) (fun m' a b => by omega) (fun _ _ => rfl) (fun _ _ => rfl)
/-- the jobs ahead of j on their best machines, the others free -/
def opG (d : DS) (P : Int → Bool) (bm : Int → Int) (j : Int) : Int → Int → Bool := fun i => if i < j ∧ P i = true then (fun x => decide (x = bm i)) else ab d i
/-- what is known when the plan has been learnt, for job j -/
def FM (d : DS) (P : Int → Bool) (bm : Int → Int) (LT j : Int) : Prop := (0 ≤ bm j ∧ bm j < d 0 0) ∧ ab d j (bm j) = true ∧ Tot d (-1) (-1) (one (opG d P bm j) j (bm j)) P LT ∧ ∀ m, 0 ≤ m → m < bm j → ab d j m = true → ¬ Tot d (-1) (-1) (one (opG d P bm j) j m) P LT
def LInv (d : DS) (P : Int → Bool) (bm : Int → Int) (LT : Int) : Prop := Tot d (-1) (-1) (ab d) P LT ∧ ∀ j, 0 ≤ j → j < 5 → P j = true → FM d P bm LT j
/-- every job that is there has a machine -/
def hasM (d : DS) (P : Int → Bool) : Prop := ∀ j, 0 ≤ j → j < 5 → P j = true → ∃ m, 0 ≤ m ∧ m < d 0 0 ∧ ab d j m = true
theorem QK_ab (hd : DT d) {db lk : Int} (h1 : -1 ≤ db ∧ db < d 0 0) (h2 : -1 ≤ lk ∧ lk < d 0 0) : QK d db lk (ab d) := by
  refine ⟨hd, h1, h2, fun j m j0 j1 m0 m1 hx => ?_⟩
  unfold ab at hx
  simp at hx
  exact hx.2.2
theorem opG_congr {P : Int → Bool} {bm bm' : Int → Int} {j : Int} (hb : ∀ i, i < j → bm' i = bm i) : opG d P bm' j = opG d P bm j := by
  funext i
  unfold opG
  by_cases e : i < j ∧ P i = true
  · rw [if_pos e, if_pos e, hb i e.1]
  · rw [if_neg e, if_neg e]
theorem opG_next {P : Int → Bool} {bm : Int → Int} {j : Int} (hp : P j = true) : opG d P bm (j + 1) = one (opG d P bm j) j (bm j) := by
  funext i
  unfold opG one
  by_cases e : i = j
  · subst e
    rw [if_pos ⟨by omega, hp⟩, if_pos rfl]
  · rw [if_neg e]
    show _ = (if i < j ∧ P i = true then (fun x => decide (x = bm i)) else ab d i)
    by_cases e2 : i < j ∧ P i = true
    · rw [if_pos ⟨by omega, e2.2⟩, if_pos e2]
    · rw [if_neg (fun w => e2 ⟨by omega, w.2⟩), if_neg e2]
theorem opG_skip {P : Int → Bool} {bm : Int → Int} {j : Int} (hp : ¬ P j = true) : opG d P bm (j + 1) = opG d P bm j := by
  funext i
  unfold opG
  by_cases e2 : i < j ∧ P i = true
  · rw [if_pos ⟨by omega, e2.2⟩, if_pos e2]
  · have e3 : ¬ (i < j + 1 ∧ P i = true) := by
      intro w
      by_cases z : i = j
      · rw [z] at w; exact hp w.2
      · exact e2 ⟨by omega, w.2⟩
    rw [if_neg e3, if_neg e2]
theorem opG_0 {P : Int → Bool} {bm : Int → Int} : ∀ i, 0 ≤ i → opG d P bm 0 i = ab d i := by
  intro i hi
  unfold opG
  rw [if_neg (by omega)]
theorem opG_self {P : Int → Bool} {bm : Int → Int} {j : Int} : opG d P bm j j = ab d j := by
  unfold opG
  rw [if_neg (by omega)]
set_option maxHeartbeats 4000000 in
theorem learn_loop {P : Int → Bool} {LT : Int} (hX : Ok X cX1_learn 2 7 RX1 (TyX kA)) (hd : DT d) (hp : d 1 0 = ms P) (hT0 : Tot d (-1) (-1) (ab d) P LT) (hL0 : 0 ≤ LT)
    (K : ∀ (e : DS) (lv : List (Option Value)), (∀ k, k < 3 → e k = d k) → e 15 0 = 1 → e 16 0 = LT → (∀ j, 0 ≤ j → j < 5 → P j = true → FM d P (e 17) LT j) → G X 2 (WX h q kA e) lv 77 []) :
    ∀ (n : Nat) (j : Int) (e : DS), 0 ≤ j → j ≤ 5 → 5 - j < n → (∀ k, k < 3 → e k = d k) → e 4 0 = -1 → e 5 0 = -1 → e 15 0 = 1 → e 16 0 = LT → (∀ i, 0 ≤ i → i < 5 → e 3 i = ms (opG d P (e 17) j i)) → QK d (-1) (-1) (opG d P (e 17) j) → Tot d (-1) (-1) (opG d P (e 17) j) P LT → (∀ i, 0 ≤ i → i < j → P i = true → FM d P (e 17) LT i) → G X 2 (WX h q kA e) [some (.ref h), some (.int (iI j))] 31 [] := by
  intro n
  induction n with
  | zero => intro m e h0 h1 h2; omega
  | succ n ih =>
    intro j e h0 h1 h2 k1 e4 e5 e15 e16 k3 hq hT hF
    have hLr := Tot_rng hq hT
    have hpe : e 1 0 = ms P := by rw [k1 1 (by decide)]; exact hp
    refine g_iload_n hX dX1_learn_31 rfl ?_
    refine g_iconst hX dX1_learn_32 ?_
    refine g_icmp_ge (tgt := 77) hX dX1_learn_33 (by decide) (by omega) (by omega) (fun c_33 => ?_) (fun c_33 => ?_)
    · exact K e _ k1 e15 e16 (fun i a b c => hF i a (by omega) c)
    · refine g_aload_n hX dX1_learn_36 rfl ?_
      refine g_iload_n hX dX1_learn_37 rfl ?_
      refine g_call hX (ct_has hpe (by omega)) (by decide) (by decide) vwX1_has (hdX1_has npX1_has) (ci := 0) rfl rfl rfl rfl (Nat.le_of_ble_eq_true rfl) dX1_learn_38 (fun t _ ht => ?_)
      refine g_if_eq (tgt := 71) hX dX1_learn_41 (by decide) (ht.r) (fun c_41 => ?_) (fun c_41 => ?_)
      · have hno : ¬ P j = true := fun z => ht.no c_41 ⟨h0, by omega, z⟩
        refine g_iinc hX dX1_learn_71 rfl (by decide) ?_
        refine g_goto (tgt := 31) hX dX1_learn_74 (by decide) ?_
        refine ih (j + 1) e (by omega) (by omega) (by omega) k1 e4 e5 e15 e16 (by rw [opG_skip hno]; exact k3) (by rw [opG_skip hno]; exact hq) (by rw [opG_skip hno]; exact hT) (fun i a b c => ?_)
        by_cases z : i = j
        · rw [z] at c; exact absurd c hno
        · exact hF i a (by omega) c
      · have hyes : P j = true := (ht.yes c_41).2.2
        have hqe : QK e (-1) (-1) (opG d P (e 17) j) := by
          obtain ⟨a, b, c, f⟩ := hq
          unfold QK DT
          rw [k1 0 (by decide), k1 2 (by decide)]
          exact ⟨a, b, c, f⟩
        have hTe : ∀ (op : Int → Int → Bool) (z : Int), Tot e (-1) (-1) op P z ↔ Tot d (-1) (-1) op P z := by
          intro op z
          obtain ⟨a, b⟩ := kc_ql (d := d) (e := ql e (-1) (-1)) (db := -1) (lk := -1) (op := op) (by rw [ql_0, k1 0 (by decide)]) (by rw [ql_2, k1 2 (by decide)]) ql_4 ql_5
          unfold Tot
          rw [a, b]
        have hex : ∃ m, 0 ≤ m ∧ m < e 0 0 ∧ opG d P (e 17) j j m = true ∧ Tot e (-1) (-1) (one (opG d P (e 17) j) j m) P (e 16 0) := by
          obtain ⟨m, a, b, c, f⟩ := Tot_pick hq hT hL0 h0 (by omega) hyes
          exact ⟨m, a, by rw [k1 0 (by decide)]; exact b, c, by rw [hTe, e16]; exact f⟩
        refine g_aload_n hX dX1_learn_44 rfl ?_
        refine gx_bestMachine hX dX1_learn_45 ?_
        refine g_iload_n hX dX1_learn_48 rfl ?_
        refine g_aload_n hX dX1_learn_49 rfl ?_
        refine g_iload_n hX dX1_learn_50 rfl ?_
        refine g_call hX (ct_firstMachine (P := P) hqe e4 e5 k3 hpe ⟨h0, by omega⟩ (by rw [e16]; exact hLr) hex) (by decide) (by decide) vwX1_firstMachine (hdX1_firstMachine npX1_firstMachine) (ci := 0) rfl rfl rfl rfl (Nat.le_of_ble_eq_true rfl) dX1_learn_51 (fun z e2 hz => ?_)
        obtain ⟨z1, z2, z3, z4, z5, z6⟩ := hz
        have hn := hd.1
        rw [k1 0 (by decide)] at z1
        rw [opG_self] at z2
        rw [hTe, e16] at z3
        refine g_i2b hX dX1_learn_54 (by omega) ?_
        refine sx_bestMachine hX dX1_learn_55 (by omega) (by omega) ?_
        refine g_aload_n hX dX1_learn_56 rfl ?_
        refine gx_open hX dX1_learn_57 ?_
        refine g_iload_n hX dX1_learn_60 rfl ?_
        refine g_iconst hX dX1_learn_61 ?_
        refine g_aload_n hX dX1_learn_62 rfl ?_
        refine gx_bestMachine hX dX1_learn_63 ?_
        refine g_iload_n hX dX1_learn_66 rfl ?_
        refine lx_bestMachine hX dX1_learn_67 (by omega) ?_
        refine g_z (z' := z) st1_eq ?_
        refine g_ishl hX dX1_learn_68 ?_
        refine g_int (ms_one z1.1 (by omega)) ?_
        have h8 := ms_8 z1.1 (show z < 5 by omega)
        refine g_i2b hX dX1_learn_69 (by omega) ?_
        refine sx_open hX dX1_learn_70 (by omega) (by omega) ?_
        refine g_iinc hX dX1_learn_71 rfl (by decide) ?_
        refine g_goto (tgt := 31) hX dX1_learn_74 (by decide) ?_
        generalize hE : st1 (st1 e2 17 j z) 3 j (ms (fun i => decide (i = z))) = e3
        have b17 : ∀ i, e3 17 i = if i = j then z else e 17 i := by
          intro i
          rw [← hE, st1_ne (by decide), st1_at, z5 17 (by decide)]
        have bj : e3 17 j = z := by rw [b17, if_pos rfl]
        have hlow : ∀ x, x ≤ j → opG d P (e3 17) x = opG d P (e 17) x := fun x hx => opG_congr (fun i hi => by rw [b17, if_neg (by omega)])
        have f : ∀ k, k < 6 → k ≠ 3 → e3 k = e k := fun k a b => by rw [← hE, st1_ne b, st1_ne (by omega), z5 k (by omega)]
        have f15 : ∀ k, 14 < k → k ≠ 17 → e3 k = e k := fun k a b => by rw [← hE, st1_ne (by omega), st1_ne b, z5 k (by omega)]
        have hzz : opG d P (e3 17) (j + 1) = one (opG d P (e 17) j) j z := by rw [opG_next hyes, hlow j (by omega), bj]
        have z2' : opG d P (e 17) j j z = true := by rw [opG_self]; exact z2
        refine ih (j + 1) e3 (by omega) (by omega) (by omega) (fun k hk => ?_) ?_ ?_ ?_ ?_ (fun i i0 i1 => ?_) ?_ ?_ (fun i a b c => ?_)
        · rw [f k (by omega) (by omega), k1 k hk]
        · rw [f 4 (by decide) (by decide)]; exact e4
        · rw [f 5 (by decide) (by decide)]; exact e5
        · rw [f15 15 (by decide) (by decide)]; exact e15
        · rw [f15 16 (by decide) (by decide)]; exact e16
        · rw [hzz, ← hE, st1_at]
          unfold one
          by_cases w : i = j
          · rw [if_pos w, if_pos w]
          · rw [if_neg w, if_neg w, st1_ne (by decide), z6 i w, k3 i i0 i1]
        · rw [hzz]; exact QK_one hq z2'
        · rw [hzz]; exact z3
        · by_cases w : i = j
          · subst w
            refine ⟨by rw [bj]; exact z1, by rw [bj]; exact z2, by rw [bj, hlow i (by omega)]; exact z3, fun m m0 m1 m2 => ?_⟩
            rw [bj] at m1
            rw [hlow i (by omega)]
            have := z4 m m0 m1 (by rw [opG_self]; exact m2)
            rw [hTe, e16] at this
            exact this
          · have := hF i a (by omega) c
            unfold FM at this ⊢
            rw [hlow i (by omega), b17 i, if_neg w]
            exact this
set_option maxHeartbeats 4000000 in
/-- learn(): the least total and the first plan are known -/
theorem ct_learn {P : Int → Bool} (hd : DT d) (hp : d 1 0 = ms P) (hm : hasM d P) (hk : d 15 0 = 0 ∨ (d 15 0 = 1 ∧ LInv d P (d 17) (d 16 0))) : CtV yX1_learn cX1_learn 2 7 (TyX kA) (WX h q kA d) (fun e : DS => WX h q kA e) [.ref h] (fun e => (∀ k, k < 3 → e k = d k) ∧ e 15 0 = 1 ∧ LInv d P (e 17) (e 16 0)) := by
  refine ct_void (by decide) rfl (Nat.le_of_ble_eq_true rfl) (fun X hX hR => ?_)
  have hn := hd.1
  refine g_aload_n hX dX1_learn_0 rfl ?_
  refine gx_known hX dX1_learn_1 ?_
  refine g_if_eq (tgt := 8) hX dX1_learn_4 (by decide) (by omega) (fun c_4 => ?_) (fun c_4 => ?_)
  · have hd1 : DT (st1 d 15 0 1) := by
      unfold DT
      rw [st1_ne (by decide), st1_ne (by decide)]
      exact hd
    have hab : ab (st1 d 15 0 1) = ab d := by
      funext i
      unfold ab
      rw [st1_ne (by decide), st1_ne (by decide)]
    refine g_aload_n hX dX1_learn_8 rfl ?_
    refine g_iconst hX dX1_learn_9 ?_
    refine px_known hX (by omega) dX1_learn_10 ?_
    refine g_aload_n hX dX1_learn_13 rfl ?_
    refine g_callV hX (ct_askPlainly hd1) (by decide) (by decide) vwX1_askPlainly (hdX1_askPlainly npX1_askPlainly) (ci := 0) rfl rfl rfl rfl (Nat.le_of_ble_eq_true rfl) dX1_learn_14 (fun e he => ?_)
    obtain ⟨a1, a2, a3, a4⟩ := he
    rw [hab] at a2
    have k1 : ∀ k, k < 3 → e k = d k := fun k hk => by rw [a1 k (by omega) (by omega) (by omega), st1_ne (by omega)]
    have hq : QK d (-1) (-1) (ab d) := QK_ab hd (by omega) (by omega)
    have hQT : QT e (ab d) := hq.qt (k1 0 (by decide)) (k1 2 (by decide)) a3 a4 a2
    refine g_aload_n hX dX1_learn_17 rfl ?_
    refine g_aload_n hX dX1_learn_18 rfl ?_
    refine g_aload_n hX dX1_learn_19 rfl ?_
    refine gx_present hX dX1_learn_20 ?_
    refine g_z (z' := ms P) (by rw [k1 1 (by decide)]; exact hp) ?_
    refine g_call hX (ct_totalOf (Q := P) hQT) (by decide) (by decide) vwX1_totalOf (hdX1_totalOf npX1_totalOf) (ci := 0) rfl rfl rfl rfl (Nat.le_of_ble_eq_true rfl) dX1_learn_23 (fun z e2 hz => ?_)
    have hT : Tot d (-1) (-1) (ab d) P z := tot_of (k1 0 (by decide)) (k1 2 (by decide)) a3 a4 hz.2
    have hz0 := Tot_plan hq hm hT
    refine px_leastTotal hX dX1_learn_26 ?_
    refine g_iconst hX dX1_learn_29 ?_
    refine g_istore_n hX dX1_learn_30 (by decide) ?_
    refine learn_loop hX hd hp hT hz0 (fun e3 lv b1 b2 b3 b4 => ?_) 10 0 _ (by omega) (by omega) (by omega) (fun k hk => ?_) ?_ ?_ ?_ st1_eq (fun i i0 i1 => ?_) ?_ ?_ (fun i a b => by omega)
    · exact hR _ _ _ dX1_learn_77 ⟨b1, b2, by rw [b3]; exact ⟨hT, b4⟩⟩
    · rw [st1_ne (by omega), hz.1 k (by omega), k1 k hk]
    · rw [st1_ne (by decide), hz.1 4 (by decide)]; exact a3
    · rw [st1_ne (by decide), hz.1 5 (by decide)]; exact a4
    · rw [st1_ne (by decide), hz.1 15 (by decide), a1 15 (by decide) (by decide) (by decide), st1_eq]
    · rw [st1_ne (by decide), hz.1 3 (by decide), a2 i i0 i1, opG_0 i i0]
    · refine ⟨hd, by omega, by omega, fun j m j0 j1 m0 m1 hx => ?_⟩
      rw [opG_0 j j0] at hx
      exact hq.2.2.2 j m j0 j1 m0 m1 hx
    · exact (Tot_cg (fun j j0 _ => opG_0 j j0)).mpr hT
  · have hk1 : d 15 0 = 1 ∧ LInv d P (d 17) (d 16 0) := by
      rcases hk with a | a
      · exact absurd a c_4
      · exact a
    exact hR _ _ _ dX1_learn_7 ⟨fun _ _ => rfl, hk1.1, hk1.2⟩
end
end
section
/-! DESK: the public questions -/
section
set_option maxRecDepth 100000
variable {h : Nat} {q : Nat → Nat} {kA : Nat → ClassId} {d : DS} {X : Cx}
/-- what holds of the desk between calls -/
def DK (d : DS) (P : Int → Bool) : Prop := DT d ∧ d 1 0 = ms P ∧ hasM d P ∧ (d 15 0 = 0 ∨ (d 15 0 = 1 ∧ LInv d P (d 17) (d 16 0)))
/-- behind learn -/
def LPd (d : DS) (P : Int → Bool) (e : DS) : Prop := (∀ k, k < 3 → e k = d k) ∧ e 15 0 = 1 ∧ LInv d P (e 17) (e 16 0)
set_option maxHeartbeats 4000000 in
theorem ct_least {P : Int → Bool} (hK : DK d P) : Ct yX1_least cX1_least 1 (some .int) 8 (TyX kA) (WX h q kA d) (fun e : DS => WX h q kA e) [.ref h] (fun z e => LPd d P e ∧ z = e 16 0) := by
  refine ct_int (by decide) rfl (Nat.le_of_ble_eq_true rfl) (fun X hX hR => ?_)
  obtain ⟨hd, hp, hm, hk⟩ := hK
  refine g_aload_n hX dX1_least_0 rfl ?_
  refine g_callV hX (ct_learn hd hp hm hk) (by decide) (by decide) vwX1_learn (hdX1_learn npX1_learn) (ci := 0) rfl rfl rfl rfl (Nat.le_of_ble_eq_true rfl) dX1_least_1 (fun e he => ?_)
  refine g_aload_n hX dX1_least_4 rfl ?_
  refine gx_leastTotal hX dX1_least_5 ?_
  exact hR _ _ _ _ dX1_least_8 ⟨he, rfl⟩
set_option maxHeartbeats 4000000 in
theorem ct_machineOf {P : Int → Bool} {j : Int} (hK : DK d P) (hj : -2147483648 ≤ j ∧ j ≤ 2147483647) : Ct yX1_machineOf cX1_machineOf 2 (some .int) 8 (TyX kA) (WX h q kA d) (fun e : DS => WX h q kA e) [.ref h, .int (iI j)] (fun z e => (¬ (0 ≤ j ∧ j < 5 ∧ P j = true) ∧ z = -1 ∧ e = d) ∨ ((0 ≤ j ∧ j < 5 ∧ P j = true) ∧ LPd d P e ∧ z = e 17 j)) := by
  refine ct_int (by decide) rfl (Nat.le_of_ble_eq_true rfl) (fun X hX hR => ?_)
  obtain ⟨hd, hp, hm, hk⟩ := hK
  refine g_aload_n hX dX1_machineOf_0 rfl ?_
  refine g_iload_n hX dX1_machineOf_1 rfl ?_
  refine g_call hX (ct_has hp hj) (by decide) (by decide) vwX1_has (hdX1_has npX1_has) (ci := 0) rfl rfl rfl rfl (Nat.le_of_ble_eq_true rfl) dX1_machineOf_2 (fun t _ ht => ?_)
  refine g_if_ne (tgt := 10) hX dX1_machineOf_5 (by decide) (ht.r) (fun c_5 => ?_) (fun c_5 => ?_)
  · have a1 := ht.yes c_5
    refine g_aload_n hX dX1_machineOf_10 rfl ?_
    refine g_callV hX (ct_learn hd hp hm hk) (by decide) (by decide) vwX1_learn (hdX1_learn npX1_learn) (ci := 0) rfl rfl rfl rfl (Nat.le_of_ble_eq_true rfl) dX1_machineOf_11 (fun e he => ?_)
    refine g_aload_n hX dX1_machineOf_14 rfl ?_
    refine gx_bestMachine hX dX1_machineOf_15 ?_
    refine g_iload_n hX dX1_machineOf_18 rfl ?_
    refine lx_bestMachine hX dX1_machineOf_19 (by omega) ?_
    exact hR _ _ _ _ dX1_machineOf_20 (Or.inr ⟨a1, he, rfl⟩)
  · refine g_iconst hX dX1_machineOf_8 ?_
    exact hR _ _ _ _ dX1_machineOf_9 (Or.inl ⟨ht.no c_5, rfl, rfl⟩)
/-- what job i adds to the finish of job j -/
def fnD (T : Int → Int) (P : Int → Bool) (bm : Int → Int) (j i : Int) : Int := if P i = true ∧ bm i = bm j ∧ (T (i * 3 + bm j) < T (j * 3 + bm j) ∨ (T (i * 3 + bm j) = T (j * 3 + bm j) ∧ i ≤ j)) then T (i * 3 + bm j) else 0
set_option maxHeartbeats 4000000 in
theorem finish_loop {P : Int → Bool} {j : Int} {e : DS} (hX : Ok X cX1_finishOf 8 8 RX1 (TyX kA)) (hd : DT e) (hp : e 1 0 = ms P) (hb : ∀ i, 0 ≤ i → i < 5 → P i = true → 0 ≤ e 17 i ∧ e 17 i < 3) (hj : 0 ≤ j ∧ j < 5 ∧ P j = true)
    (K : ∀ (lv : List (Option Value)), G X 8 (WX h q kA e) lv 126 [.int (iI (Sm (fun i => fnD (e 2) P (e 17) j (i - 1)) 5))]) :
    ∀ (n : Nat) (i : Int) (x6 x7 : Option Value), 0 ≤ i → i ≤ 5 → 5 - i < n → G X 8 (WX h q kA e) [some (.ref h), some (.int (iI j)), some (.int (iI (e 17 j))), some (.int (iI (e 2 (j * 3 + e 17 j)))), some (.int (iI (Sm (fun i => fnD (e 2) P (e 17) j (i - 1)) i))), some (.int (iI i)), x6, x7] 38 [] := by
  intro n
  induction n with
  | zero => intro i x6 x7 h0 h1 h2; omega
  | succ n ih =>
    intro i x6 x7 h0 h1 h2
    have hbj := hb j hj.1 hj.2.1 hj.2.2
    have hs : Sm (fun i => fnD (e 2) P (e 17) j (i - 1)) (i + 1) = Sm (fun i => fnD (e 2) P (e 17) j (i - 1)) i + fnD (e 2) P (e 17) j i := by
      rw [Sm_succ _ h0, show i + 1 - 1 = i by omega]
    refine g_iload hX dX1_finishOf_38 rfl ?_
    refine g_iconst hX dX1_finishOf_40 ?_
    refine g_icmp_ge (tgt := 124) hX dX1_finishOf_41 (by decide) (by omega) (by omega) (fun c_41 => ?_) (fun c_41 => ?_)
    · refine g_iload hX dX1_finishOf_124 rfl ?_
      have : i = 5 := by omega
      subst this
      exact K _
    · have K118 : ∀ (s : Int) (x6 x7 : Option Value), s = Sm (fun i => fnD (e 2) P (e 17) j (i - 1)) (i + 1) → G X 8 (WX h q kA e) [some (.ref h), some (.int (iI j)), some (.int (iI (e 17 j))), some (.int (iI (e 2 (j * 3 + e 17 j)))), some (.int (iI s)), some (.int (iI i)), x6, x7] 118 [] := by
        intro s x6 x7 es
        subst es
        refine g_iinc hX dX1_finishOf_118 rfl (by decide) ?_
        refine g_goto (tgt := 38) hX dX1_finishOf_121 (by decide) ?_
        exact ih (i + 1) _ _ (by omega) (by omega) (by omega)
      refine g_aload_n hX dX1_finishOf_44 rfl ?_
      refine g_iload hX dX1_finishOf_45 rfl ?_
      refine g_call hX (ct_has hp (by omega)) (by decide) (by decide) vwX1_has (hdX1_has npX1_has) (ci := 0) rfl rfl rfl rfl (Nat.le_of_ble_eq_true rfl) dX1_finishOf_47 (fun t _ ht => ?_)
      refine g_if_eq (tgt := 118) hX dX1_finishOf_50 (by decide) (ht.r) (fun c_50 => ?_) (fun c_50 => ?_)
      · refine K118 _ _ _ ?_
        rw [hs]
        have : fnD (e 2) P (e 17) j i = 0 := by
          unfold fnD
          rw [if_neg (fun w => ht.no c_50 ⟨h0, by omega, w.1⟩)]
        omega
      · have hpi := (ht.yes c_50).2.2
        have hbi := hb i h0 (by omega) hpi
        refine g_aload_n hX dX1_finishOf_53 rfl ?_
        refine gx_bestMachine hX dX1_finishOf_54 ?_
        refine g_iload hX dX1_finishOf_57 rfl ?_
        refine lx_bestMachine hX dX1_finishOf_59 (by omega) ?_
        refine g_iload_n hX dX1_finishOf_60 rfl ?_
        refine g_icmp_ne (tgt := 118) hX dX1_finishOf_61 (by decide) (by omega) (by omega) (fun c_61 => ?_) (fun c_61 => ?_)
        · refine K118 _ _ _ ?_
          rw [hs]
          have : fnD (e 2) P (e 17) j i = 0 := by
            unfold fnD
            rw [if_neg (fun w => c_61 w.2.1)]
          omega
        · have ti := hd.2 (i * 3 + e 17 j) (by omega) (by omega)
          have tj := hd.2 (j * 3 + e 17 j) (by omega) (by omega)
          have K100 : ∀ (b : Int) (x7 : Option Value), bz b (e 2 (i * 3 + e 17 j) < e 2 (j * 3 + e 17 j) ∨ (e 2 (i * 3 + e 17 j) = e 2 (j * 3 + e 17 j) ∧ i ≤ j)) → G X 8 (WX h q kA e) [some (.ref h), some (.int (iI j)), some (.int (iI (e 17 j))), some (.int (iI (e 2 (j * 3 + e 17 j)))), some (.int (iI (Sm (fun i => fnD (e 2) P (e 17) j (i - 1)) i))), some (.int (iI i)), some (.int (iI (e 2 (i * 3 + e 17 j)))), x7] 100 [.int (iI b)] := by
            intro b x7 hbz
            refine g_istore hX dX1_finishOf_100 (by decide) ?_
            refine g_iload hX dX1_finishOf_102 rfl ?_
            refine g_iload hX dX1_finishOf_104 rfl ?_
            refine g_if_eq (tgt := 114) hX dX1_finishOf_106 (by decide) (hbz.r) (fun c_106 => ?_) (fun c_106 => ?_)
            · refine g_iconst hX dX1_finishOf_114 ?_
              refine g_iadd hX dX1_finishOf_115 ?_
              refine g_istore hX dX1_finishOf_116 (by decide) ?_
              refine K118 _ _ _ ?_
              rw [hs]
              have : fnD (e 2) P (e 17) j i = 0 := by
                unfold fnD
                rw [if_neg (fun w => hbz.no c_106 w.2.2)]
              omega
            · refine g_iload hX dX1_finishOf_109 rfl ?_
              refine g_goto (tgt := 115) hX dX1_finishOf_111 (by decide) ?_
              refine g_iadd hX dX1_finishOf_115 ?_
              refine g_istore hX dX1_finishOf_116 (by decide) ?_
              refine K118 _ _ _ ?_
              rw [hs]
              have : fnD (e 2) P (e 17) j i = e 2 (i * 3 + e 17 j) := by
                unfold fnD
                rw [if_pos ⟨hpi, c_61, hbz.yes c_106⟩]
              omega
          refine g_aload_n hX dX1_finishOf_64 rfl ?_
          refine gx_times hX dX1_finishOf_65 ?_
          refine g_iload hX dX1_finishOf_68 rfl ?_
          refine g_iconst hX dX1_finishOf_70 ?_
          refine g_imul hX dX1_finishOf_71 ?_
          refine g_iload_n hX dX1_finishOf_72 rfl ?_
          refine g_iadd hX dX1_finishOf_73 ?_
          refine lx_times hX dX1_finishOf_74 (by omega) ?_
          refine g_istore hX dX1_finishOf_75 (by decide) ?_
          refine g_iload hX dX1_finishOf_77 rfl ?_
          refine g_iload_n hX dX1_finishOf_79 rfl ?_
          refine g_icmp_lt (tgt := 95) hX dX1_finishOf_80 (by decide) (by omega) (by omega) (fun c_80 => ?_) (fun c_80 => ?_)
          · refine g_iconst hX dX1_finishOf_95 ?_
            refine g_goto (tgt := 100) hX dX1_finishOf_96 (by decide) ?_
            exact K100 1 _ (bz_t (Or.inl c_80))
          · refine g_iload hX dX1_finishOf_83 rfl ?_
            refine g_iload_n hX dX1_finishOf_85 rfl ?_
            refine g_icmp_ne (tgt := 99) hX dX1_finishOf_86 (by decide) (by omega) (by omega) (fun c_86 => ?_) (fun c_86 => ?_)
            · refine g_iconst hX dX1_finishOf_99 ?_
              exact K100 0 _ (bz_f (by omega))
            · refine g_iload hX dX1_finishOf_89 rfl ?_
              refine g_iload_n hX dX1_finishOf_91 rfl ?_
              refine g_icmp_gt (tgt := 99) hX dX1_finishOf_92 (by decide) (by omega) (by omega) (fun c_92 => ?_) (fun c_92 => ?_)
              · refine g_iconst hX dX1_finishOf_99 ?_
                exact K100 0 _ (bz_f (by omega))
              · refine g_iconst hX dX1_finishOf_95 ?_
                refine g_goto (tgt := 100) hX dX1_finishOf_96 (by decide) ?_
                exact K100 1 _ (bz_t (Or.inr ⟨c_86, c_92⟩))
set_option maxHeartbeats 4000000 in
theorem ct_finishOf {P : Int → Bool} {j : Int} (hK : DK d P) (hj : -2147483648 ≤ j ∧ j ≤ 2147483647) : Ct yX1_finishOf cX1_finishOf 8 (some .int) 8 (TyX kA) (WX h q kA d) (fun e : DS => WX h q kA e) [.ref h, .int (iI j)] (fun z e => (¬ (0 ≤ j ∧ j < 5 ∧ P j = true) ∧ z = -1 ∧ e = d) ∨ ((0 ≤ j ∧ j < 5 ∧ P j = true) ∧ LPd d P e ∧ z = sj (fnD (d 2) P (e 17) j))) := by
  refine ct_int (by decide) rfl (Nat.le_of_ble_eq_true rfl) (fun X hX hR => ?_)
  obtain ⟨hd, hp, hm, hk⟩ := hK
  refine g_aload_n hX dX1_finishOf_0 rfl ?_
  refine g_iload_n hX dX1_finishOf_1 rfl ?_
  refine g_call hX (ct_has hp hj) (by decide) (by decide) vwX1_has (hdX1_has npX1_has) (ci := 0) rfl rfl rfl rfl (Nat.le_of_ble_eq_true rfl) dX1_finishOf_2 (fun t _ ht => ?_)
  refine g_if_ne (tgt := 10) hX dX1_finishOf_5 (by decide) (ht.r) (fun c_5 => ?_) (fun c_5 => ?_)
  · have a1 := ht.yes c_5
    refine g_aload_n hX dX1_finishOf_10 rfl ?_
    refine g_callV hX (ct_learn hd hp hm hk) (by decide) (by decide) vwX1_learn (hdX1_learn npX1_learn) (ci := 0) rfl rfl rfl rfl (Nat.le_of_ble_eq_true rfl) dX1_finishOf_11 (fun e he => ?_)
    have hde : DT e := by
      unfold DT
      rw [he.1 0 (by decide), he.1 2 (by decide)]
      exact hd
    have hpe : e 1 0 = ms P := by rw [he.1 1 (by decide)]; exact hp
    have hn := hd.1
    have hb : ∀ i, 0 ≤ i → i < 5 → P i = true → 0 ≤ e 17 i ∧ e 17 i < 3 := fun i a b c => by
      have := (he.2.2.2 i a b c).1
      omega
    have hbj := hb j a1.1 a1.2.1 a1.2.2
    refine g_aload_n hX dX1_finishOf_14 rfl ?_
    refine gx_bestMachine hX dX1_finishOf_15 ?_
    refine g_iload_n hX dX1_finishOf_18 rfl ?_
    refine lx_bestMachine hX dX1_finishOf_19 (by omega) ?_
    refine g_istore_n hX dX1_finishOf_20 (by decide) ?_
    refine g_aload_n hX dX1_finishOf_21 rfl ?_
    refine gx_times hX dX1_finishOf_22 ?_
    refine g_iload_n hX dX1_finishOf_25 rfl ?_
    refine g_iconst hX dX1_finishOf_26 ?_
    refine g_imul hX dX1_finishOf_27 ?_
    refine g_iload_n hX dX1_finishOf_28 rfl ?_
    refine g_iadd hX dX1_finishOf_29 ?_
    refine lx_times hX dX1_finishOf_30 (by omega) ?_
    refine g_istore_n hX dX1_finishOf_31 (by decide) ?_
    refine g_iconst hX dX1_finishOf_32 ?_
    refine g_istore hX dX1_finishOf_33 (by decide) ?_
    refine g_iconst hX dX1_finishOf_35 ?_
    refine g_istore hX dX1_finishOf_36 (by decide) ?_
    refine finish_loop hX hde hpe hb a1 (fun lv => ?_) 10 0 _ _ (by omega) (by omega) (by omega)
    refine hR _ _ _ _ dX1_finishOf_126 (Or.inr ⟨a1, he, ?_⟩)
    rw [Sm_5, he.1 2 (by decide)]
    rfl
  · refine g_iconst hX dX1_finishOf_8 ?_
    exact hR _ _ _ _ dX1_finishOf_9 (Or.inl ⟨ht.no c_5, rfl, rfl⟩)
/-- nothing that lasts has changed -/
def kq (d e : DS) : Prop := ∀ k, (k < 3 ∨ 14 < k) → e k = d k
set_option maxHeartbeats 4000000 in
theorem ct_leastWith {P : Int → Bool} {j m : Int} (hd : DT d) (hp : d 1 0 = ms P) (hj : -2147483648 ≤ j ∧ j ≤ 2147483647) (hm : -2147483648 ≤ m ∧ m ≤ 2147483647) : Ct yX1_leastWith cX1_leastWith 3 (some .int) 6 (TyX kA) (WX h q kA d) (fun e : DS => WX h q kA e) [.ref h, .int (iI j), .int (iI m)] (fun z e => kq d e ∧ ((¬ ((0 ≤ j ∧ j < 5 ∧ P j = true) ∧ (0 ≤ m ∧ m < d 0 0) ∧ ¬ d 2 (j * 3 + m) = 0) ∧ z = -1) ∨ ((0 ≤ j ∧ j < 5 ∧ P j = true) ∧ (0 ≤ m ∧ m < d 0 0) ∧ ¬ d 2 (j * 3 + m) = 0 ∧ Tot d (-1) (-1) (one (ab d) j m) P z))) := by
  refine ct_int (by decide) rfl (Nat.le_of_ble_eq_true rfl) (fun X hX hR => ?_)
  have hn := hd.1
  have KB : ∀ lv : List (Option Value), ¬ ((0 ≤ j ∧ j < 5 ∧ P j = true) ∧ (0 ≤ m ∧ m < d 0 0) ∧ ¬ d 2 (j * 3 + m) = 0) → G X 3 (WX h q kA d) lv 29 [] := by
    intro lv hg
    refine g_iconst hX dX1_leastWith_29 ?_
    exact hR _ _ _ _ dX1_leastWith_30 ⟨fun _ _ => rfl, Or.inl ⟨hg, rfl⟩⟩
  refine g_aload_n hX dX1_leastWith_0 rfl ?_
  refine g_iload_n hX dX1_leastWith_1 rfl ?_
  refine g_call hX (ct_has hp hj) (by decide) (by decide) vwX1_has (hdX1_has npX1_has) (ci := 0) rfl rfl rfl rfl (Nat.le_of_ble_eq_true rfl) dX1_leastWith_2 (fun t1 _ ht1 => ?_)
  refine g_if_eq (tgt := 29) hX dX1_leastWith_5 (by decide) (ht1.r) (fun c_5 => ?_) (fun c_5 => ?_)
  · exact KB _ (fun g => ht1.no c_5 g.1)
  · have a1 := ht1.yes c_5
    refine g_aload_n hX dX1_leastWith_8 rfl ?_
    refine g_iload_n hX dX1_leastWith_9 rfl ?_
    refine g_call hX (ct_isMachine hn hm) (by decide) (by decide) vwX1_isMachine (hdX1_isMachine npX1_isMachine) (ci := 0) rfl rfl rfl rfl (Nat.le_of_ble_eq_true rfl) dX1_leastWith_10 (fun t2 _ ht2 => ?_)
    refine g_if_eq (tgt := 29) hX dX1_leastWith_13 (by decide) (ht2.r) (fun c_13 => ?_) (fun c_13 => ?_)
    · exact KB _ (fun g => ht2.no c_13 g.2.1)
    · have a2 := ht2.yes c_13
      have tt := hd.2 (j * 3 + m) (by omega) (by omega)
      refine g_aload_n hX dX1_leastWith_16 rfl ?_
      refine gx_times hX dX1_leastWith_17 ?_
      refine g_iload_n hX dX1_leastWith_20 rfl ?_
      refine g_iconst hX dX1_leastWith_21 ?_
      refine g_imul hX dX1_leastWith_22 ?_
      refine g_iload_n hX dX1_leastWith_23 rfl ?_
      refine g_iadd hX dX1_leastWith_24 ?_
      refine lx_times hX dX1_leastWith_25 (by omega) ?_
      refine g_if_ne (tgt := 31) hX dX1_leastWith_26 (by decide) (by omega) (fun c_26 => ?_) (fun c_26 => ?_)
      · refine g_aload_n hX dX1_leastWith_31 rfl ?_
        refine g_callV hX (ct_askPlainly hd) (by decide) (by decide) vwX1_askPlainly (hdX1_askPlainly npX1_askPlainly) (ci := 0) rfl rfl rfl rfl (Nat.le_of_ble_eq_true rfl) dX1_leastWith_32 (fun e he => ?_)
        obtain ⟨b1, b2, b3, b4⟩ := he
        refine g_aload_n hX dX1_leastWith_35 rfl ?_
        refine gx_open hX dX1_leastWith_36 ?_
        refine g_iload_n hX dX1_leastWith_39 rfl ?_
        refine g_iconst hX dX1_leastWith_40 ?_
        refine g_iload_n hX dX1_leastWith_41 rfl ?_
        refine g_ishl hX dX1_leastWith_42 ?_
        refine g_int (ms_one a2.1 (by omega)) ?_
        have h8 := ms_8 a2.1 (show m < 5 by omega)
        refine g_i2b hX dX1_leastWith_43 (by omega) ?_
        refine sx_open hX dX1_leastWith_44 (by omega) (by omega) ?_
        refine g_aload_n hX dX1_leastWith_45 rfl ?_
        refine g_aload_n hX dX1_leastWith_46 rfl ?_
        refine gx_present hX dX1_leastWith_47 ?_
        generalize hE : st1 e 3 j (ms (fun i => decide (i = m))) = e'
        have k1 : ∀ k, k ≠ 3 → k ≠ 4 → k ≠ 5 → e' k = d k := fun k x y z => by rw [← hE, st1_ne x, b1 k x y z]
        have k4 : e' 4 0 = -1 := by rw [← hE, st1_ne (by decide)]; exact b3
        have k5 : e' 5 0 = -1 := by rw [← hE, st1_ne (by decide)]; exact b4
        have hop : ab d j m = true := by
          unfold ab
          simp
          omega
        have hq' := QK_one (QK_ab hd (db := -1) (lk := -1) (by omega) (by omega)) hop
        have hQT : QT e' (one (ab d) j m) := hq'.qt (k1 0 (by decide) (by decide) (by decide)) (k1 2 (by decide) (by decide) (by decide)) k4 k5 (fun i i0 i1 => by
          rw [← hE, st1_at]
          unfold one
          by_cases z : i = j
          · rw [if_pos z, if_pos z]
          · rw [if_neg z, if_neg z, b2 i i0 i1])
        refine g_z (z' := ms P) (by rw [k1 1 (by decide) (by decide) (by decide)]; exact hp) ?_
        refine g_call hX (ct_totalOf (Q := P) hQT) (by decide) (by decide) vwX1_totalOf (hdX1_totalOf npX1_totalOf) (ci := 0) rfl rfl rfl rfl (Nat.le_of_ble_eq_true rfl) dX1_leastWith_50 (fun z e2 hz => ?_)
        refine hR _ _ _ _ dX1_leastWith_53 ⟨fun k hk => by rw [hz.1 k (by omega), k1 k (by omega) (by omega) (by omega)], Or.inr ⟨a1, a2, c_26, tot_of (k1 0 (by decide) (by decide) (by decide)) (k1 2 (by decide) (by decide) (by decide)) k4 k5 hz.2⟩⟩
      · exact KB _ (fun g => g.2.2 c_26)
set_option maxHeartbeats 4000000 in
theorem ct_leastWithout {P : Int → Bool} {j : Int} (hd : DT d) (hp : d 1 0 = ms P) (hj : -2147483648 ≤ j ∧ j ≤ 2147483647) : Ct yX1_leastWithout cX1_leastWithout 2 (some .int) 6 (TyX kA) (WX h q kA d) (fun e : DS => WX h q kA e) [.ref h, .int (iI j)] (fun z e => kq d e ∧ ((¬ (0 ≤ j ∧ j < 5 ∧ P j = true) ∧ z = -1) ∨ ((0 ≤ j ∧ j < 5 ∧ P j = true) ∧ Tot d (-1) (-1) (ab d) (fun i => P i && !decide (i = j)) z))) := by
  refine ct_int (by decide) rfl (Nat.le_of_ble_eq_true rfl) (fun X hX hR => ?_)
  have hn := hd.1
  refine g_aload_n hX dX1_leastWithout_0 rfl ?_
  refine g_iload_n hX dX1_leastWithout_1 rfl ?_
  refine g_call hX (ct_has hp hj) (by decide) (by decide) vwX1_has (hdX1_has npX1_has) (ci := 0) rfl rfl rfl rfl (Nat.le_of_ble_eq_true rfl) dX1_leastWithout_2 (fun t1 _ ht1 => ?_)
  refine g_if_ne (tgt := 10) hX dX1_leastWithout_5 (by decide) (ht1.r) (fun c_5 => ?_) (fun c_5 => ?_)
  · have a1 := ht1.yes c_5
    refine g_aload_n hX dX1_leastWithout_10 rfl ?_
    refine g_callV hX (ct_askPlainly hd) (by decide) (by decide) vwX1_askPlainly (hdX1_askPlainly npX1_askPlainly) (ci := 0) rfl rfl rfl rfl (Nat.le_of_ble_eq_true rfl) dX1_leastWithout_11 (fun e he => ?_)
    obtain ⟨b1, b2, b3, b4⟩ := he
    refine g_aload_n hX dX1_leastWithout_14 rfl ?_
    refine g_aload_n hX dX1_leastWithout_15 rfl ?_
    refine gx_present hX dX1_leastWithout_16 ?_
    refine g_iconst hX dX1_leastWithout_19 ?_
    refine g_iload_n hX dX1_leastWithout_20 rfl ?_
    refine g_ishl hX dX1_leastWithout_21 ?_
    refine g_iconst hX dX1_leastWithout_22 ?_
    refine g_ixor hX dX1_leastWithout_23 ?_
    refine g_iand hX dX1_leastWithout_24 ?_
    refine g_int (z := ms (fun i => P i && !decide (i = j))) (by rw [b1 1 (by decide) (by decide) (by decide), hp, ms_one a1.1 a1.2.1, ms_not]) ?_
    have hQT : QT e (ab d) := (QK_ab hd (db := -1) (lk := -1) (by omega) (by omega)).qt (b1 0 (by decide) (by decide) (by decide)) (b1 2 (by decide) (by decide) (by decide)) b3 b4 b2
    refine g_call hX (ct_totalOf hQT) (by decide) (by decide) vwX1_totalOf (hdX1_totalOf npX1_totalOf) (ci := 0) rfl rfl rfl rfl (Nat.le_of_ble_eq_true rfl) dX1_leastWithout_25 (fun z e2 hz => ?_)
    refine hR _ _ _ _ dX1_leastWithout_28 ⟨fun k hk => by rw [hz.1 k (by omega), b1 k (by omega) (by omega) (by omega)], Or.inr ⟨a1, tot_of (b1 0 (by decide) (by decide) (by decide)) (b1 2 (by decide) (by decide) (by decide)) b3 b4 hz.2⟩⟩
  · refine g_iconst hX dX1_leastWithout_8 ?_
    exact hR _ _ _ _ dX1_leastWithout_9 ⟨fun _ _ => rfl, Or.inl ⟨ht1.no c_5, rfl⟩⟩
set_option maxHeartbeats 4000000 in
theorem ct_leastDoubled {P : Int → Bool} {m : Int} (hd : DT d) (hp : d 1 0 = ms P) (hm : -2147483648 ≤ m ∧ m ≤ 2147483647) : Ct yX1_leastDoubled cX1_leastDoubled 2 (some .int) 6 (TyX kA) (WX h q kA d) (fun e : DS => WX h q kA e) [.ref h, .int (iI m)] (fun z e => kq d e ∧ ((¬ (0 ≤ m ∧ m < d 0 0) ∧ z = -1) ∨ ((0 ≤ m ∧ m < d 0 0) ∧ Tot d m (-1) (ab d) P z))) := by
  refine ct_int (by decide) rfl (Nat.le_of_ble_eq_true rfl) (fun X hX hR => ?_)
  have hn := hd.1
  refine g_aload_n hX dX1_leastDoubled_0 rfl ?_
  refine g_iload_n hX dX1_leastDoubled_1 rfl ?_
  refine g_call hX (ct_isMachine hn hm) (by decide) (by decide) vwX1_isMachine (hdX1_isMachine npX1_isMachine) (ci := 0) rfl rfl rfl rfl (Nat.le_of_ble_eq_true rfl) dX1_leastDoubled_2 (fun t1 _ ht1 => ?_)
  refine g_if_ne (tgt := 10) hX dX1_leastDoubled_5 (by decide) (ht1.r) (fun c_5 => ?_) (fun c_5 => ?_)
  · have a1 := ht1.yes c_5
    refine g_aload_n hX dX1_leastDoubled_10 rfl ?_
    refine g_callV hX (ct_askPlainly hd) (by decide) (by decide) vwX1_askPlainly (hdX1_askPlainly npX1_askPlainly) (ci := 0) rfl rfl rfl rfl (Nat.le_of_ble_eq_true rfl) dX1_leastDoubled_11 (fun e he => ?_)
    obtain ⟨b1, b2, b3, b4⟩ := he
    refine g_aload_n hX dX1_leastDoubled_14 rfl ?_
    refine g_iload_n hX dX1_leastDoubled_15 rfl ?_
    refine px_doubled hX dX1_leastDoubled_16 ?_
    refine g_aload_n hX dX1_leastDoubled_19 rfl ?_
    refine g_aload_n hX dX1_leastDoubled_20 rfl ?_
    refine gx_present hX dX1_leastDoubled_21 ?_
    have k4 : st1 e 4 0 m 4 0 = m := st1_eq
    have k5 : st1 e 4 0 m 5 0 = -1 := by rw [st1_ne (by decide)]; exact b4
    have k0 : st1 e 4 0 m 0 = d 0 := by rw [st1_ne (by decide), b1 0 (by decide) (by decide) (by decide)]
    have k2 : st1 e 4 0 m 2 = d 2 := by rw [st1_ne (by decide), b1 2 (by decide) (by decide) (by decide)]
    have hQT : QT (st1 e 4 0 m) (ab d) := (QK_ab hd (db := m) (lk := -1) (by omega) (by omega)).qt k0 k2 k4 k5 (fun i i0 i1 => by rw [st1_ne (by decide), b2 i i0 i1])
    refine g_z (z' := ms P) (by rw [st1_ne (by decide), b1 1 (by decide) (by decide) (by decide)]; exact hp) ?_
    refine g_call hX (ct_totalOf hQT) (by decide) (by decide) vwX1_totalOf (hdX1_totalOf npX1_totalOf) (ci := 0) rfl rfl rfl rfl (Nat.le_of_ble_eq_true rfl) dX1_leastDoubled_24 (fun z e2 hz => ?_)
    refine hR _ _ _ _ dX1_leastDoubled_27 ⟨fun k hk => by rw [hz.1 k (by omega), st1_ne (by omega), b1 k (by omega) (by omega) (by omega)], Or.inr ⟨a1, tot_of k0 k2 k4 k5 hz.2⟩⟩
  · refine g_iconst hX dX1_leastDoubled_8 ?_
    exact hR _ _ _ _ dX1_leastDoubled_9 ⟨fun _ _ => rfl, Or.inl ⟨ht1.no c_5, rfl⟩⟩
set_option maxHeartbeats 4000000 in
theorem idle_loop {m : Int} {b : DS} (hX : Ok X cX1_leastIdle 3 6 RX1 (TyX kA)) (hm : 0 ≤ m ∧ m < 3) (h3 : ∀ i, 0 ≤ i → i < 5 → b 3 i = ms (ab d i))
    (K : ∀ (e : DS) (x2 : Option Value), (∀ k, k ≠ 3 → e k = b k) → (∀ i, 0 ≤ i → i < 5 → e 3 i = ms (fun x => ab d i x && !decide (x = m))) → G X 3 (WX h q kA e) [some (.ref h), some (.int (iI m)), x2] 46 []) :
    ∀ (n : Nat) (j : Int) (e : DS), 0 ≤ j → j ≤ 5 → 5 - j < n → (∀ k, k ≠ 3 → e k = b k) → (∀ i, 0 ≤ i → i < j → e 3 i = ms (fun x => ab d i x && !decide (x = m))) → (∀ i, j ≤ i → i < 5 → e 3 i = b 3 i) → G X 3 (WX h q kA e) [some (.ref h), some (.int (iI m)), some (.int (iI j))] 16 [] := by
  intro n
  induction n with
  | zero => intro i e h0 h1 h2; omega
  | succ n ih =>
    intro j e h0 h1 h2 l1 l2 l3
    refine g_iload_n hX dX1_leastIdle_16 rfl ?_
    refine g_iconst hX dX1_leastIdle_17 ?_
    refine g_icmp_ge (tgt := 46) hX dX1_leastIdle_18 (by decide) (by omega) (by omega) (fun c_18 => ?_) (fun c_18 => ?_)
    · exact K e _ l1 (fun i a b => l2 i a (by omega))
    · refine g_aload_n hX dX1_leastIdle_21 rfl ?_
      refine gx_open hX dX1_leastIdle_22 ?_
      refine g_iload_n hX dX1_leastIdle_25 rfl ?_
      refine g_aload_n hX dX1_leastIdle_26 rfl ?_
      refine gx_open hX dX1_leastIdle_27 ?_
      refine g_iload_n hX dX1_leastIdle_30 rfl ?_
      refine lx_open hX dX1_leastIdle_31 (by omega) ?_
      refine g_iconst hX dX1_leastIdle_32 ?_
      refine g_iload_n hX dX1_leastIdle_33 rfl ?_
      refine g_ishl hX dX1_leastIdle_34 ?_
      refine g_iconst hX dX1_leastIdle_35 ?_
      refine g_ixor hX dX1_leastIdle_36 ?_
      refine g_iand hX dX1_leastIdle_37 ?_
      refine g_int (z := ms (fun x => ab d j x && !decide (x = m))) (by rw [l3 j (by omega) (by omega), h3 j h0 (by omega), ms_one hm.1 (by omega), ms_not]) ?_
      have hr := ms_rng (fun x => ab d j x && !decide (x = m))
      refine g_i2b hX dX1_leastIdle_38 (by omega) ?_
      refine sx_open hX dX1_leastIdle_39 (by omega) (by omega) ?_
      refine g_iinc hX dX1_leastIdle_40 rfl (by decide) ?_
      refine g_goto (tgt := 16) hX dX1_leastIdle_43 (by decide) ?_
      refine ih (j + 1) _ (by omega) (by omega) (by omega) (fun k hk => by rw [st1_ne hk, l1 k hk]) (fun i a b => ?_) (fun i a b => ?_)
      · rw [st1_at]
        by_cases z : i = j
        · rw [if_pos z, z]
        · rw [if_neg z, l2 i a (by omega)]
      · rw [st1_off (by omega), l3 i (by omega) b]
set_option maxHeartbeats 4000000 in
theorem ct_leastIdle {P : Int → Bool} {m : Int} (hd : DT d) (hp : d 1 0 = ms P) (hm : -2147483648 ≤ m ∧ m ≤ 2147483647) : Ct yX1_leastIdle cX1_leastIdle 3 (some .int) 6 (TyX kA) (WX h q kA d) (fun e : DS => WX h q kA e) [.ref h, .int (iI m)] (fun z e => kq d e ∧ ((¬ (0 ≤ m ∧ m < d 0 0) ∧ z = -1) ∨ ((0 ≤ m ∧ m < d 0 0) ∧ Tot d (-1) (-1) (fun i x => ab d i x && !decide (x = m)) P z))) := by
  refine ct_int (by decide) rfl (Nat.le_of_ble_eq_true rfl) (fun X hX hR => ?_)
  have hn := hd.1
  refine g_aload_n hX dX1_leastIdle_0 rfl ?_
  refine g_iload_n hX dX1_leastIdle_1 rfl ?_
  refine g_call hX (ct_isMachine hn hm) (by decide) (by decide) vwX1_isMachine (hdX1_isMachine npX1_isMachine) (ci := 0) rfl rfl rfl rfl (Nat.le_of_ble_eq_true rfl) dX1_leastIdle_2 (fun t1 _ ht1 => ?_)
  refine g_if_ne (tgt := 10) hX dX1_leastIdle_5 (by decide) (ht1.r) (fun c_5 => ?_) (fun c_5 => ?_)
  · have a1 := ht1.yes c_5
    refine g_aload_n hX dX1_leastIdle_10 rfl ?_
    refine g_callV hX (ct_askPlainly hd) (by decide) (by decide) vwX1_askPlainly (hdX1_askPlainly npX1_askPlainly) (ci := 0) rfl rfl rfl rfl (Nat.le_of_ble_eq_true rfl) dX1_leastIdle_11 (fun e he => ?_)
    obtain ⟨b1, b2, b3, b4⟩ := he
    refine g_iconst hX dX1_leastIdle_14 ?_
    refine g_istore_n hX dX1_leastIdle_15 (by decide) ?_
    refine idle_loop hX (d := d) (b := e) ⟨a1.1, by omega⟩ b2 (fun e' x2 l1 l2 => ?_) 10 0 e (by omega) (by omega) (by omega) (fun _ _ => rfl) (fun i a b => by omega) (fun _ _ _ => rfl)
    have k0 : e' 0 = d 0 := by rw [l1 0 (by decide), b1 0 (by decide) (by decide) (by decide)]
    have k2 : e' 2 = d 2 := by rw [l1 2 (by decide), b1 2 (by decide) (by decide) (by decide)]
    have k4 : e' 4 0 = -1 := by rw [l1 4 (by decide)]; exact b3
    have k5 : e' 5 0 = -1 := by rw [l1 5 (by decide)]; exact b4
    have hq : QK d (-1) (-1) (fun i x => ab d i x && !decide (x = m)) := by
      obtain ⟨f1, f2, f3, f4⟩ := QK_ab hd (db := -1) (lk := -1) (by omega) (by omega)
      refine ⟨f1, f2, f3, fun j x j0 j1 x0 x1 hx => f4 j x j0 j1 x0 x1 ?_⟩
      simp at hx
      exact hx.1
    have hQT := hq.qt k0 k2 k4 k5 l2
    refine g_aload_n hX dX1_leastIdle_46 rfl ?_
    refine g_aload_n hX dX1_leastIdle_47 rfl ?_
    refine gx_present hX dX1_leastIdle_48 ?_
    refine g_z (z' := ms P) (by rw [l1 1 (by decide), b1 1 (by decide) (by decide) (by decide)]; exact hp) ?_
    refine g_call hX (ct_totalOf hQT) (by decide) (by decide) vwX1_totalOf (hdX1_totalOf npX1_totalOf) (ci := 0) rfl rfl rfl rfl (Nat.le_of_ble_eq_true rfl) dX1_leastIdle_51 (fun z e2 hz => ?_)
    refine hR _ _ _ _ dX1_leastIdle_54 ⟨fun k hk => by rw [hz.1 k (by omega), l1 k (by omega), b1 k (by omega) (by omega) (by omega)], Or.inr ⟨a1, tot_of k0 k2 k4 k5 hz.2⟩⟩
  · refine g_iconst hX dX1_leastIdle_8 ?_
    exact hR _ _ _ _ dX1_leastIdle_9 ⟨fun _ _ => rfl, Or.inl ⟨ht1.no c_5, rfl⟩⟩
set_option maxHeartbeats 4000000 in
theorem ct_mostJobs {P : Int → Bool} {m : Int} (hd : DT d) (hp : d 1 0 = ms P) (hm : -2147483648 ≤ m ∧ m ≤ 2147483647) : Ct yX1_mostJobs cX1_mostJobs 3 (some .int) 5 (TyX kA) (WX h q kA d) (fun e : DS => WX h q kA e) [.ref h, .int (iI m)] (fun z e => kq d e ∧ ((¬ (0 ≤ m ∧ m < d 0 0) ∧ z = -1) ∨ ((0 ≤ m ∧ m < d 0 0) ∧ ∃ s, Opt (cols (ql d (-1) m)) P (kc (ql d (-1) m) (ab d)) s ∧ z = (s + 7) / 8 * 8 - s))) := by
  refine ct_int (by decide) rfl (Nat.le_of_ble_eq_true rfl) (fun X hX hR => ?_)
  have hn := hd.1
  refine g_aload_n hX dX1_mostJobs_0 rfl ?_
  refine g_iload_n hX dX1_mostJobs_1 rfl ?_
  refine g_call hX (ct_isMachine hn hm) (by decide) (by decide) vwX1_isMachine (hdX1_isMachine npX1_isMachine) (ci := 0) rfl rfl rfl rfl (Nat.le_of_ble_eq_true rfl) dX1_mostJobs_2 (fun t1 _ ht1 => ?_)
  refine g_if_ne (tgt := 10) hX dX1_mostJobs_5 (by decide) (ht1.r) (fun c_5 => ?_) (fun c_5 => ?_)
  · have a1 := ht1.yes c_5
    refine g_aload_n hX dX1_mostJobs_10 rfl ?_
    refine g_callV hX (ct_askPlainly hd) (by decide) (by decide) vwX1_askPlainly (hdX1_askPlainly npX1_askPlainly) (ci := 0) rfl rfl rfl rfl (Nat.le_of_ble_eq_true rfl) dX1_mostJobs_11 (fun e he => ?_)
    obtain ⟨b1, b2, b3, b4⟩ := he
    refine g_aload_n hX dX1_mostJobs_14 rfl ?_
    refine g_iload_n hX dX1_mostJobs_15 rfl ?_
    refine px_liked hX dX1_mostJobs_16 ?_
    refine g_aload_n hX dX1_mostJobs_19 rfl ?_
    refine g_aload_n hX dX1_mostJobs_20 rfl ?_
    refine gx_present hX dX1_mostJobs_21 ?_
    have k4 : st1 e 5 0 m 4 0 = -1 := by rw [st1_ne (by decide)]; exact b3
    have k5 : st1 e 5 0 m 5 0 = m := st1_eq
    have k0 : st1 e 5 0 m 0 = d 0 := by rw [st1_ne (by decide), b1 0 (by decide) (by decide) (by decide)]
    have k2 : st1 e 5 0 m 2 = d 2 := by rw [st1_ne (by decide), b1 2 (by decide) (by decide) (by decide)]
    have hQT : QT (st1 e 5 0 m) (ab d) := (QK_ab hd (db := -1) (lk := m) (by omega) (by omega)).qt k0 k2 k4 k5 (fun i i0 i1 => by rw [st1_ne (by decide), b2 i i0 i1])
    refine g_z (z' := ms P) (by rw [st1_ne (by decide), b1 1 (by decide) (by decide) (by decide)]; exact hp) ?_
    refine g_call hX (ct_match hQT) (by decide) (by decide) vwX1_match (hdX1_match npX1_match) (ci := 0) rfl rfl rfl rfl (Nat.le_of_ble_eq_true rfl) dX1_mostJobs_24 (fun s e2 hs => ?_)
    have hr := Opt_rng hQT hs.2
    obtain ⟨q1, q2⟩ := kc_ql (op := ab d) k0 k2 k4 k5
    rw [q1, q2] at hs
    refine g_istore_n hX dX1_mostJobs_27 (by decide) ?_
    refine g_iload_n hX dX1_mostJobs_28 rfl ?_
    refine g_bipush hX dX1_mostJobs_29 (by decide) ?_
    refine g_iadd hX dX1_mostJobs_31 ?_
    refine g_iconst hX dX1_mostJobs_32 ?_
    refine g_ishr hX dX1_mostJobs_33 ?_
    refine g_int (z := (s + 7) / 8) (shr3_all (by omega) (by omega)) ?_
    refine g_bipush hX dX1_mostJobs_34 (by decide) ?_
    refine g_imul hX dX1_mostJobs_36 ?_
    refine g_iload_n hX dX1_mostJobs_37 rfl ?_
    refine g_isub hX dX1_mostJobs_38 ?_
    refine hR _ _ _ _ dX1_mostJobs_39 ⟨fun k hk => by rw [hs.1 k (by omega), st1_ne (by omega), b1 k (by omega) (by omega) (by omega)], Or.inr ⟨a1, s, hs.2, rfl⟩⟩
  · refine g_iconst hX dX1_mostJobs_8 ?_
    exact hR _ _ _ _ dX1_mostJobs_9 ⟨fun _ _ => rfl, Or.inl ⟨ht1.no c_5, rfl⟩⟩
end
end
section
/-! MODEL: is, machine, all, time, remove, jobs, add, setTime -/
section
set_option maxRecDepth 100000
variable {h : Nat} {q : Nat → Nat} {kA : Nat → ClassId} {f : DS} {X : Cx}
/-- what every method of the model may lean on -/
def MT (f : DS) (P : Int → Bool) : Prop := (1 ≤ f 0 0 ∧ f 0 0 ≤ 3) ∧ (∀ j, 0 ≤ j → j < 5 → f 1 j = if P j then 1 else 0) ∧ ∀ z, 0 ≤ z → z < 20 → 0 ≤ f 2 z ∧ f 2 z ≤ 15
theorem MT.th {P : Int → Bool} (hM : MT f P) {j : Int} (h0 : 0 ≤ j) (h1 : j < 5) : bz (f 1 j) (P j = true) := by
  rw [hM.2.1 j h0 h1]
  cases P j with
  | true => exact bz_t rfl
  | false => exact bz_f (by decide)
set_option maxHeartbeats 4000000 in
theorem cm_is {P : Int → Bool} {j : Int} (hM : MT f P) (hj : -2147483648 ≤ j ∧ j ≤ 2147483647) : Ct yX2_is cX2_is 2 (some .boolean) 0 (TyY kA) (WY h q kA f) (fun _ : Unit => WY h q kA f) [.ref h, .int (iI j)] (fun z _ => bz z (0 ≤ j ∧ j < 5 ∧ P j = true)) := by
  refine ct_bool (by decide) rfl (Nat.le_of_ble_eq_true rfl) (fun X hX hR => ?_)
  refine g_iload_n hX dX2_is_0 rfl ?_
  refine g_if_lt (tgt := 22) hX dX2_is_1 (by decide) (by omega) (fun c_1 => ?_) (fun c_1 => ?_)
  · refine g_iconst hX dX2_is_22 ?_
    exact hR _ () _ _ dX2_is_23 (by omega) (bz_f (by omega))
  · refine g_iload_n hX dX2_is_4 rfl ?_
    refine g_iconst hX dX2_is_5 ?_
    refine g_icmp_ge (tgt := 22) hX dX2_is_6 (by decide) (by omega) (by omega) (fun c_6 => ?_) (fun c_6 => ?_)
    · refine g_iconst hX dX2_is_22 ?_
      exact hR _ () _ _ dX2_is_23 (by omega) (bz_f (by omega))
    · have ht := hM.th c_1 c_6
      refine g_aload_n hX dX2_is_9 rfl ?_
      refine gy_there hX dX2_is_10 ?_
      refine g_iload_n hX dX2_is_13 rfl ?_
      refine ly_there hX dX2_is_14 (by omega) ?_
      refine g_if_eq (tgt := 22) hX dX2_is_15 (by decide) (ht.r) (fun c_15 => ?_) (fun c_15 => ?_)
      · refine g_iconst hX dX2_is_22 ?_
        exact hR _ () _ _ dX2_is_23 (by omega) (bz_f (fun w => ht.no c_15 w.2.2))
      · refine g_iconst hX dX2_is_18 ?_
        refine g_goto (tgt := 23) hX dX2_is_19 (by decide) ?_
        exact hR _ () _ _ dX2_is_23 (by omega) (bz_t ⟨c_1, c_6, ht.yes c_15⟩)
set_option maxHeartbeats 4000000 in
theorem cm_machine {m : Int} (hn : 1 ≤ f 0 0 ∧ f 0 0 ≤ 3) (hm : -2147483648 ≤ m ∧ m ≤ 2147483647) : Ct yX2_machine cX2_machine 2 (some .boolean) 0 (TyY kA) (WY h q kA f) (fun _ : Unit => WY h q kA f) [.ref h, .int (iI m)] (fun z _ => bz z (0 ≤ m ∧ m < f 0 0)) := by
  refine ct_bool (by decide) rfl (Nat.le_of_ble_eq_true rfl) (fun X hX hR => ?_)
  refine g_iload_n hX dX2_machine_0 rfl ?_
  refine g_if_lt (tgt := 16) hX dX2_machine_1 (by decide) (by omega) (fun c_1 => ?_) (fun c_1 => ?_)
  · refine g_iconst hX dX2_machine_16 ?_
    exact hR _ () _ _ dX2_machine_17 (by omega) (bz_f (by omega))
  · refine g_iload_n hX dX2_machine_4 rfl ?_
    refine g_aload_n hX dX2_machine_5 rfl ?_
    refine gy_crew hX dX2_machine_6 ?_
    refine g_icmp_ge (tgt := 16) hX dX2_machine_9 (by decide) (by omega) (by omega) (fun c_9 => ?_) (fun c_9 => ?_)
    · refine g_iconst hX dX2_machine_16 ?_
      exact hR _ () _ _ dX2_machine_17 (by omega) (bz_f (by omega))
    · refine g_iconst hX dX2_machine_12 ?_
      refine g_goto (tgt := 17) hX dX2_machine_13 (by decide) ?_
      exact hR _ () _ _ dX2_machine_17 (by omega) (bz_t (by omega))
/-- the machines of a crew of n -/
def allM (n : Int) : Int → Bool := fun i => decide (0 ≤ i ∧ i < n)
theorem all_sh {n : Int} (hn : 1 ≤ n ∧ n ≤ 3) : iI 1 <<< (iI n &&& 31) = iI (ms (allM n) + 1) := by
  have : n = 1 ∨ n = 2 ∨ n = 3 := by omega
  rcases this with e | e | e <;> subst e <;> decide
set_option maxHeartbeats 4000000 in
theorem cm_all (hn : 1 ≤ f 0 0 ∧ f 0 0 ≤ 3) : Ct yX2_all cX2_all 1 (some .int) 0 (TyY kA) (WY h q kA f) (fun _ : Unit => WY h q kA f) [.ref h] (fun z _ => z = ms (allM (f 0 0))) := by
  refine ct_int (by decide) rfl (Nat.le_of_ble_eq_true rfl) (fun X hX hR => ?_)
  refine g_iconst hX dX2_all_0 ?_
  refine g_aload_n hX dX2_all_1 rfl ?_
  refine gy_crew hX dX2_all_2 ?_
  refine g_ishl hX dX2_all_5 ?_
  refine g_int (all_sh hn) ?_
  refine g_iconst hX dX2_all_6 ?_
  refine g_isub hX dX2_all_7 ?_
  exact hR _ () _ _ dX2_all_8 (by omega)
set_option maxHeartbeats 4000000 in
theorem cm_time {P : Int → Bool} {j m : Int} (hM : MT f P) (hj : -2147483648 ≤ j ∧ j ≤ 2147483647) (hm : -2147483648 ≤ m ∧ m ≤ 2147483647) : Ct yX2_time cX2_time 3 (some .int) 1 (TyY kA) (WY h q kA f) (fun _ : Unit => WY h q kA f) [.ref h, .int (iI j), .int (iI m)] (fun z _ => (0 ≤ j ∧ j < 5 ∧ P j = true) ∧ (0 ≤ m ∧ m < f 0 0) ∧ z = f 2 (4 * j + m) ∨ ¬ ((0 ≤ j ∧ j < 5 ∧ P j = true) ∧ (0 ≤ m ∧ m < f 0 0)) ∧ z = -1) := by
  refine ct_int (by decide) rfl (Nat.le_of_ble_eq_true rfl) (fun X hX hR => ?_)
  have hn := hM.1
  refine g_aload_n hX dX2_time_0 rfl ?_
  refine g_iload_n hX dX2_time_1 rfl ?_
  refine g_call hX (cm_is hM hj) (by decide) (by decide) vwX2_is (hdX2_is npX2_is) (ci := 1) rfl rfl rfl rfl (Nat.le_of_ble_eq_true rfl) dX2_time_2 (fun z _ hz => ?_)
  refine g_if_eq (tgt := 29) hX dX2_time_5 (by decide) (hz.r) (fun c_5 => ?_) (fun c_5 => ?_)
  · refine g_iconst hX dX2_time_29 ?_
    exact hR _ () _ _ dX2_time_30 (Or.inr ⟨fun a => hz.no c_5 a.1, rfl⟩)
  · have a1 := hz.yes c_5
    refine g_aload_n hX dX2_time_8 rfl ?_
    refine g_iload_n hX dX2_time_9 rfl ?_
    refine g_call hX (cm_machine hn hm) (by decide) (by decide) vwX2_machine (hdX2_machine npX2_machine) (ci := 1) rfl rfl rfl rfl (Nat.le_of_ble_eq_true rfl) dX2_time_10 (fun z2 _ hz2 => ?_)
    refine g_if_eq (tgt := 29) hX dX2_time_13 (by decide) (hz2.r) (fun c_13 => ?_) (fun c_13 => ?_)
    · refine g_iconst hX dX2_time_29 ?_
      exact hR _ () _ _ dX2_time_30 (Or.inr ⟨fun a => hz2.no c_13 a.2, rfl⟩)
    · have a2 := hz2.yes c_13
      refine g_aload_n hX dX2_time_16 rfl ?_
      refine gy_times hX dX2_time_17 ?_
      refine g_iconst hX dX2_time_20 ?_
      refine g_iload_n hX dX2_time_21 rfl ?_
      refine g_imul hX dX2_time_22 ?_
      refine g_iload_n hX dX2_time_23 rfl ?_
      refine g_iadd hX dX2_time_24 ?_
      refine ly_times hX dX2_time_25 (by omega) ?_
      refine g_goto (tgt := 30) hX dX2_time_26 (by decide) ?_
      exact hR _ () _ _ dX2_time_30 (Or.inl ⟨a1, a2, rfl⟩)
set_option maxHeartbeats 4000000 in
theorem cm_remove {P : Int → Bool} {j : Int} (hM : MT f P) (hj : -2147483648 ≤ j ∧ j ≤ 2147483647) : Ct yX2_remove cX2_remove 2 (some .boolean) 1 (TyY kA) (WY h q kA f) (fun f' : DS => WY h q kA f') [.ref h, .int (iI j)] (fun z f' => (¬ (0 ≤ j ∧ j < 5 ∧ P j = true) ∧ z = 0 ∧ f' = f) ∨ ((0 ≤ j ∧ j < 5 ∧ P j = true) ∧ z = 1 ∧ f' = st1 f 1 j 0)) := by
  refine ct_bool (by decide) rfl (Nat.le_of_ble_eq_true rfl) (fun X hX hR => ?_)
  refine g_aload_n hX dX2_remove_0 rfl ?_
  refine g_iload_n hX dX2_remove_1 rfl ?_
  refine g_call hX (cm_is hM hj) (by decide) (by decide) vwX2_is (hdX2_is npX2_is) (ci := 1) rfl rfl rfl rfl (Nat.le_of_ble_eq_true rfl) dX2_remove_2 (fun z _ hz => ?_)
  refine g_if_ne (tgt := 10) hX dX2_remove_5 (by decide) (hz.r) (fun c_5 => ?_) (fun c_5 => ?_)
  · have a1 := hz.yes c_5
    refine g_aload_n hX dX2_remove_10 rfl ?_
    refine gy_there hX dX2_remove_11 ?_
    refine g_iload_n hX dX2_remove_14 rfl ?_
    refine g_iconst hX dX2_remove_15 ?_
    refine sy_there hX dX2_remove_16 (by omega) (by omega) ?_
    refine g_iconst hX dX2_remove_17 ?_
    exact hR _ _ _ _ dX2_remove_18 (by omega) (Or.inr ⟨a1, rfl, rfl⟩)
  · refine g_iconst hX dX2_remove_8 ?_
    exact hR _ _ _ _ dX2_remove_9 (by omega) (Or.inl ⟨hz.no c_5, rfl, rfl⟩)
theorem iI_or0 (x : Int32) : x ||| iI 0 = x := by
  show x ||| 0 = x
  simp
set_option maxHeartbeats 4000000 in
theorem jobs_loop {P : Int → Bool} (hX : Ok X cX2_jobs 3 0 RX2 (TyY kA)) (hM : MT f P) (K : ∀ lv : List (Option Value), G X 3 (WY h q kA f) lv 35 [.int (iI (ms P))]) : ∀ (n : Nat) (j : Int), 0 ≤ j → j ≤ 5 → 5 - j < n → G X 3 (WY h q kA f) [some (.ref h), some (.int (iI (ms (fun i => P i && decide (i < j))))), some (.int (iI j))] 4 [] := by
  intro n
  induction n with
  | zero => intro m h0 h1 h2; omega
  | succ n ih =>
    intro j h0 h1 h2
    refine g_iload_n hX dX2_jobs_4 rfl ?_
    refine g_iconst hX dX2_jobs_5 ?_
    refine g_icmp_ge (tgt := 34) hX dX2_jobs_6 (by decide) (by omega) (by omega) (fun c_6 => ?_) (fun c_6 => ?_)
    · refine g_iload_n hX dX2_jobs_34 rfl ?_
      have e : ms (fun i => P i && decide (i < j)) = ms P := ms_congr (fun i a b => by
        have : i < j := by omega
        simp [this])
      rw [e]
      exact K _
    · have ht := hM.th h0 c_6
      have K26 : ∀ s : Int32, iI (ms (fun i => P i && decide (i < j))) ||| s = iI (ms (fun i => P i && decide (i < j + 1))) → G X 3 (WY h q kA f) [some (.ref h), some (.int (iI (ms (fun i => P i && decide (i < j))))), some (.int (iI j))] 26 [.int s, .int (iI (ms (fun i => P i && decide (i < j))))] := by
        intro s hs
        refine g_ior hX dX2_jobs_26 ?_
        refine g_int hs ?_
        refine g_istore_n hX dX2_jobs_27 (by decide) ?_
        refine g_iinc hX dX2_jobs_28 rfl (by decide) ?_
        refine g_goto (tgt := 4) hX dX2_jobs_31 (by decide) ?_
        exact ih (j + 1) (by omega) (by omega) (by omega)
      refine g_iload_n hX dX2_jobs_9 rfl ?_
      refine g_aload_n hX dX2_jobs_10 rfl ?_
      refine gy_there hX dX2_jobs_11 ?_
      refine g_iload_n hX dX2_jobs_14 rfl ?_
      refine ly_there hX dX2_jobs_15 (by omega) ?_
      refine g_if_eq (tgt := 25) hX dX2_jobs_16 (by decide) (ht.r) (fun c_16 => ?_) (fun c_16 => ?_)
      · refine g_iconst hX dX2_jobs_25 ?_
        refine K26 _ ?_
        rw [iI_or0]
        congr 1
        refine ms_congr (fun i a b => ?_)
        by_cases z : i = j
        · subst z
          have : P i = false := by
            cases e : P i with
            | false => rfl
            | true => exact absurd e (ht.no c_16)
          simp [this]
        · have : i < j ↔ i < j + 1 := by omega
          simp [this]
      · refine g_iconst hX dX2_jobs_19 ?_
        refine g_iload_n hX dX2_jobs_20 rfl ?_
        refine g_ishl hX dX2_jobs_21 ?_
        refine g_goto (tgt := 26) hX dX2_jobs_22 (by decide) ?_
        refine K26 _ ?_
        rw [ms_one h0 c_6, ms_or]
        congr 1
        refine ms_congr (fun i a b => ?_)
        by_cases z : i = j
        · subst z
          have : P i = true := ht.yes c_16
          simp [this]
          omega
        · have : i < j ↔ i < j + 1 := by omega
          simp [this, z]
set_option maxHeartbeats 4000000 in
theorem cm_jobs {P : Int → Bool} (hM : MT f P) : Ct yX2_jobs cX2_jobs 3 (some .int) 0 (TyY kA) (WY h q kA f) (fun _ : Unit => WY h q kA f) [.ref h] (fun z _ => z = ms P) := by
  refine ct_int (by decide) rfl (Nat.le_of_ble_eq_true rfl) (fun X hX hR => ?_)
  refine g_iconst hX dX2_jobs_0 ?_
  refine g_istore_n hX dX2_jobs_1 (by decide) ?_
  refine g_iconst hX dX2_jobs_2 ?_
  refine g_istore_n hX dX2_jobs_3 (by decide) ?_
  have e : (0 : Int) = ms (fun i => P i && decide (i < 0)) := by
    refine (ms_0.mpr (fun i h0 _ => ?_)).symm
    have : ¬ i < 0 := by omega
    simp [this]
  have L := jobs_loop hX hM (fun lv => hR _ () lv 35 dX2_jobs_35 rfl) 10 0 (by omega) (by omega) (by omega)
  rw [← e] at L
  exact L
def addM (f : DS) (j a y z : Int) : DS := st1 (st1 (st1 (st1 f 1 j 1) 2 (4 * j) a) 2 (4 * j + 1) y) 2 (4 * j + 2) z
set_option maxHeartbeats 4000000 in
theorem addm_loop {P : Int → Bool} {a b c y z : Int} (hX : Ok X cX2_add 8 0 RX2 (TyY kA)) (hM : MT f P)
    (K : ∀ (j : Int) (lv : List (Option Value)), 0 ≤ j → j < 5 → P j = false → (∀ i, 0 ≤ i → i < j → P i = true) → G X 8 (WY h q kA (addM f j a y z)) lv 152 [.int (iI j)]) (K2 : ∀ (lv : List (Option Value)), (∀ i, 0 ≤ i → i < 5 → P i = true) → G X 8 (WY h q kA f) lv 161 [.int (iI (-2))]) : ∀ (n : Nat) (j : Int), 0 ≤ j → j ≤ 5 → 5 - j < n → (∀ i, 0 ≤ i → i < j → P i = true) → G X 8 (WY h q kA f) [some (.ref h), some (.int (iI a)), some (.int (iI b)), some (.int (iI c)), some (.int (iI a)), some (.int (iI y)), some (.int (iI z)), some (.int (iI j))] 89 [] := by
  intro n
  induction n with
  | zero => intro m h0 h1 h2; omega
  | succ n ih =>
    intro j h0 h1 h2 e1
    refine g_iload hX dX2_add_89 rfl ?_
    refine g_iconst hX dX2_add_91 ?_
    refine g_icmp_ge (tgt := 159) hX dX2_add_92 (by decide) (by omega) (by omega) (fun c_92 => ?_) (fun c_92 => ?_)
    · refine g_bipush hX dX2_add_159 (by decide) ?_
      exact K2 _ (fun i a b => e1 i a (by omega))
    · have ht := hM.th h0 c_92
      refine g_aload_n hX dX2_add_95 rfl ?_
      refine gy_there hX dX2_add_96 ?_
      refine g_iload hX dX2_add_99 rfl ?_
      refine ly_there hX dX2_add_101 (by omega) ?_
      refine g_if_ne (tgt := 153) hX dX2_add_102 (by decide) (ht.r) (fun c_102 => ?_) (fun c_102 => ?_)
      · refine g_iinc hX dX2_add_153 rfl (by decide) ?_
        refine g_goto (tgt := 89) hX dX2_add_156 (by decide) ?_
        refine ih (j + 1) (by omega) (by omega) (by omega) (fun i a b => ?_)
        by_cases e : i = j
        · rw [e]; exact ht.yes c_102
        · exact e1 i a (by omega)
      · have hj : P j = false := by
          cases e : P j with
          | false => rfl
          | true => exact absurd e (ht.no c_102)
        refine g_aload_n hX dX2_add_105 rfl ?_
        refine gy_there hX dX2_add_106 ?_
        refine g_iload hX dX2_add_109 rfl ?_
        refine g_iconst hX dX2_add_111 ?_
        refine sy_there hX dX2_add_112 (by omega) (by omega) ?_
        refine g_aload_n hX dX2_add_113 rfl ?_
        refine gy_times hX dX2_add_114 ?_
        refine g_iconst hX dX2_add_117 ?_
        refine g_iload hX dX2_add_118 rfl ?_
        refine g_imul hX dX2_add_120 ?_
        refine g_iload hX dX2_add_121 rfl ?_
        refine sy_times hX dX2_add_123 (by omega) ?_
        refine g_aload_n hX dX2_add_124 rfl ?_
        refine gy_times hX dX2_add_125 ?_
        refine g_iconst hX dX2_add_128 ?_
        refine g_iload hX dX2_add_129 rfl ?_
        refine g_imul hX dX2_add_131 ?_
        refine g_iconst hX dX2_add_132 ?_
        refine g_iadd hX dX2_add_133 ?_
        refine g_iload hX dX2_add_134 rfl ?_
        refine sy_times hX dX2_add_136 (by omega) ?_
        refine g_aload_n hX dX2_add_137 rfl ?_
        refine gy_times hX dX2_add_138 ?_
        refine g_iconst hX dX2_add_141 ?_
        refine g_iload hX dX2_add_142 rfl ?_
        refine g_imul hX dX2_add_144 ?_
        refine g_iconst hX dX2_add_145 ?_
        refine g_iadd hX dX2_add_146 ?_
        refine g_iload hX dX2_add_147 rfl ?_
        refine sy_times hX dX2_add_149 (by omega) ?_
        refine g_iload hX dX2_add_150 rfl ?_
        exact K j _ h0 (by omega) hj e1
set_option maxHeartbeats 4000000 in
theorem cm_add {P : Int → Bool} {a b c : Int} (hM : MT f P) (ha : -2147483648 ≤ a ∧ a ≤ 2147483647) (hb : -2147483648 ≤ b ∧ b ≤ 2147483647) (hc : -2147483648 ≤ c ∧ c ≤ 2147483647) : Ct yX2_add cX2_add 8 (some .int) 0 (TyY kA) (WY h q kA f) (fun f' : DS => WY h q kA f') [.ref h, .int (iI a), .int (iI b), .int (iI c)] (fun r f' => ∃ y z : Int, y = (if 1 < f 0 0 then b else 0) ∧ z = (if 2 < f 0 0 then c else 0) ∧ ((¬ gd a y z ∧ r = -1 ∧ f' = f) ∨ (gd a y z ∧ (∀ j, 0 ≤ j → j < 5 → P j = true) ∧ r = -2 ∧ f' = f) ∨ (gd a y z ∧ ∃ j, 0 ≤ j ∧ j < 5 ∧ P j = false ∧ (∀ i, 0 ≤ i → i < j → P i = true) ∧ r = j ∧ f' = addM f j a y z))) := by
  refine ct_int (by decide) rfl (Nat.le_of_ble_eq_true rfl) (fun X hX hR => ?_)
  have hn := hM.1
  have K3 : ∀ y z : Int, y = (if 1 < f 0 0 then b else 0) → z = (if 2 < f 0 0 then c else 0) → G X 8 (WY h q kA f) [some (.ref h), some (.int (iI a)), some (.int (iI b)), some (.int (iI c)), some (.int (iI a)), some (.int (iI y)), some (.int (iI z)), none] 33 [] := by
    intro y z ey ez
    have ry : -2147483648 ≤ y ∧ y ≤ 2147483647 := by rw [ey]; split <;> omega
    have rz : -2147483648 ≤ z ∧ z ≤ 2147483647 := by rw [ez]; split <;> omega
    have KB : ∀ lv : List (Option Value), ¬ gd a y z → G X 8 (WY h q kA f) lv 84 [] := by
      intro lv hg
      refine g_iconst hX dX2_add_84 ?_
      exact hR _ _ _ _ dX2_add_85 ⟨y, z, ey, ez, Or.inl ⟨hg, rfl, rfl⟩⟩
    have KG : gd a y z → G X 8 (WY h q kA f) [some (.ref h), some (.int (iI a)), some (.int (iI b)), some (.int (iI c)), some (.int (iI a)), some (.int (iI y)), some (.int (iI z)), none] 86 [] := by
      intro hg
      refine g_iconst hX dX2_add_86 ?_
      refine g_istore hX dX2_add_87 (by decide) ?_
      exact addm_loop hX hM (fun j lv h0 h1 h2 h3 => hR _ _ _ _ dX2_add_152 ⟨y, z, ey, ez, Or.inr (Or.inr ⟨hg, j, h0, h1, h2, h3, rfl, rfl⟩)⟩) (fun lv h1 => hR _ _ _ _ dX2_add_161 ⟨y, z, ey, ez, Or.inr (Or.inl ⟨hg, h1, rfl, rfl⟩)⟩) 10 0 (by omega) (by omega) (by omega) (fun i a b => by omega)
    unfold gd at KB KG
    refine g_iload hX dX2_add_33 rfl ?_
    refine g_if_lt (tgt := 84) hX dX2_add_35 (by decide) (by omega) (fun c_35 => ?_) (fun c_35 => ?_)
    · exact KB _ (by omega)
    · refine g_iload hX dX2_add_38 rfl ?_
      refine g_bipush hX dX2_add_40 (by decide) ?_
      refine g_icmp_gt (tgt := 84) hX dX2_add_42 (by decide) (by omega) (by omega) (fun c_42 => ?_) (fun c_42 => ?_)
      · exact KB _ (by omega)
      · refine g_iload hX dX2_add_45 rfl ?_
        refine g_if_lt (tgt := 84) hX dX2_add_47 (by decide) (by omega) (fun c_47 => ?_) (fun c_47 => ?_)
        · exact KB _ (by omega)
        · refine g_iload hX dX2_add_50 rfl ?_
          refine g_bipush hX dX2_add_52 (by decide) ?_
          refine g_icmp_gt (tgt := 84) hX dX2_add_54 (by decide) (by omega) (by omega) (fun c_54 => ?_) (fun c_54 => ?_)
          · exact KB _ (by omega)
          · refine g_iload hX dX2_add_57 rfl ?_
            refine g_if_lt (tgt := 84) hX dX2_add_59 (by decide) (by omega) (fun c_59 => ?_) (fun c_59 => ?_)
            · exact KB _ (by omega)
            · refine g_iload hX dX2_add_62 rfl ?_
              refine g_bipush hX dX2_add_64 (by decide) ?_
              refine g_icmp_gt (tgt := 84) hX dX2_add_66 (by decide) (by omega) (by omega) (fun c_66 => ?_) (fun c_66 => ?_)
              · exact KB _ (by omega)
              · refine g_iload hX dX2_add_69 rfl ?_
                refine g_if_ne (tgt := 86) hX dX2_add_71 (by decide) (by omega) (fun c_71 => ?_) (fun c_71 => ?_)
                · exact KG (by omega)
                · refine g_iload hX dX2_add_74 rfl ?_
                  refine g_if_ne (tgt := 86) hX dX2_add_76 (by decide) (by omega) (fun c_76 => ?_) (fun c_76 => ?_)
                  · exact KG (by omega)
                  · refine g_iload hX dX2_add_79 rfl ?_
                    refine g_if_ne (tgt := 86) hX dX2_add_81 (by decide) (by omega) (fun c_81 => ?_) (fun c_81 => ?_)
                    · exact KG (by omega)
                    · exact KB _ (by omega)
  have K2 : ∀ y : Int, y = (if 1 < f 0 0 then b else 0) → G X 8 (WY h q kA f) [some (.ref h), some (.int (iI a)), some (.int (iI b)), some (.int (iI c)), some (.int (iI a)), some (.int (iI y)), none, none] 18 [] := by
    intro y ey
    refine g_aload_n hX dX2_add_18 rfl ?_
    refine gy_crew hX dX2_add_19 ?_
    refine g_iconst hX dX2_add_22 ?_
    refine g_icmp_le (tgt := 30) hX dX2_add_23 (by decide) (by omega) (by omega) (fun c_23 => ?_) (fun c_23 => ?_)
    · refine g_iconst hX dX2_add_30 ?_
      refine g_istore hX dX2_add_31 (by decide) ?_
      exact K3 y 0 ey (by rw [if_neg (by omega)])
    · refine g_iload_n hX dX2_add_26 rfl ?_
      refine g_goto (tgt := 31) hX dX2_add_27 (by decide) ?_
      refine g_istore hX dX2_add_31 (by decide) ?_
      exact K3 y c ey (by rw [if_pos (by omega)])
  refine g_iload_n hX dX2_add_0 rfl ?_
  refine g_istore hX dX2_add_1 (by decide) ?_
  refine g_aload_n hX dX2_add_3 rfl ?_
  refine gy_crew hX dX2_add_4 ?_
  refine g_iconst hX dX2_add_7 ?_
  refine g_icmp_le (tgt := 15) hX dX2_add_8 (by decide) (by omega) (by omega) (fun c_8 => ?_) (fun c_8 => ?_)
  · refine g_iconst hX dX2_add_15 ?_
    refine g_istore hX dX2_add_16 (by decide) ?_
    exact K2 0 (by rw [if_neg (by omega)])
  · refine g_iload_n hX dX2_add_11 rfl ?_
    refine g_goto (tgt := 16) hX dX2_add_12 (by decide) ?_
    refine g_istore hX dX2_add_16 (by decide) ?_
    exact K2 b (by rw [if_pos (by omega)])
set_option maxHeartbeats 4000000 in
theorem cm_setTime {P : Int → Bool} {j m t : Int} (hM : MT f P) (hj : -2147483648 ≤ j ∧ j ≤ 2147483647) (hm : -2147483648 ≤ m ∧ m ≤ 2147483647) (ht : -2147483648 ≤ t ∧ t ≤ 2147483647) : Ct yX2_setTime cX2_setTime 5 (some .boolean) 1 (TyY kA) (WY h q kA f) (fun f' : DS => WY h q kA f') [.ref h, .int (iI j), .int (iI m), .int (iI t)] (fun r f' => (¬ ((0 ≤ j ∧ j < 5 ∧ P j = true) ∧ (0 ≤ m ∧ m < f 0 0) ∧ (0 ≤ t ∧ t ≤ 15)) ∧ r = 0 ∧ f' = f) ∨ (((0 ≤ j ∧ j < 5 ∧ P j = true) ∧ (0 ≤ m ∧ m < f 0 0) ∧ (0 ≤ t ∧ t ≤ 15)) ∧ ((¬ 0 < st1 f 2 (4 * j + m) t 2 (4 * j) + st1 f 2 (4 * j + m) t 2 (4 * j + 1) + st1 f 2 (4 * j + m) t 2 (4 * j + 2) ∧ r = 0 ∧ f' = f) ∨ (0 < st1 f 2 (4 * j + m) t 2 (4 * j) + st1 f 2 (4 * j + m) t 2 (4 * j + 1) + st1 f 2 (4 * j + m) t 2 (4 * j + 2) ∧ r = 1 ∧ f' = st1 f 2 (4 * j + m) t)))) := by
  refine ct_bool (by decide) rfl (Nat.le_of_ble_eq_true rfl) (fun X hX hR => ?_)
  have hn := hM.1
  have KB : ∀ lv : List (Option Value), ¬ ((0 ≤ j ∧ j < 5 ∧ P j = true) ∧ (0 ≤ m ∧ m < f 0 0) ∧ (0 ≤ t ∧ t ≤ 15)) → G X 5 (WY h q kA f) lv 26 [] := by
    intro lv hg
    refine g_iconst hX dX2_setTime_26 ?_
    exact hR _ _ _ _ dX2_setTime_27 (by omega) (Or.inl ⟨hg, rfl, rfl⟩)
  refine g_aload_n hX dX2_setTime_0 rfl ?_
  refine g_iload_n hX dX2_setTime_1 rfl ?_
  refine g_call hX (cm_is hM hj) (by decide) (by decide) vwX2_is (hdX2_is npX2_is) (ci := 1) rfl rfl rfl rfl (Nat.le_of_ble_eq_true rfl) dX2_setTime_2 (fun t1 _ ht1 => ?_)
  refine g_if_eq (tgt := 26) hX dX2_setTime_5 (by decide) (ht1.r) (fun c_5 => ?_) (fun c_5 => ?_)
  · exact KB _ (fun g => ht1.no c_5 g.1)
  · have a1 := ht1.yes c_5
    refine g_aload_n hX dX2_setTime_8 rfl ?_
    refine g_iload_n hX dX2_setTime_9 rfl ?_
    refine g_call hX (cm_machine hn hm) (by decide) (by decide) vwX2_machine (hdX2_machine npX2_machine) (ci := 1) rfl rfl rfl rfl (Nat.le_of_ble_eq_true rfl) dX2_setTime_10 (fun t2 _ ht2 => ?_)
    refine g_if_eq (tgt := 26) hX dX2_setTime_13 (by decide) (ht2.r) (fun c_13 => ?_) (fun c_13 => ?_)
    · exact KB _ (fun g => ht2.no c_13 g.2.1)
    · have a2 := ht2.yes c_13
      refine g_iload_n hX dX2_setTime_16 rfl ?_
      refine g_if_lt (tgt := 26) hX dX2_setTime_17 (by decide) (by omega) (fun c_17 => ?_) (fun c_17 => ?_)
      · exact KB _ (fun g => by omega)
      · refine g_iload_n hX dX2_setTime_20 rfl ?_
        refine g_bipush hX dX2_setTime_21 (by decide) ?_
        refine g_icmp_le (tgt := 28) hX dX2_setTime_23 (by decide) (by omega) (by omega) (fun c_23 => ?_) (fun c_23 => ?_)
        · have a3 : 0 ≤ t ∧ t ≤ 15 := ⟨c_17, c_23⟩
          have key : ∀ z, 0 ≤ z → z < 20 → 0 ≤ st1 f 2 (4 * j + m) t 2 z ∧ st1 f 2 (4 * j + m) t 2 z ≤ 15 := by
            intro z z0 z1
            rw [st1_at]
            split
            · exact a3
            · exact hM.2.2 z z0 z1
          have k0 := key (4 * j) (by omega) (by omega)
          have k1 := key (4 * j + 1) (by omega) (by omega)
          have k2 := key (4 * j + 2) (by omega) (by omega)
          refine g_aload_n hX dX2_setTime_28 rfl ?_
          refine gy_times hX dX2_setTime_29 ?_
          refine g_iconst hX dX2_setTime_32 ?_
          refine g_iload_n hX dX2_setTime_33 rfl ?_
          refine g_imul hX dX2_setTime_34 ?_
          refine g_iload_n hX dX2_setTime_35 rfl ?_
          refine g_iadd hX dX2_setTime_36 ?_
          refine ly_times hX dX2_setTime_37 (by omega) ?_
          refine g_istore hX dX2_setTime_38 (by decide) ?_
          refine g_aload_n hX dX2_setTime_40 rfl ?_
          refine gy_times hX dX2_setTime_41 ?_
          refine g_iconst hX dX2_setTime_44 ?_
          refine g_iload_n hX dX2_setTime_45 rfl ?_
          refine g_imul hX dX2_setTime_46 ?_
          refine g_iload_n hX dX2_setTime_47 rfl ?_
          refine g_iadd hX dX2_setTime_48 ?_
          refine g_iload_n hX dX2_setTime_49 rfl ?_
          refine sy_times hX dX2_setTime_50 (by omega) ?_
          refine g_aload_n hX dX2_setTime_51 rfl ?_
          refine gy_times hX dX2_setTime_52 ?_
          refine g_iconst hX dX2_setTime_55 ?_
          refine g_iload_n hX dX2_setTime_56 rfl ?_
          refine g_imul hX dX2_setTime_57 ?_
          refine ly_times hX dX2_setTime_58 (by omega) ?_
          refine g_aload_n hX dX2_setTime_59 rfl ?_
          refine gy_times hX dX2_setTime_60 ?_
          refine g_iconst hX dX2_setTime_63 ?_
          refine g_iload_n hX dX2_setTime_64 rfl ?_
          refine g_imul hX dX2_setTime_65 ?_
          refine g_iconst hX dX2_setTime_66 ?_
          refine g_iadd hX dX2_setTime_67 ?_
          refine ly_times hX dX2_setTime_68 (by omega) ?_
          refine g_iadd hX dX2_setTime_69 ?_
          refine g_aload_n hX dX2_setTime_70 rfl ?_
          refine gy_times hX dX2_setTime_71 ?_
          refine g_iconst hX dX2_setTime_74 ?_
          refine g_iload_n hX dX2_setTime_75 rfl ?_
          refine g_imul hX dX2_setTime_76 ?_
          refine g_iconst hX dX2_setTime_77 ?_
          refine g_iadd hX dX2_setTime_78 ?_
          refine ly_times hX dX2_setTime_79 (by omega) ?_
          refine g_iadd hX dX2_setTime_80 ?_
          refine g_if_le (tgt := 86) hX dX2_setTime_81 (by decide) (by omega) (fun c_81 => ?_) (fun c_81 => ?_)
          · refine g_aload_n hX dX2_setTime_86 rfl ?_
            refine gy_times hX dX2_setTime_87 ?_
            refine g_iconst hX dX2_setTime_90 ?_
            refine g_iload_n hX dX2_setTime_91 rfl ?_
            refine g_imul hX dX2_setTime_92 ?_
            refine g_iload_n hX dX2_setTime_93 rfl ?_
            refine g_iadd hX dX2_setTime_94 ?_
            refine g_iload hX dX2_setTime_95 rfl ?_
            refine sy_times hX dX2_setTime_97 (by omega) ?_
            refine g_iconst hX dX2_setTime_98 ?_
            refine hR _ _ _ _ dX2_setTime_99 (by omega) (Or.inr ⟨⟨a1, a2, a3⟩, Or.inl ⟨by omega, rfl, ?_⟩⟩)
            funext k z
            by_cases e : k = 2
            · subst e
              rw [st1_at, st1_at]
              by_cases e2 : z = 4 * j + m
              · simp [e2]
              · simp [e2]
            · rw [st1_ne e, st1_ne e]
          · refine g_iconst hX dX2_setTime_84 ?_
            exact hR _ _ _ _ dX2_setTime_85 (by omega) (Or.inr ⟨⟨a1, a2, a3⟩, Or.inr ⟨c_81, rfl, rfl⟩⟩)
        · exact KB _ (fun g => by omega)
end
end
section
/-! MODEL: way, finish, sum, leastOf, plan -/
section
set_option maxRecDepth 100000
variable {h : Nat} {q : Nat → Nat} {kA : Nat → ClassId} {f : DS} {X : Cx}
def dv (j : Int) : Int := if j = 0 then 256 else if j = 1 then 64 else if j = 2 then 16 else if j = 3 then 4 else 1
/-- way number c: the machine of job j -/
def wy (c j : Int) : Int := c / dv j % 4
theorem wy_rng (c j : Int) : 0 ≤ wy c j ∧ wy c j < 4 := by
  unfold wy
  omega
theorem wy_bits {c j : Int} (hc : 0 ≤ c ∧ c < 1024) (hj : 0 ≤ j ∧ j < 5) : (iI c >>> (iI (8 - 2 * j) &&& 31)) &&& iI 3 = iI (wy c j) := by
  obtain ⟨n, hn, rfl⟩ : ∃ n : Nat, n < 1024 ∧ c = (n : Int) := ⟨c.toNat, by omega, by omega⟩
  rw [iI_nat]
  have hA : ∀ k : Nat, nI k &&& iI 3 = nI (k % 2 ^ 2) ∨ 2 ^ 31 ≤ k := by
    intro k
    by_cases e : k < 2 ^ 31
    · exact Or.inl (pk_andN (by omega) 2 (by decide))
    · exact Or.inr (by omega)
  have fin : ∀ (s : Int32) (k : Nat), (s.toBitVec.smod 32).toNat = k → ∀ D : Nat, 2 ^ k = D → (0 < D) → wy (n : Int) j = (n : Int) / (D : Int) % 4 → (nI n >>> s) &&& iI 3 = iI (wy (n : Int) j) := by
    intro s k hs D hD hpos hw
    rw [pk_shrN (by omega) s k hs, hD]
    have hq : n / D ≤ n := Nat.div_le_self n D
    rcases hA (n / D) with e | e
    · rw [e, hw, ← iI_nat]
      congr 1
    · omega
  have hcs : j = 0 ∨ j = 1 ∨ j = 2 ∨ j = 3 ∨ j = 4 := by omega
  rcases hcs with e | e | e | e | e <;> subst e
  · exact fin _ 8 (by decide) 256 (by decide) (by decide) rfl
  · exact fin _ 6 (by decide) 64 (by decide) (by decide) rfl
  · exact fin _ 4 (by decide) 16 (by decide) (by decide) rfl
  · exact fin _ 2 (by decide) 4 (by decide) (by decide) rfl
  · exact fin _ 0 (by decide) 1 (by decide) (by decide) rfl
/-- job j may be where w has it -/
def canj (T : Int → Int) (A : Int → Bool) (mj mm : Int) (w : Int → Int) (j : Int) : Prop := 0 < T (4 * j + w j) ∧ A (w j) = true ∧ (j = mj → w j = mm)
def okj (T : Int → Int) (P A : Int → Bool) (mj mm : Int) (w : Int → Int) (j : Int) : Prop := (P j = true → canj T A mj mm w j) ∧ (¬ P j = true → w j = 0)
/-- a way that is asked for -/
def vld (T : Int → Int) (P A : Int → Bool) (mj mm : Int) (w : Int → Int) : Prop := ∀ j, 0 ≤ j → j < 5 → okj T P A mj mm w j
set_option maxHeartbeats 4000000 in
theorem way_loop {P A : Int → Bool} {c : Int} (hX : Ok X cX2_way 5 0 RX2 (TyY kA)) (hM : MT f P) (hA : f 4 0 = ms A) (hm : (-2147483648 ≤ f 5 0 ∧ f 5 0 ≤ 2147483647) ∧ (-2147483648 ≤ f 6 0 ∧ f 6 0 ≤ 2147483647)) (hc : 0 ≤ c ∧ c < 1024)
    (K : ∀ (g : DS) (b : Int) (lv : List (Option Value)), (∀ k, k ≠ 3 → g k = f k) → (∀ i, 0 ≤ i → i < 5 → g 3 i = wy c i) → bz b (vld (f 2) P A (f 5 0) (f 6 0) (wy c)) → G X 5 (WY h q kA g) lv 131 [.int (iI b)]) :
    ∀ (n : Nat) (j b : Int) (g : DS) (x4 : Option Value), 0 ≤ j → j ≤ 5 → 5 - j < n → (∀ k, k ≠ 3 → g k = f k) → (∀ i, 0 ≤ i → i < j → g 3 i = wy c i) → bz b (∀ i, 0 ≤ i → i < j → okj (f 2) P A (f 5 0) (f 6 0) (wy c) i) → G X 5 (WY h q kA g) [some (.ref h), some (.int (iI c)), some (.int (iI b)), some (.int (iI j)), x4] 4 [] := by
  intro n
  induction n with
  | zero => intro j b g x4 h0 h1 h2; omega
  | succ n ih =>
    intro j b g x4 h0 h1 h2 l1 l2 hb
    refine g_iload_n hX dX2_way_4 rfl ?_
    refine g_iconst hX dX2_way_5 ?_
    refine g_icmp_ge (tgt := 130) hX dX2_way_6 (by decide) (by omega) (by omega) (fun c_6 => ?_) (fun c_6 => ?_)
    · refine g_iload_n hX dX2_way_130 rfl ?_
      have : j = 5 := by omega
      subst this
      exact K g b _ l1 l2 hb
    · refine g_aload_n hX dX2_way_9 rfl ?_
      refine gy_on hX dX2_way_10 ?_
      refine g_iload_n hX dX2_way_13 rfl ?_
      refine g_iload_n hX dX2_way_14 rfl ?_
      refine g_bipush hX dX2_way_15 (by decide) ?_
      refine g_iconst hX dX2_way_17 ?_
      refine g_iload_n hX dX2_way_18 rfl ?_
      refine g_imul hX dX2_way_19 ?_
      refine g_isub hX dX2_way_20 ?_
      refine g_ishr hX dX2_way_21 ?_
      refine g_iconst hX dX2_way_22 ?_
      refine g_iand hX dX2_way_23 ?_
      refine g_int (wy_bits hc ⟨h0, c_6⟩) ?_
      have hwr := wy_rng c j
      refine sy_on hX dX2_way_24 (by omega) ?_
      generalize hG : st1 g 3 j (wy c j) = g'
      have m1 : ∀ k, k ≠ 3 → g' k = f k := fun k hk => by rw [← hG, st1_ne hk, l1 k hk]
      have m3 : ∀ i, 0 ≤ i → i < j + 1 → g' 3 i = wy c i := by
        intro i i0 i1
        rw [← hG, st1_at]
        by_cases z : i = j
        · rw [if_pos z, z]
        · rw [if_neg z, l2 i i0 (by omega)]
      have mj := m3 j h0 (by omega)
      have hT := hM.2.2 (4 * j + wy c j) (by omega) (by omega)
      have g2 : g' 2 (4 * j + wy c j) = f 2 (4 * j + wy c j) := by rw [m1 2 (by decide)]
      have g5 : g' 5 0 = f 5 0 := by rw [m1 5 (by decide)]
      have g6 : g' 6 0 = f 6 0 := by rw [m1 6 (by decide)]
      have g4 : g' 4 0 = ms A := by rw [m1 4 (by decide)]; exact hA
      have ht : bz (g' 1 j) (P j = true) := by rw [m1 1 (by decide)]; exact hM.th h0 c_6
      have K123 : ∀ (b' : Int) (x4 : Option Value), bz b' (∀ i, 0 ≤ i → i < j + 1 → okj (f 2) P A (f 5 0) (f 6 0) (wy c) i) → G X 5 (WY h q kA g') [some (.ref h), some (.int (iI c)), some (.int (iI b)), some (.int (iI j)), x4] 123 [.int (iI b')] := by
        intro b' x4 hb'
        refine g_istore_n hX dX2_way_123 (by decide) ?_
        refine g_iinc hX dX2_way_124 rfl (by decide) ?_
        refine g_goto (tgt := 4) hX dX2_way_127 (by decide) ?_
        exact ih (j + 1) b' g' _ (by omega) (by omega) (by omega) m1 m3 hb'
      have KT : ∀ (x4 : Option Value), ¬ b = 0 → okj (f 2) P A (f 5 0) (f 6 0) (wy c) j → G X 5 (WY h q kA g') [some (.ref h), some (.int (iI c)), some (.int (iI b)), some (.int (iI j)), x4] 118 [] := by
        intro x4 b0 hok
        refine g_iconst hX dX2_way_118 ?_
        refine g_goto (tgt := 123) hX dX2_way_119 (by decide) ?_
        refine K123 1 _ (bz_t (fun i i0 i1 => ?_))
        by_cases z : i = j
        · rw [z]; exact hok
        · exact hb.yes b0 i i0 (by omega)
      have KF : ∀ (x4 : Option Value), (b = 0 ∨ ¬ okj (f 2) P A (f 5 0) (f 6 0) (wy c) j) → G X 5 (WY h q kA g') [some (.ref h), some (.int (iI c)), some (.int (iI b)), some (.int (iI j)), x4] 122 [] := by
        intro x4 hno
        refine g_iconst hX dX2_way_122 ?_
        refine K123 0 _ (bz_f (fun w => ?_))
        rcases hno with z | z
        · exact hb.no z (fun i i0 i1 => w i i0 (by omega))
        · exact z (w j h0 (by omega))
      have K86 : ∀ (k : Int) (x4 : Option Value), bz k (canj (f 2) A (f 5 0) (f 6 0) (wy c) j) → G X 5 (WY h q kA g') [some (.ref h), some (.int (iI c)), some (.int (iI b)), some (.int (iI j)), x4] 86 [.int (iI k)] := by
        intro k x4 hk
        refine g_istore hX dX2_way_86 (by decide) ?_
        refine g_iload_n hX dX2_way_88 rfl ?_
        refine g_if_eq (tgt := 122) hX dX2_way_89 (by decide) (hb.r) (fun c_89 => ?_) (fun c_89 => ?_)
        · exact KF _ (Or.inl c_89)
        · refine g_aload_n hX dX2_way_92 rfl ?_
          refine gy_there hX dX2_way_93 ?_
          refine g_iload_n hX dX2_way_96 rfl ?_
          refine ly_there hX dX2_way_97 (by omega) ?_
          refine g_if_eq (tgt := 109) hX dX2_way_98 (by decide) (ht.r) (fun c_98 => ?_) (fun c_98 => ?_)
          · have np := ht.no c_98
            refine g_aload_n hX dX2_way_109 rfl ?_
            refine gy_on hX dX2_way_110 ?_
            refine g_iload_n hX dX2_way_113 rfl ?_
            refine ly_on hX dX2_way_114 (by omega) ?_
            refine g_if_ne (tgt := 122) hX dX2_way_115 (by decide) (by omega) (fun c_115 => ?_) (fun c_115 => ?_)
            · refine KF _ (Or.inr (fun w => c_115 ?_))
              rw [mj]
              exact w.2 np
            · exact KT _ c_89 ⟨fun w => absurd w np, fun _ => by rw [← mj]; exact c_115⟩
          · have yp := ht.yes c_98
            refine g_iload hX dX2_way_101 rfl ?_
            refine g_if_eq (tgt := 122) hX dX2_way_103 (by decide) (hk.r) (fun c_103 => ?_) (fun c_103 => ?_)
            · exact KF _ (Or.inr (fun w => hk.no c_103 (w.1 yp)))
            · refine g_goto (tgt := 118) hX dX2_way_106 (by decide) ?_
              exact KT _ c_89 ⟨fun _ => hk.yes c_103, fun w => absurd yp w⟩
      refine g_aload_n hX dX2_way_25 rfl ?_
      refine gy_times hX dX2_way_26 ?_
      refine g_iconst hX dX2_way_29 ?_
      refine g_iload_n hX dX2_way_30 rfl ?_
      refine g_imul hX dX2_way_31 ?_
      refine g_aload_n hX dX2_way_32 rfl ?_
      refine gy_on hX dX2_way_33 ?_
      refine g_iload_n hX dX2_way_36 rfl ?_
      refine ly_on hX dX2_way_37 (by omega) ?_
      refine g_z mj ?_
      refine g_iadd hX dX2_way_38 ?_
      refine ly_times hX dX2_way_39 (by omega) ?_
      refine g_if_le (tgt := 85) hX dX2_way_40 (by decide) (by omega) (fun c_40 => ?_) (fun c_40 => ?_)
      · refine g_iconst hX dX2_way_85 ?_
        exact K86 0 _ (bz_f (fun w => by have := w.1; omega))
      · refine g_aload_n hX dX2_way_43 rfl ?_
        refine gy_allowed hX dX2_way_44 ?_
        refine g_aload_n hX dX2_way_47 rfl ?_
        refine gy_on hX dX2_way_48 ?_
        refine g_iload_n hX dX2_way_51 rfl ?_
        refine ly_on hX dX2_way_52 (by omega) ?_
        refine g_z mj ?_
        refine g_ishr hX dX2_way_53 ?_
        refine g_iconst hX dX2_way_54 ?_
        refine g_iand hX dX2_way_55 ?_
        refine g_int (z := if A (wy c j) then 1 else 0) (by rw [g4, ms_bit A hwr.1 (by omega)]) ?_
        cases hAb : A (wy c j) with
        | false =>
          refine g_z (z' := 0) (by simp) ?_
          refine g_iconst hX dX2_way_56 ?_
          refine g_icmp_ne (tgt := 85) hX dX2_way_57 (by decide) (by omega) (by omega) (fun c_57 => ?_) (fun c_57 => absurd c_57 (by omega))
          refine g_iconst hX dX2_way_85 ?_
          exact K86 0 _ (bz_f (fun w => by have := w.2.1; rw [hAb] at this; exact absurd this (by decide)))
        | true =>
          refine g_z (z' := 1) (by simp) ?_
          refine g_iconst hX dX2_way_56 ?_
          refine g_icmp_ne (tgt := 85) hX dX2_way_57 (by decide) (by omega) (by omega) (fun c_57 => absurd c_57 (by omega)) (fun c_57 => ?_)
          refine g_iload_n hX dX2_way_60 rfl ?_
          refine g_aload_n hX dX2_way_61 rfl ?_
          refine gy_must hX dX2_way_62 ?_
          refine g_icmp_ne (tgt := 81) hX dX2_way_65 (by decide) (by omega) (by omega) (fun c_65 => ?_) (fun c_65 => ?_)
          · refine g_iconst hX dX2_way_81 ?_
            refine g_goto (tgt := 86) hX dX2_way_82 (by decide) ?_
            exact K86 1 _ (bz_t ⟨by omega, hAb, fun w => by omega⟩)
          · refine g_aload_n hX dX2_way_68 rfl ?_
            refine gy_on hX dX2_way_69 ?_
            refine g_iload_n hX dX2_way_72 rfl ?_
            refine ly_on hX dX2_way_73 (by omega) ?_
            refine g_aload_n hX dX2_way_74 rfl ?_
            refine gy_mustBe hX dX2_way_75 ?_
            refine g_icmp_ne (tgt := 85) hX dX2_way_78 (by decide) (by omega) (by omega) (fun c_78 => ?_) (fun c_78 => ?_)
            · refine g_iconst hX dX2_way_85 ?_
              exact K86 0 _ (bz_f (fun w => by have := w.2.2 (by omega); omega))
            · refine g_iconst hX dX2_way_81 ?_
              refine g_goto (tgt := 86) hX dX2_way_82 (by decide) ?_
              exact K86 1 _ (bz_t ⟨by omega, hAb, fun _ => by omega⟩)
set_option maxHeartbeats 4000000 in
/-- way(c): writes the way, answers whether it is one that is asked for -/
theorem cm_way {P A : Int → Bool} {c : Int} (hM : MT f P) (hA : f 4 0 = ms A) (hm : (-2147483648 ≤ f 5 0 ∧ f 5 0 ≤ 2147483647) ∧ (-2147483648 ≤ f 6 0 ∧ f 6 0 ≤ 2147483647)) (hc : 0 ≤ c ∧ c < 1024) : Ct yX2_way cX2_way 5 (some .boolean) 0 (TyY kA) (WY h q kA f) (fun g : DS => WY h q kA g) [.ref h, .int (iI c)] (fun z g => (∀ k, k ≠ 3 → g k = f k) ∧ (∀ i, 0 ≤ i → i < 5 → g 3 i = wy c i) ∧ bz z (vld (f 2) P A (f 5 0) (f 6 0) (wy c))) := by
  refine ct_bool (by decide) rfl (Nat.le_of_ble_eq_true rfl) (fun X hX hR => ?_)
  refine g_iconst hX dX2_way_0 ?_
  refine g_istore_n hX dX2_way_1 (by decide) ?_
  refine g_iconst hX dX2_way_2 ?_
  refine g_istore_n hX dX2_way_3 (by decide) ?_
  exact way_loop hX hM hA hm hc (fun g b lv a1 a2 a3 => hR _ _ _ _ dX2_way_131 a3.b ⟨a1, a2, a3⟩) 10 0 1 f _ (by omega) (by omega) (by omega) (fun _ _ => rfl) (fun i a b => by omega) (bz_t (fun i a b => by omega))
/-- what job i adds to the finish of job j -/
def fnM (T w : Int → Int) (P : Int → Bool) (j i : Int) : Int := if P i = true ∧ ¬ i = j ∧ w i = w j ∧ (T (4 * i + w i) < T (4 * j + w j) ∨ (T (4 * i + w i) = T (4 * j + w j) ∧ i < j)) then T (4 * i + w i) else 0
def finM (T w : Int → Int) (P : Int → Bool) (j : Int) : Int := T (4 * j + w j) + sj (fnM T w P j)
/-- the total of a way -/
def SW (T : Int → Int) (P : Int → Bool) (w : Int → Int) : Int := sj (fun j => if P j then finM T w P j else 0)
set_option maxHeartbeats 4000000 in
theorem finm_loop {P : Int → Bool} {j : Int} (hX : Ok X cX2_finish 7 0 RX2 (TyY kA)) (hM : MT f P) (ho : ∀ i, 0 ≤ i → i < 5 → 0 ≤ f 3 i ∧ f 3 i < 4) (hj : 0 ≤ j ∧ j < 5)
    (K : ∀ (lv : List (Option Value)), G X 7 (WY h q kA f) lv 124 [.int (iI (f 2 (4 * j + f 3 j) + Sm (fun i => fnM (f 2) (f 3) P j (i - 1)) 5))]) :
    ∀ (n : Nat) (i : Int) (x5 x6 : Option Value), 0 ≤ i → i ≤ 5 → 5 - i < n → G X 7 (WY h q kA f) [some (.ref h), some (.int (iI j)), some (.int (iI (f 2 (4 * j + f 3 j)))), some (.int (iI (f 2 (4 * j + f 3 j) + Sm (fun i => fnM (f 2) (f 3) P j (i - 1)) i))), some (.int (iI i)), x5, x6] 21 [] := by
  intro n
  induction n with
  | zero => intro i x5 x6 h0 h1 h2; omega
  | succ n ih =>
    intro i x5 x6 h0 h1 h2
    have hs : Sm (fun i => fnM (f 2) (f 3) P j (i - 1)) (i + 1) = Sm (fun i => fnM (f 2) (f 3) P j (i - 1)) i + fnM (f 2) (f 3) P j i := by
      rw [Sm_succ _ h0, show i + 1 - 1 = i by omega]
    refine g_iload hX dX2_finish_21 rfl ?_
    refine g_iconst hX dX2_finish_23 ?_
    refine g_icmp_ge (tgt := 123) hX dX2_finish_24 (by decide) (by omega) (by omega) (fun c_24 => ?_) (fun c_24 => ?_)
    · refine g_iload_n hX dX2_finish_123 rfl ?_
      have : i = 5 := by omega
      subst this
      exact K _
    · have oi := ho i h0 c_24
      have oj := ho j hj.1 hj.2
      have ti := hM.2.2 (4 * i + f 3 i) (by omega) (by omega)
      have tj := hM.2.2 (4 * j + f 3 j) (by omega) (by omega)
      have ht := hM.th h0 c_24
      have K115 : ∀ (s : Int) (x5 x6 : Option Value), s = fnM (f 2) (f 3) P j i → G X 7 (WY h q kA f) [some (.ref h), some (.int (iI j)), some (.int (iI (f 2 (4 * j + f 3 j)))), some (.int (iI (f 2 (4 * j + f 3 j) + Sm (fun i => fnM (f 2) (f 3) P j (i - 1)) i))), some (.int (iI i)), x5, x6] 115 [.int (iI s), .int (iI (f 2 (4 * j + f 3 j) + Sm (fun i => fnM (f 2) (f 3) P j (i - 1)) i))] := by
        intro s x5 x6 es
        refine g_iadd hX dX2_finish_115 ?_
        refine g_z (z' := f 2 (4 * j + f 3 j) + Sm (fun i => fnM (f 2) (f 3) P j (i - 1)) (i + 1)) (by rw [hs, es]; omega) ?_
        refine g_istore_n hX dX2_finish_116 (by decide) ?_
        refine g_iinc hX dX2_finish_117 rfl (by decide) ?_
        refine g_goto (tgt := 21) hX dX2_finish_120 (by decide) ?_
        exact ih (i + 1) _ _ (by omega) (by omega) (by omega)
      have K69 : ∀ (b : Int) (x6 : Option Value), bz b (f 2 (4 * i + f 3 i) < f 2 (4 * j + f 3 j) ∨ (f 2 (4 * i + f 3 i) = f 2 (4 * j + f 3 j) ∧ i < j)) → G X 7 (WY h q kA f) [some (.ref h), some (.int (iI j)), some (.int (iI (f 2 (4 * j + f 3 j)))), some (.int (iI (f 2 (4 * j + f 3 j) + Sm (fun i => fnM (f 2) (f 3) P j (i - 1)) i))), some (.int (iI i)), some (.int (iI (f 2 (4 * i + f 3 i)))), x6] 69 [.int (iI b)] := by
        intro b x6 hb
        have KZ : ∀ x6 : Option Value, ¬ (P i = true ∧ ¬ i = j ∧ f 3 i = f 3 j ∧ (f 2 (4 * i + f 3 i) < f 2 (4 * j + f 3 j) ∨ (f 2 (4 * i + f 3 i) = f 2 (4 * j + f 3 j) ∧ i < j))) → G X 7 (WY h q kA f) [some (.ref h), some (.int (iI j)), some (.int (iI (f 2 (4 * j + f 3 j)))), some (.int (iI (f 2 (4 * j + f 3 j) + Sm (fun i => fnM (f 2) (f 3) P j (i - 1)) i))), some (.int (iI i)), some (.int (iI (f 2 (4 * i + f 3 i)))), x6] 114 [.int (iI (f 2 (4 * j + f 3 j) + Sm (fun i => fnM (f 2) (f 3) P j (i - 1)) i))] := by
          intro x6 hno
          refine g_iconst hX dX2_finish_114 ?_
          exact K115 0 _ _ (by unfold fnM; rw [if_neg hno])
        refine g_istore hX dX2_finish_69 (by decide) ?_
        refine g_iload_n hX dX2_finish_71 rfl ?_
        refine g_aload_n hX dX2_finish_72 rfl ?_
        refine gy_there hX dX2_finish_73 ?_
        refine g_iload hX dX2_finish_76 rfl ?_
        refine ly_there hX dX2_finish_78 (by omega) ?_
        refine g_if_eq (tgt := 114) hX dX2_finish_79 (by decide) (ht.r) (fun c_79 => ?_) (fun c_79 => ?_)
        · exact KZ _ (fun w => ht.no c_79 w.1)
        · refine g_iload hX dX2_finish_82 rfl ?_
          refine g_iload_n hX dX2_finish_84 rfl ?_
          refine g_icmp_eq (tgt := 114) hX dX2_finish_85 (by decide) (by omega) (by omega) (fun c_85 => ?_) (fun c_85 => ?_)
          · exact KZ _ (fun w => w.2.1 c_85)
          · refine g_aload_n hX dX2_finish_88 rfl ?_
            refine gy_on hX dX2_finish_89 ?_
            refine g_iload hX dX2_finish_92 rfl ?_
            refine ly_on hX dX2_finish_94 (by omega) ?_
            refine g_aload_n hX dX2_finish_95 rfl ?_
            refine gy_on hX dX2_finish_96 ?_
            refine g_iload_n hX dX2_finish_99 rfl ?_
            refine ly_on hX dX2_finish_100 (by omega) ?_
            refine g_icmp_ne (tgt := 114) hX dX2_finish_101 (by decide) (by omega) (by omega) (fun c_101 => ?_) (fun c_101 => ?_)
            · exact KZ _ (fun w => c_101 w.2.2.1)
            · refine g_iload hX dX2_finish_104 rfl ?_
              refine g_if_eq (tgt := 114) hX dX2_finish_106 (by decide) (hb.r) (fun c_106 => ?_) (fun c_106 => ?_)
              · exact KZ _ (fun w => hb.no c_106 w.2.2.2)
              · refine g_iload hX dX2_finish_109 rfl ?_
                refine g_goto (tgt := 115) hX dX2_finish_111 (by decide) ?_
                exact K115 _ _ _ (by unfold fnM; rw [if_pos ⟨ht.yes c_79, c_85, c_101, hb.yes c_106⟩])
      refine g_aload_n hX dX2_finish_27 rfl ?_
      refine gy_times hX dX2_finish_28 ?_
      refine g_iconst hX dX2_finish_31 ?_
      refine g_iload hX dX2_finish_32 rfl ?_
      refine g_imul hX dX2_finish_34 ?_
      refine g_aload_n hX dX2_finish_35 rfl ?_
      refine gy_on hX dX2_finish_36 ?_
      refine g_iload hX dX2_finish_39 rfl ?_
      refine ly_on hX dX2_finish_41 (by omega) ?_
      refine g_iadd hX dX2_finish_42 ?_
      refine ly_times hX dX2_finish_43 (by omega) ?_
      refine g_istore hX dX2_finish_44 (by decide) ?_
      refine g_iload hX dX2_finish_46 rfl ?_
      refine g_iload_n hX dX2_finish_48 rfl ?_
      refine g_icmp_lt (tgt := 64) hX dX2_finish_49 (by decide) (by omega) (by omega) (fun c_49 => ?_) (fun c_49 => ?_)
      · refine g_iconst hX dX2_finish_64 ?_
        refine g_goto (tgt := 69) hX dX2_finish_65 (by decide) ?_
        exact K69 1 _ (bz_t (Or.inl c_49))
      · refine g_iload hX dX2_finish_52 rfl ?_
        refine g_iload_n hX dX2_finish_54 rfl ?_
        refine g_icmp_ne (tgt := 68) hX dX2_finish_55 (by decide) (by omega) (by omega) (fun c_55 => ?_) (fun c_55 => ?_)
        · refine g_iconst hX dX2_finish_68 ?_
          exact K69 0 _ (bz_f (by omega))
        · refine g_iload hX dX2_finish_58 rfl ?_
          refine g_iload_n hX dX2_finish_60 rfl ?_
          refine g_icmp_ge (tgt := 68) hX dX2_finish_61 (by decide) (by omega) (by omega) (fun c_61 => ?_) (fun c_61 => ?_)
          · refine g_iconst hX dX2_finish_68 ?_
            exact K69 0 _ (bz_f (by omega))
          · refine g_iconst hX dX2_finish_64 ?_
            refine g_goto (tgt := 69) hX dX2_finish_65 (by decide) ?_
            exact K69 1 _ (bz_t (Or.inr ⟨c_55, c_61⟩))
set_option maxHeartbeats 4000000 in
theorem cm_finish {P : Int → Bool} {j : Int} (hM : MT f P) (ho : ∀ i, 0 ≤ i → i < 5 → 0 ≤ f 3 i ∧ f 3 i < 4) (hj : 0 ≤ j ∧ j < 5) : Ct yX2_finish cX2_finish 7 (some .int) 0 (TyY kA) (WY h q kA f) (fun _ : Unit => WY h q kA f) [.ref h, .int (iI j)] (fun z _ => z = finM (f 2) (f 3) P j) := by
  refine ct_int (by decide) rfl (Nat.le_of_ble_eq_true rfl) (fun X hX hR => ?_)
  have oj := ho j hj.1 hj.2
  refine g_aload_n hX dX2_finish_0 rfl ?_
  refine gy_times hX dX2_finish_1 ?_
  refine g_iconst hX dX2_finish_4 ?_
  refine g_iload_n hX dX2_finish_5 rfl ?_
  refine g_imul hX dX2_finish_6 ?_
  refine g_aload_n hX dX2_finish_7 rfl ?_
  refine gy_on hX dX2_finish_8 ?_
  refine g_iload_n hX dX2_finish_11 rfl ?_
  refine ly_on hX dX2_finish_12 (by omega) ?_
  refine g_iadd hX dX2_finish_13 ?_
  refine ly_times hX dX2_finish_14 (by omega) ?_
  refine g_istore_n hX dX2_finish_15 (by decide) ?_
  refine g_iload_n hX dX2_finish_16 rfl ?_
  refine g_z (z' := f 2 (4 * j + f 3 j) + Sm (fun i => fnM (f 2) (f 3) P j (i - 1)) 0) (by rw [Sm_0]; omega) ?_
  refine g_istore_n hX dX2_finish_17 (by decide) ?_
  refine g_iconst hX dX2_finish_18 ?_
  refine g_istore hX dX2_finish_19 (by decide) ?_
  refine finm_loop hX hM ho hj (fun lv => ?_) 10 0 _ _ (by omega) (by omega) (by omega)
  refine hR _ () _ _ dX2_finish_124 ?_
  rw [Sm_5]
  rfl
set_option maxHeartbeats 4000000 in
theorem sum_loop {P : Int → Bool} (hX : Ok X cX2_sum 3 1 RX2 (TyY kA)) (hM : MT f P) (ho : ∀ i, 0 ≤ i → i < 5 → 0 ≤ f 3 i ∧ f 3 i < 4)
    (K : ∀ (lv : List (Option Value)), G X 3 (WY h q kA f) lv 37 [.int (iI (Sm (fun i => if P (i - 1) then finM (f 2) (f 3) P (i - 1) else 0) 5))]) :
    ∀ (n : Nat) (i : Int), 0 ≤ i → i ≤ 5 → 5 - i < n → G X 3 (WY h q kA f) [some (.ref h), some (.int (iI (Sm (fun i => if P (i - 1) then finM (f 2) (f 3) P (i - 1) else 0) i))), some (.int (iI i))] 4 [] := by
  intro n
  induction n with
  | zero => intro i h0 h1 h2; omega
  | succ n ih =>
    intro i h0 h1 h2
    have hs : Sm (fun i => if P (i - 1) then finM (f 2) (f 3) P (i - 1) else 0) (i + 1) = Sm (fun i => if P (i - 1) then finM (f 2) (f 3) P (i - 1) else 0) i + (if P i then finM (f 2) (f 3) P i else 0) := by
      rw [Sm_succ _ h0, show i + 1 - 1 = i by omega]
    refine g_iload_n hX dX2_sum_4 rfl ?_
    refine g_iconst hX dX2_sum_5 ?_
    refine g_icmp_ge (tgt := 36) hX dX2_sum_6 (by decide) (by omega) (by omega) (fun c_6 => ?_) (fun c_6 => ?_)
    · refine g_iload_n hX dX2_sum_36 rfl ?_
      have : i = 5 := by omega
      subst this
      exact K _
    · have ht := hM.th h0 c_6
      have K28 : ∀ (s : Int), s = (if P i then finM (f 2) (f 3) P i else 0) → G X 3 (WY h q kA f) [some (.ref h), some (.int (iI (Sm (fun i => if P (i - 1) then finM (f 2) (f 3) P (i - 1) else 0) i))), some (.int (iI i))] 28 [.int (iI s), .int (iI (Sm (fun i => if P (i - 1) then finM (f 2) (f 3) P (i - 1) else 0) i))] := by
        intro s es
        refine g_iadd hX dX2_sum_28 ?_
        refine g_z (z' := Sm (fun i => if P (i - 1) then finM (f 2) (f 3) P (i - 1) else 0) (i + 1)) (by rw [hs, es]) ?_
        refine g_istore_n hX dX2_sum_29 (by decide) ?_
        refine g_iinc hX dX2_sum_30 rfl (by decide) ?_
        refine g_goto (tgt := 4) hX dX2_sum_33 (by decide) ?_
        exact ih (i + 1) (by omega) (by omega) (by omega)
      refine g_iload_n hX dX2_sum_9 rfl ?_
      refine g_aload_n hX dX2_sum_10 rfl ?_
      refine gy_there hX dX2_sum_11 ?_
      refine g_iload_n hX dX2_sum_14 rfl ?_
      refine ly_there hX dX2_sum_15 (by omega) ?_
      refine g_if_eq (tgt := 27) hX dX2_sum_16 (by decide) (ht.r) (fun c_16 => ?_) (fun c_16 => ?_)
      · refine g_iconst hX dX2_sum_27 ?_
        exact K28 0 (by rw [if_neg (ht.no c_16)])
      · refine g_aload_n hX dX2_sum_19 rfl ?_
        refine g_iload_n hX dX2_sum_20 rfl ?_
        refine g_call hX (cm_finish hM ho ⟨h0, c_6⟩) (by decide) (by decide) vwX2_finish (hdX2_finish npX2_finish) (ci := 1) rfl rfl rfl rfl (Nat.le_of_ble_eq_true rfl) dX2_sum_21 (fun z _ hz => ?_)
        refine g_goto (tgt := 28) hX dX2_sum_24 (by decide) ?_
        exact K28 z (by rw [if_pos (ht.yes c_16)]; exact hz)
set_option maxHeartbeats 4000000 in
theorem cm_sum {P : Int → Bool} (hM : MT f P) (ho : ∀ i, 0 ≤ i → i < 5 → 0 ≤ f 3 i ∧ f 3 i < 4) : Ct yX2_sum cX2_sum 3 (some .int) 1 (TyY kA) (WY h q kA f) (fun _ : Unit => WY h q kA f) [.ref h] (fun z _ => z = SW (f 2) P (f 3)) := by
  refine ct_int (by decide) rfl (Nat.le_of_ble_eq_true rfl) (fun X hX hR => ?_)
  refine g_iconst hX dX2_sum_0 ?_
  refine g_istore_n hX dX2_sum_1 (by decide) ?_
  refine g_iconst hX dX2_sum_2 ?_
  refine g_istore_n hX dX2_sum_3 (by decide) ?_
  refine sum_loop hX hM ho (fun lv => ?_) 10 0 (by omega) (by omega) (by omega)
  refine hR _ () _ _ dX2_sum_37 ?_
  rw [Sm_5]
  rfl
theorem SW_cg {T : Int → Int} {P : Int → Bool} {w w' : Int → Int} (hw : ∀ i, 0 ≤ i → i < 5 → w i = w' i) : SW T P w = SW T P w' := by
  unfold SW
  refine sj_cg (fun j j0 j1 => ?_)
  have e : finM T w P j = finM T w' P j := by
    unfold finM
    rw [hw j j0 j1]
    congr 1
    refine sj_cg (fun i i0 i1 => ?_)
    unfold fnM
    rw [hw j j0 j1, hw i i0 i1]
  rw [e]
theorem SW_rng {T : Int → Int} {P : Int → Bool} {w : Int → Int} (hT : ∀ z, 0 ≤ z → z < 20 → 0 ≤ T z ∧ T z ≤ 15) (hw : ∀ i, 0 ≤ i → i < 5 → 0 ≤ w i ∧ w i < 4) : 0 ≤ SW T P w ∧ SW T P w ≤ 500 := by
  have k1 : ∀ j i, 0 ≤ j → j < 5 → 0 ≤ i → i < 5 → 0 ≤ fnM T w P j i ∧ fnM T w P j i ≤ 15 := by
    intro j i j0 j1 i0 i1
    have := hw i i0 i1
    have := hT (4 * i + w i) (by omega) (by omega)
    unfold fnM
    split <;> omega
  have k2 : ∀ j, 0 ≤ j → j < 5 → 0 ≤ finM T w P j ∧ finM T w P j ≤ 90 := by
    intro j j0 j1
    have := hw j j0 j1
    have := hT (4 * j + w j) (by omega) (by omega)
    have a0 := k1 j 0 j0 j1 (by decide) (by decide)
    have a1 := k1 j 1 j0 j1 (by decide) (by decide)
    have a2 := k1 j 2 j0 j1 (by decide) (by decide)
    have a3 := k1 j 3 j0 j1 (by decide) (by decide)
    have a4 := k1 j 4 j0 j1 (by decide) (by decide)
    unfold finM sj
    omega
  have k3 : ∀ j, 0 ≤ j → j < 5 → 0 ≤ (if P j then finM T w P j else 0) ∧ (if P j then finM T w P j else 0) ≤ 90 := by
    intro j j0 j1
    have := k2 j j0 j1
    split <;> omega
  have a0 := k3 0 (by decide) (by decide)
  have a1 := k3 1 (by decide) (by decide)
  have a2 := k3 2 (by decide) (by decide)
  have a3 := k3 3 (by decide) (by decide)
  have a4 := k3 4 (by decide) (by decide)
  unfold SW sj
  dsimp only
  omega
/-- the least total of the ways ahead of number c -/
def LW (T : Int → Int) (P A : Int → Bool) (mj mm c z : Int) : Prop := (z = -1 ∧ ∀ i, 0 ≤ i → i < c → ¬ vld T P A mj mm (wy i)) ∨ (0 ≤ z ∧ (∃ i, 0 ≤ i ∧ i < c ∧ vld T P A mj mm (wy i) ∧ SW T P (wy i) = z) ∧ ∀ i, 0 ≤ i → i < c → vld T P A mj mm (wy i) → z ≤ SW T P (wy i))
set_option maxHeartbeats 4000000 in
theorem leastOf_loop {P A : Int → Bool} {a1 a2 a3 : Int} (hX : Ok X cX2_leastOf 7 2 RX2 (TyY kA)) (hM : MT f P) (hA : f 4 0 = ms A) (hm : (-2147483648 ≤ f 5 0 ∧ f 5 0 ≤ 2147483647) ∧ (-2147483648 ≤ f 6 0 ∧ f 6 0 ≤ 2147483647))
    (K : ∀ (g : DS) (z : Int) (lv : List (Option Value)), (∀ k, k ≠ 3 → g k = f k) → (∀ i, 0 ≤ i → i < 5 → 0 ≤ g 3 i ∧ g 3 i < 4) → LW (f 2) P A (f 5 0) (f 6 0) 1024 z → G X 7 (WY h q kA g) lv 73 [.int (iI z)]) :
    ∀ (n : Nat) (c z : Int) (g : DS) (x6 : Option Value), 0 ≤ c → c ≤ 1024 → 1024 - c < n → (∀ k, k ≠ 3 → g k = f k) → (0 < c → ∀ i, 0 ≤ i → i < 5 → 0 ≤ g 3 i ∧ g 3 i < 4) → LW (f 2) P A (f 5 0) (f 6 0) c z → z ≤ 500 → G X 7 (WY h q kA g) [some (.ref h), some (.int (iI a1)), some (.int (iI a2)), some (.int (iI a3)), some (.int (iI z)), some (.int (iI c)), x6] 21 [] := by
  intro n
  induction n with
  | zero => intro c z g x6 h0 h1 h2; omega
  | succ n ih =>
    intro c z g x6 h0 h1 h2 l1 l2 hL hz5
    have hzr : -1 ≤ z := by
      rcases hL with a | a
      · omega
      · omega
    refine g_iload hX dX2_leastOf_21 rfl ?_
    refine g_sipush hX dX2_leastOf_23 (by decide) ?_
    refine g_icmp_ge (tgt := 71) hX dX2_leastOf_26 (by decide) (by omega) (by omega) (fun c_26 => ?_) (fun c_26 => ?_)
    · refine g_iload hX dX2_leastOf_71 rfl ?_
      have : c = 1024 := by omega
      subst this
      exact K g z _ l1 (l2 (by omega)) hL
    · have g2 : g 2 = f 2 := l1 2 (by decide)
      have g5 : g 5 = f 5 := l1 5 (by decide)
      have g6 : g 6 = f 6 := l1 6 (by decide)
      have hMg : MT g P := by
        unfold MT
        rw [l1 0 (by decide), l1 1 (by decide), g2]
        exact hM
      refine g_aload_n hX dX2_leastOf_29 rfl ?_
      refine g_iload hX dX2_leastOf_30 rfl ?_
      refine g_call hX (cm_way (A := A) hMg (by rw [l1 4 (by decide)]; exact hA) (by rw [g5, g6]; exact hm) ⟨h0, c_26⟩) (by decide) (by decide) vwX2_way (hdX2_way npX2_way) (ci := 1) rfl rfl rfl rfl (Nat.le_of_ble_eq_true rfl) dX2_leastOf_32 (fun b g' hb => ?_)
      obtain ⟨w1, w2, w3⟩ := hb
      rw [g2, g5, g6] at w3
      have v1 : ∀ k, k ≠ 3 → g' k = f k := fun k hk => by rw [w1 k hk, l1 k hk]
      have v3 : ∀ i, 0 ≤ i → i < 5 → 0 ≤ g' 3 i ∧ g' 3 i < 4 := fun i i0 i1 => by rw [w2 i i0 i1]; exact wy_rng c i
      refine g_if_eq (tgt := 65) hX dX2_leastOf_35 (by decide) (w3.r) (fun c_35 => ?_) (fun c_35 => ?_)
      · refine g_iinc hX dX2_leastOf_65 rfl (by decide) ?_
        refine g_goto (tgt := 21) hX dX2_leastOf_68 (by decide) ?_
        refine ih (c + 1) z g' _ (by omega) (by omega) (by omega) v1 (fun _ => v3) ?_ hz5
        have hno := w3.no c_35
        rcases hL with ⟨a, b⟩ | ⟨a, ⟨i, i0, i1, i2, i3⟩, b⟩
        · refine Or.inl ⟨a, fun i i0 i1 => ?_⟩
          by_cases e : i = c
          · rw [e]; exact hno
          · exact b i i0 (by omega)
        · refine Or.inr ⟨a, ⟨i, i0, by omega, i2, i3⟩, fun i i0 i1 i2 => ?_⟩
          by_cases e : i = c
          · rw [e] at i2; exact absurd i2 hno
          · exact b i i0 (by omega) i2
      · have hyes := w3.yes c_35
        have hMg' : MT g' P := by
          unfold MT
          rw [v1 0 (by decide), v1 1 (by decide), v1 2 (by decide)]
          exact hM
        refine g_aload_n hX dX2_leastOf_38 rfl ?_
        refine g_call hX (cm_sum hMg' v3) (by decide) (by decide) vwX2_sum (hdX2_sum npX2_sum) (ci := 1) rfl rfl rfl rfl (Nat.le_of_ble_eq_true rfl) dX2_leastOf_39 (fun s _ hs => ?_)
        have hse : s = SW (f 2) P (wy c) := by rw [hs, v1 2 (by decide)]; exact SW_cg w2
        have hsr := SW_rng (P := P) hM.2.2 (fun i _ _ => wy_rng c i)
        rw [← hse] at hsr
        have K63 : ∀ (y : Int) (x4 x6 : Option Value), ((z < 0 ∨ s < z) ∧ y = s) ∨ (0 ≤ z ∧ z ≤ s ∧ y = z) → G X 7 (WY h q kA g') [some (.ref h), some (.int (iI a1)), some (.int (iI a2)), some (.int (iI a3)), x4, some (.int (iI c)), x6] 63 [.int (iI y)] := by
          intro y x4 x6 hy
          refine g_istore hX dX2_leastOf_63 (by decide) ?_
          refine g_iinc hX dX2_leastOf_65 rfl (by decide) ?_
          refine g_goto (tgt := 21) hX dX2_leastOf_68 (by decide) ?_
          refine ih (c + 1) y g' _ (by omega) (by omega) (by omega) v1 (fun _ => v3) ?_ (by omega)
          rcases hL with ⟨a, b⟩ | ⟨a, ⟨i, i0, i1, i2, i3⟩, b⟩
          · have hys : y = s := by omega
            refine Or.inr ⟨by omega, ⟨c, h0, by omega, hyes, by omega⟩, fun i i0 i1 i2 => ?_⟩
            by_cases e : i = c
            · rw [e]; omega
            · exact absurd i2 (b i i0 (by omega))
          · rcases hy with ⟨y1, y2⟩ | ⟨y1, y2, y3⟩
            · refine Or.inr ⟨by omega, ⟨c, h0, by omega, hyes, by omega⟩, fun i i0 i1 i2 => ?_⟩
              by_cases e : i = c
              · rw [e]; omega
              · have := b i i0 (by omega) i2
                omega
            · refine Or.inr ⟨by omega, ⟨i, i0, by omega, i2, by omega⟩, fun i i0 i1 i2 => ?_⟩
              by_cases e : i = c
              · rw [e]; omega
              · have := b i i0 (by omega) i2
                omega
        refine g_istore hX dX2_leastOf_42 (by decide) ?_
        refine g_iload hX dX2_leastOf_44 rfl ?_
        refine g_if_lt (tgt := 56) hX dX2_leastOf_46 (by decide) (by omega) (fun c_46 => ?_) (fun c_46 => ?_)
        · refine g_iload hX dX2_leastOf_56 rfl ?_
          refine g_goto (tgt := 63) hX dX2_leastOf_58 (by decide) ?_
          exact K63 s _ _ (Or.inl ⟨Or.inl c_46, rfl⟩)
        · refine g_iload hX dX2_leastOf_49 rfl ?_
          refine g_iload hX dX2_leastOf_51 rfl ?_
          refine g_icmp_ge (tgt := 61) hX dX2_leastOf_53 (by decide) (by omega) (by omega) (fun c_53 => ?_) (fun c_53 => ?_)
          · refine g_iload hX dX2_leastOf_61 rfl ?_
            exact K63 z _ _ (Or.inr ⟨c_46, c_53, rfl⟩)
          · refine g_iload hX dX2_leastOf_56 rfl ?_
            refine g_goto (tgt := 63) hX dX2_leastOf_58 (by decide) ?_
            exact K63 s _ _ (Or.inl ⟨Or.inr c_53, rfl⟩)
/-- behind leastOf -/
def LO (f : DS) (P A : Int → Bool) (mj mm z : Int) (g : DS) : Prop := (∀ k, k < 3 → g k = f k) ∧ g 4 0 = ms A ∧ g 5 0 = mj ∧ g 6 0 = mm ∧ (∀ i, 0 ≤ i → i < 5 → 0 ≤ g 3 i ∧ g 3 i < 4) ∧ LW (f 2) P A mj mm 1024 z
set_option maxHeartbeats 4000000 in
theorem cm_leastOf {P A : Int → Bool} {mj mm : Int} (hM : MT f P) (hj : -2147483648 ≤ mj ∧ mj ≤ 2147483647) (hm : -2147483648 ≤ mm ∧ mm ≤ 2147483647) : Ct yX2_leastOf cX2_leastOf 7 (some .int) 2 (TyY kA) (WY h q kA f) (fun g : DS => WY h q kA g) [.ref h, .int (iI (ms A)), .int (iI mj), .int (iI mm)] (fun z g => LO f P A mj mm z g) := by
  refine ct_int (by decide) rfl (Nat.le_of_ble_eq_true rfl) (fun X hX hR => ?_)
  refine g_aload_n hX dX2_leastOf_0 rfl ?_
  refine g_iload_n hX dX2_leastOf_1 rfl ?_
  refine py_allowed hX dX2_leastOf_2 ?_
  refine g_aload_n hX dX2_leastOf_5 rfl ?_
  refine g_iload_n hX dX2_leastOf_6 rfl ?_
  refine py_must hX dX2_leastOf_7 ?_
  refine g_aload_n hX dX2_leastOf_10 rfl ?_
  refine g_iload_n hX dX2_leastOf_11 rfl ?_
  refine py_mustBe hX dX2_leastOf_12 ?_
  refine g_iconst hX dX2_leastOf_15 ?_
  refine g_istore hX dX2_leastOf_16 (by decide) ?_
  refine g_iconst hX dX2_leastOf_18 ?_
  refine g_istore hX dX2_leastOf_19 (by decide) ?_
  generalize hG : st1 (st1 (st1 f 4 0 (ms A)) 5 0 mj) 6 0 mm = g
  have g1 : ∀ k, k < 4 → g k = f k := fun k hk => by rw [← hG, st1_ne (by omega), st1_ne (by omega), st1_ne (by omega)]
  have g4 : g 4 0 = ms A := by rw [← hG, st1_ne (by decide), st1_ne (by decide), st1_eq]
  have g5 : g 5 0 = mj := by rw [← hG, st1_ne (by decide), st1_eq]
  have g6 : g 6 0 = mm := by rw [← hG, st1_eq]
  have hMg : MT g P := by
    unfold MT
    rw [g1 0 (by decide), g1 1 (by decide), g1 2 (by decide)]
    exact hM
  refine leastOf_loop hX hMg g4 (by rw [g5, g6]; exact ⟨hj, hm⟩) (fun g' z lv a b c => ?_) 1030 0 (-1) g _ (by omega) (by omega) (by omega) (fun _ _ => rfl) (fun w => by omega) (Or.inl ⟨rfl, fun i a b => by omega⟩) (by omega)
  refine hR _ _ _ _ dX2_leastOf_73 ⟨fun k hk => by rw [a k (by omega), g1 k (by omega)], by rw [a 4 (by decide)]; exact g4, by rw [a 5 (by decide)]; exact g5, by rw [a 6 (by decide)]; exact g6, b, ?_⟩
  rw [g1 2 (by decide), g5, g6] at c
  exact c
end
end
section
/-! MODEL: least, plan, machineOf, finishOf, leastWith, leastWithout, leastDoubled, leastIdle, mostJobs -/
section
set_option maxRecDepth 100000
variable {h : Nat} {q : Nat → Nat} {kA : Nat → ClassId} {f : DS} {X : Cx}
theorem MT.cg {P : Int → Bool} {g : DS} (hM : MT f P) (h0 : g 0 = f 0) (h1 : g 1 = f 1) (h2 : g 2 = f 2) : MT g P := by
  unfold MT
  rw [h0, h1, h2]
  exact hM
set_option maxHeartbeats 4000000 in
theorem cm_least {P : Int → Bool} (hM : MT f P) : Ct yX2_least cX2_least 1 (some .int) 3 (TyY kA) (WY h q kA f) (fun g : DS => WY h q kA g) [.ref h] (fun z g => LO f P (allM (f 0 0)) (-1) 0 z g) := by
  refine ct_int (by decide) rfl (Nat.le_of_ble_eq_true rfl) (fun X hX hR => ?_)
  refine g_aload_n hX dX2_least_0 rfl ?_
  refine g_aload_n hX dX2_least_1 rfl ?_
  refine g_call hX (cm_all hM.1) (by decide) (by decide) vwX2_all (hdX2_all npX2_all) (ci := 1) rfl rfl rfl rfl (Nat.le_of_ble_eq_true rfl) dX2_least_2 (fun a _ ha => ?_)
  subst ha
  refine g_iconst hX dX2_least_5 ?_
  refine g_iconst hX dX2_least_6 ?_
  refine g_call hX (cm_leastOf (P := P) (A := allM (f 0 0)) (mj := -1) (mm := 0) hM (by omega) (by omega)) (by decide) (by decide) vwX2_leastOf (hdX2_leastOf npX2_leastOf) (ci := 1) rfl rfl rfl rfl (Nat.le_of_ble_eq_true rfl) dX2_least_7 (fun z g hz => ?_)
  exact hR _ _ _ _ dX2_least_10 hz
theorem LW_rng {T : Int → Int} {P A : Int → Bool} {mj mm c z : Int} (hT : ∀ z, 0 ≤ z → z < 20 → 0 ≤ T z ∧ T z ≤ 15) (h : LW T P A mj mm c z) : -1 ≤ z ∧ z ≤ 500 := by
  rcases h with ⟨a, -⟩ | ⟨a, ⟨i, -, -, -, b⟩, -⟩
  · omega
  · have := SW_rng (P := P) hT (fun j _ _ => wy_rng i j)
    omega
set_option maxHeartbeats 4000000 in
theorem plan_loop {P A : Int → Bool} {z : Int} (hX : Ok X cX2_plan 3 3 RX2 (TyY kA)) (hM : MT f P) (hA : f 4 0 = ms A) (hm : (-2147483648 ≤ f 5 0 ∧ f 5 0 ≤ 2147483647) ∧ (-2147483648 ≤ f 6 0 ∧ f 6 0 ≤ 2147483647)) (hz : -1 ≤ z ∧ z ≤ 500)
    (K1 : ∀ (g : DS) (c : Int) (lv : List (Option Value)), (0 ≤ c ∧ c < 1024) → (∀ k, k ≠ 3 → g k = f k) → (∀ i, 0 ≤ i → i < 5 → g 3 i = wy c i) → vld (f 2) P A (f 5 0) (f 6 0) (wy c) → SW (f 2) P (wy c) = z → (∀ i, 0 ≤ i → i < c → vld (f 2) P A (f 5 0) (f 6 0) (wy i) → ¬ SW (f 2) P (wy i) = z) → G X 3 (WY h q kA g) lv 36 [])
    (K2 : ∀ (g : DS) (lv : List (Option Value)), (∀ k, k ≠ 3 → g k = f k) → (∀ i, 0 ≤ i → i < 5 → 0 ≤ g 3 i ∧ g 3 i < 4) → (∀ i, 0 ≤ i → i < 1024 → vld (f 2) P A (f 5 0) (f 6 0) (wy i) → ¬ SW (f 2) P (wy i) = z) → G X 3 (WY h q kA g) lv 43 []) :
    ∀ (n : Nat) (c : Int) (g : DS), 0 ≤ c → c ≤ 1024 → 1024 - c < n → (∀ k, k ≠ 3 → g k = f k) → (∀ i, 0 ≤ i → i < 5 → 0 ≤ g 3 i ∧ g 3 i < 4) → (∀ i, 0 ≤ i → i < c → vld (f 2) P A (f 5 0) (f 6 0) (wy i) → ¬ SW (f 2) P (wy i) = z) → G X 3 (WY h q kA g) [some (.ref h), some (.int (iI z)), some (.int (iI c))] 13 [] := by
  intro n
  induction n with
  | zero => intro c g h0 h1 h2; omega
  | succ n ih =>
    intro c g h0 h1 h2 l1 l2 l3
    refine g_iload_n hX dX2_plan_13 rfl ?_
    refine g_sipush hX dX2_plan_14 (by decide) ?_
    refine g_icmp_ge (tgt := 43) hX dX2_plan_17 (by decide) (by omega) (by omega) (fun c_17 => ?_) (fun c_17 => ?_)
    · exact K2 g _ l1 l2 (fun i a b => l3 i a (by omega))
    · have g2 : g 2 = f 2 := l1 2 (by decide)
      have g5 : g 5 = f 5 := l1 5 (by decide)
      have g6 : g 6 = f 6 := l1 6 (by decide)
      have hMg : MT g P := hM.cg (l1 0 (by decide)) (l1 1 (by decide)) g2
      refine g_aload_n hX dX2_plan_20 rfl ?_
      refine g_iload_n hX dX2_plan_21 rfl ?_
      refine g_call hX (cm_way (A := A) hMg (by rw [l1 4 (by decide)]; exact hA) (by rw [g5, g6]; exact hm) ⟨h0, c_17⟩) (by decide) (by decide) vwX2_way (hdX2_way npX2_way) (ci := 1) rfl rfl rfl rfl (Nat.le_of_ble_eq_true rfl) dX2_plan_22 (fun b g' hb => ?_)
      obtain ⟨w1, w2, w3⟩ := hb
      rw [g2, g5, g6] at w3
      have v1 : ∀ k, k ≠ 3 → g' k = f k := fun k hk => by rw [w1 k hk, l1 k hk]
      have v3 : ∀ i, 0 ≤ i → i < 5 → 0 ≤ g' 3 i ∧ g' 3 i < 4 := fun i i0 i1 => by rw [w2 i i0 i1]; exact wy_rng c i
      refine g_if_eq (tgt := 37) hX dX2_plan_25 (by decide) (w3.r) (fun c_25 => ?_) (fun c_25 => ?_)
      · refine g_iinc hX dX2_plan_37 rfl (by decide) ?_
        refine g_goto (tgt := 13) hX dX2_plan_40 (by decide) ?_
        refine ih (c + 1) g' (by omega) (by omega) (by omega) v1 v3 (fun i i0 i1 i2 => ?_)
        by_cases e : i = c
        · rw [e] at i2; exact absurd i2 (w3.no c_25)
        · exact l3 i i0 (by omega) i2
      · have hyes := w3.yes c_25
        have hMg' : MT g' P := hM.cg (v1 0 (by decide)) (v1 1 (by decide)) (v1 2 (by decide))
        refine g_aload_n hX dX2_plan_28 rfl ?_
        refine g_call hX (cm_sum hMg' v3) (by decide) (by decide) vwX2_sum (hdX2_sum npX2_sum) (ci := 1) rfl rfl rfl rfl (Nat.le_of_ble_eq_true rfl) dX2_plan_29 (fun s _ hs => ?_)
        have hse : s = SW (f 2) P (wy c) := by rw [hs, v1 2 (by decide)]; exact SW_cg w2
        have hsr := SW_rng (P := P) hM.2.2 (fun i _ _ => wy_rng c i)
        rw [← hse] at hsr
        refine g_iload_n hX dX2_plan_32 rfl ?_
        refine g_icmp_ne (tgt := 37) hX dX2_plan_33 (by decide) (by omega) (by omega) (fun c_33 => ?_) (fun c_33 => ?_)
        · refine g_iinc hX dX2_plan_37 rfl (by decide) ?_
          refine g_goto (tgt := 13) hX dX2_plan_40 (by decide) ?_
          refine ih (c + 1) g' (by omega) (by omega) (by omega) v1 v3 (fun i i0 i1 i2 => ?_)
          by_cases e : i = c
          · rw [e, ← hse]; exact c_33
          · exact l3 i i0 (by omega) i2
        · exact K1 g' c _ ⟨h0, c_17⟩ v1 w2 hyes (by rw [← hse]; exact c_33) l3
/-- behind plan: the first way with the least total is written -/
def PL (f : DS) (P : Int → Bool) (g : DS) : Prop := (∀ k, k < 3 → g k = f k) ∧ (∀ i, 0 ≤ i → i < 5 → 0 ≤ g 3 i ∧ g 3 i < 4) ∧ ∃ z, LW (f 2) P (allM (f 0 0)) (-1) 0 1024 z ∧ ((∃ c, (0 ≤ c ∧ c < 1024) ∧ vld (f 2) P (allM (f 0 0)) (-1) 0 (wy c) ∧ SW (f 2) P (wy c) = z ∧ (∀ i, 0 ≤ i → i < c → vld (f 2) P (allM (f 0 0)) (-1) 0 (wy i) → ¬ SW (f 2) P (wy i) = z) ∧ ∀ i, 0 ≤ i → i < 5 → g 3 i = wy c i) ∨ ∀ i, 0 ≤ i → i < 1024 → vld (f 2) P (allM (f 0 0)) (-1) 0 (wy i) → ¬ SW (f 2) P (wy i) = z)
set_option maxHeartbeats 4000000 in
theorem cm_plan {P : Int → Bool} (hM : MT f P) : CtV yX2_plan cX2_plan 3 3 (TyY kA) (WY h q kA f) (fun g : DS => WY h q kA g) [.ref h] (fun g => PL f P g) := by
  refine ct_void (by decide) rfl (Nat.le_of_ble_eq_true rfl) (fun X hX hR => ?_)
  refine g_aload_n hX dX2_plan_0 rfl ?_
  refine g_aload_n hX dX2_plan_1 rfl ?_
  refine g_call hX (cm_all hM.1) (by decide) (by decide) vwX2_all (hdX2_all npX2_all) (ci := 1) rfl rfl rfl rfl (Nat.le_of_ble_eq_true rfl) dX2_plan_2 (fun a _ ha => ?_)
  subst ha
  refine g_iconst hX dX2_plan_5 ?_
  refine g_iconst hX dX2_plan_6 ?_
  refine g_call hX (cm_leastOf (P := P) (A := allM (f 0 0)) (mj := -1) (mm := 0) hM (by omega) (by omega)) (by decide) (by decide) vwX2_leastOf (hdX2_leastOf npX2_leastOf) (ci := 1) rfl rfl rfl rfl (Nat.le_of_ble_eq_true rfl) dX2_plan_7 (fun z g hz => ?_)
  obtain ⟨z1, z4, z5, z6, z3, zL⟩ := hz
  have hMg : MT g P := hM.cg (z1 0 (by decide)) (z1 1 (by decide)) (z1 2 (by decide))
  refine g_istore_n hX dX2_plan_10 (by decide) ?_
  refine g_iconst hX dX2_plan_11 ?_
  refine g_istore_n hX dX2_plan_12 (by decide) ?_
  refine plan_loop hX hMg z4 (by rw [z5, z6]; omega) (LW_rng hM.2.2 zL) (fun g' c lv a1 a2 a3 a4 a5 a6 => ?_) (fun g' lv a1 a2 a3 => ?_) 1030 0 g (by omega) (by omega) (by omega) (fun _ _ => rfl) z3 (fun i a b => by omega)
  · rw [z1 2 (by decide), z5, z6] at a4 a6
    rw [z1 2 (by decide)] at a5
    exact hR _ _ _ dX2_plan_36 ⟨fun k hk => by rw [a2 k (by omega), z1 k hk], fun i i0 i1 => by rw [a3 i i0 i1]; exact wy_rng c i, z, zL, Or.inl ⟨c, a1, a4, a5, a6, a3⟩⟩
  · rw [z1 2 (by decide), z5, z6] at a3
    exact hR _ _ _ dX2_plan_43 ⟨fun k hk => by rw [a1 k (by omega), z1 k hk], a2, z, zL, Or.inr a3⟩
set_option maxHeartbeats 4000000 in
theorem cm_machineOf {P : Int → Bool} {j : Int} (hM : MT f P) (hj : -2147483648 ≤ j ∧ j ≤ 2147483647) : Ct yX2_machineOf cX2_machineOf 2 (some .int) 4 (TyY kA) (WY h q kA f) (fun g : DS => WY h q kA g) [.ref h, .int (iI j)] (fun z g => PL f P g ∧ ((¬ (0 ≤ j ∧ j < 5 ∧ P j = true) ∧ z = -1) ∨ ((0 ≤ j ∧ j < 5 ∧ P j = true) ∧ z = g 3 j))) := by
  refine ct_int (by decide) rfl (Nat.le_of_ble_eq_true rfl) (fun X hX hR => ?_)
  refine g_aload_n hX dX2_machineOf_0 rfl ?_
  refine g_callV hX (cm_plan hM) (by decide) (by decide) vwX2_plan (hdX2_plan npX2_plan) (ci := 1) rfl rfl rfl rfl (Nat.le_of_ble_eq_true rfl) dX2_machineOf_1 (fun g hg => ?_)
  have hMg : MT g P := hM.cg (hg.1 0 (by decide)) (hg.1 1 (by decide)) (hg.1 2 (by decide))
  refine g_aload_n hX dX2_machineOf_4 rfl ?_
  refine g_iload_n hX dX2_machineOf_5 rfl ?_
  refine g_call hX (cm_is hMg hj) (by decide) (by decide) vwX2_is (hdX2_is npX2_is) (ci := 1) rfl rfl rfl rfl (Nat.le_of_ble_eq_true rfl) dX2_machineOf_6 (fun t _ ht => ?_)
  refine g_if_eq (tgt := 21) hX dX2_machineOf_9 (by decide) (ht.r) (fun c_9 => ?_) (fun c_9 => ?_)
  · refine g_iconst hX dX2_machineOf_21 ?_
    exact hR _ _ _ _ dX2_machineOf_22 ⟨hg, Or.inl ⟨ht.no c_9, rfl⟩⟩
  · have a1 := ht.yes c_9
    refine g_aload_n hX dX2_machineOf_12 rfl ?_
    refine gy_on hX dX2_machineOf_13 ?_
    refine g_iload_n hX dX2_machineOf_16 rfl ?_
    refine ly_on hX dX2_machineOf_17 (by omega) ?_
    refine g_goto (tgt := 22) hX dX2_machineOf_18 (by decide) ?_
    exact hR _ _ _ _ dX2_machineOf_22 ⟨hg, Or.inr ⟨a1, rfl⟩⟩
set_option maxHeartbeats 4000000 in
theorem cm_finishOf {P : Int → Bool} {j : Int} (hM : MT f P) (hj : -2147483648 ≤ j ∧ j ≤ 2147483647) : Ct yX2_finishOf cX2_finishOf 2 (some .int) 4 (TyY kA) (WY h q kA f) (fun g : DS => WY h q kA g) [.ref h, .int (iI j)] (fun z g => PL f P g ∧ ((¬ (0 ≤ j ∧ j < 5 ∧ P j = true) ∧ z = -1) ∨ ((0 ≤ j ∧ j < 5 ∧ P j = true) ∧ z = finM (f 2) (g 3) P j))) := by
  refine ct_int (by decide) rfl (Nat.le_of_ble_eq_true rfl) (fun X hX hR => ?_)
  refine g_aload_n hX dX2_finishOf_0 rfl ?_
  refine g_callV hX (cm_plan hM) (by decide) (by decide) vwX2_plan (hdX2_plan npX2_plan) (ci := 1) rfl rfl rfl rfl (Nat.le_of_ble_eq_true rfl) dX2_finishOf_1 (fun g hg => ?_)
  have hMg : MT g P := hM.cg (hg.1 0 (by decide)) (hg.1 1 (by decide)) (hg.1 2 (by decide))
  refine g_aload_n hX dX2_finishOf_4 rfl ?_
  refine g_iload_n hX dX2_finishOf_5 rfl ?_
  refine g_call hX (cm_is hMg hj) (by decide) (by decide) vwX2_is (hdX2_is npX2_is) (ci := 1) rfl rfl rfl rfl (Nat.le_of_ble_eq_true rfl) dX2_finishOf_6 (fun t _ ht => ?_)
  refine g_if_eq (tgt := 20) hX dX2_finishOf_9 (by decide) (ht.r) (fun c_9 => ?_) (fun c_9 => ?_)
  · refine g_iconst hX dX2_finishOf_20 ?_
    exact hR _ _ _ _ dX2_finishOf_21 ⟨hg, Or.inl ⟨ht.no c_9, rfl⟩⟩
  · have a1 := ht.yes c_9
    refine g_aload_n hX dX2_finishOf_12 rfl ?_
    refine g_iload_n hX dX2_finishOf_13 rfl ?_
    refine g_call hX (cm_finish hMg hg.2.1 ⟨a1.1, a1.2.1⟩) (by decide) (by decide) vwX2_finish (hdX2_finish npX2_finish) (ci := 1) rfl rfl rfl rfl (Nat.le_of_ble_eq_true rfl) dX2_finishOf_14 (fun z _ hz => ?_)
    refine g_goto (tgt := 21) hX dX2_finishOf_17 (by decide) ?_
    exact hR _ _ _ _ dX2_finishOf_21 ⟨hg, Or.inr ⟨a1, by rw [hz, hg.1 2 (by decide)]⟩⟩
/-- nothing of the model that lasts has changed, but for the column of machine 3 -/
def km (f g : DS) : Prop := g 0 = f 0 ∧ g 1 = f 1 ∧ (∀ z, ¬ z % 4 = 3 → g 2 z = f 2 z) ∧ ∀ z, 0 ≤ z → z < 20 → 0 ≤ g 2 z ∧ g 2 z ≤ 15
theorem km_of {P : Int → Bool} {g : DS} (hM : MT f P) (hg : ∀ k, k < 3 → g k = f k) : km f g := ⟨hg 0 (by decide), hg 1 (by decide), fun z _ => by rw [hg 2 (by decide)], by rw [hg 2 (by decide)]; exact hM.2.2⟩
set_option maxHeartbeats 4000000 in
theorem cm_leastWith {P : Int → Bool} {j m : Int} (hM : MT f P) (hj : -2147483648 ≤ j ∧ j ≤ 2147483647) (hm : -2147483648 ≤ m ∧ m ≤ 2147483647) : Ct yX2_leastWith cX2_leastWith 3 (some .int) 3 (TyY kA) (WY h q kA f) (fun g : DS => WY h q kA g) [.ref h, .int (iI j), .int (iI m)] (fun z g => km f g ∧ ((¬ ((0 ≤ j ∧ j < 5 ∧ P j = true) ∧ (0 ≤ m ∧ m < f 0 0)) ∧ z = -1) ∨ (((0 ≤ j ∧ j < 5 ∧ P j = true) ∧ (0 ≤ m ∧ m < f 0 0)) ∧ LW (f 2) P (allM (f 0 0)) j m 1024 z))) := by
  refine ct_int (by decide) rfl (Nat.le_of_ble_eq_true rfl) (fun X hX hR => ?_)
  have KB : ∀ lv : List (Option Value), ¬ ((0 ≤ j ∧ j < 5 ∧ P j = true) ∧ (0 ≤ m ∧ m < f 0 0)) → G X 3 (WY h q kA f) lv 29 [] := by
    intro lv hg
    refine g_iconst hX dX2_leastWith_29 ?_
    exact hR _ _ _ _ dX2_leastWith_30 ⟨km_of hM (fun _ _ => rfl), Or.inl ⟨hg, rfl⟩⟩
  refine g_aload_n hX dX2_leastWith_0 rfl ?_
  refine g_iload_n hX dX2_leastWith_1 rfl ?_
  refine g_call hX (cm_is hM hj) (by decide) (by decide) vwX2_is (hdX2_is npX2_is) (ci := 1) rfl rfl rfl rfl (Nat.le_of_ble_eq_true rfl) dX2_leastWith_2 (fun t1 _ ht1 => ?_)
  refine g_if_eq (tgt := 29) hX dX2_leastWith_5 (by decide) (ht1.r) (fun c_5 => ?_) (fun c_5 => ?_)
  · exact KB _ (fun g => ht1.no c_5 g.1)
  · have a1 := ht1.yes c_5
    refine g_aload_n hX dX2_leastWith_8 rfl ?_
    refine g_iload_n hX dX2_leastWith_9 rfl ?_
    refine g_call hX (cm_machine hM.1 hm) (by decide) (by decide) vwX2_machine (hdX2_machine npX2_machine) (ci := 1) rfl rfl rfl rfl (Nat.le_of_ble_eq_true rfl) dX2_leastWith_10 (fun t2 _ ht2 => ?_)
    refine g_if_eq (tgt := 29) hX dX2_leastWith_13 (by decide) (ht2.r) (fun c_13 => ?_) (fun c_13 => ?_)
    · exact KB _ (fun g => ht2.no c_13 g.2)
    · have a2 := ht2.yes c_13
      refine g_aload_n hX dX2_leastWith_16 rfl ?_
      refine g_aload_n hX dX2_leastWith_17 rfl ?_
      refine g_call hX (cm_all hM.1) (by decide) (by decide) vwX2_all (hdX2_all npX2_all) (ci := 1) rfl rfl rfl rfl (Nat.le_of_ble_eq_true rfl) dX2_leastWith_18 (fun a _ ha => ?_)
      subst ha
      refine g_iload_n hX dX2_leastWith_21 rfl ?_
      refine g_iload_n hX dX2_leastWith_22 rfl ?_
      refine g_call hX (cm_leastOf (P := P) (A := allM (f 0 0)) (mj := j) (mm := m) hM hj hm) (by decide) (by decide) vwX2_leastOf (hdX2_leastOf npX2_leastOf) (ci := 1) rfl rfl rfl rfl (Nat.le_of_ble_eq_true rfl) dX2_leastWith_23 (fun z g hz => ?_)
      refine g_goto (tgt := 30) hX dX2_leastWith_26 (by decide) ?_
      exact hR _ _ _ _ dX2_leastWith_30 ⟨km_of hM hz.1, Or.inr ⟨⟨a1, a2⟩, hz.2.2.2.2.2⟩⟩
set_option maxHeartbeats 4000000 in
theorem cm_leastWithout {P : Int → Bool} {j : Int} (hM : MT f P) (hj : -2147483648 ≤ j ∧ j ≤ 2147483647) : Ct yX2_leastWithout cX2_leastWithout 3 (some .int) 3 (TyY kA) (WY h q kA f) (fun g : DS => WY h q kA g) [.ref h, .int (iI j)] (fun z g => km f g ∧ ((¬ (0 ≤ j ∧ j < 5 ∧ P j = true) ∧ z = -1) ∨ ((0 ≤ j ∧ j < 5 ∧ P j = true) ∧ LW (f 2) (fun i => P i && !decide (i = j)) (allM (f 0 0)) (-1) 0 1024 z))) := by
  refine ct_int (by decide) rfl (Nat.le_of_ble_eq_true rfl) (fun X hX hR => ?_)
  refine g_aload_n hX dX2_leastWithout_0 rfl ?_
  refine g_iload_n hX dX2_leastWithout_1 rfl ?_
  refine g_call hX (cm_is hM hj) (by decide) (by decide) vwX2_is (hdX2_is npX2_is) (ci := 1) rfl rfl rfl rfl (Nat.le_of_ble_eq_true rfl) dX2_leastWithout_2 (fun t1 _ ht1 => ?_)
  refine g_if_ne (tgt := 10) hX dX2_leastWithout_5 (by decide) (ht1.r) (fun c_5 => ?_) (fun c_5 => ?_)
  · have a1 := ht1.yes c_5
    refine g_aload_n hX dX2_leastWithout_10 rfl ?_
    refine gy_there hX dX2_leastWithout_11 ?_
    refine g_iload_n hX dX2_leastWithout_14 rfl ?_
    refine g_iconst hX dX2_leastWithout_15 ?_
    refine sy_there hX dX2_leastWithout_16 (by omega) (by omega) ?_
    refine g_aload_n hX dX2_leastWithout_17 rfl ?_
    refine g_aload_n hX dX2_leastWithout_18 rfl ?_
    have hM' : MT (st1 f 1 j 0) (fun i => P i && !decide (i = j)) := by
      refine ⟨by rw [st1_ne (by decide)]; exact hM.1, fun i i0 i1 => ?_, by rw [st1_ne (by decide)]; exact hM.2.2⟩
      rw [st1_at]
      by_cases e : i = j
      · rw [if_pos e]
        simp [e]
      · rw [if_neg e, hM.2.1 i i0 i1]
        simp [e]
    refine g_call hX (cm_all hM'.1) (by decide) (by decide) vwX2_all (hdX2_all npX2_all) (ci := 1) rfl rfl rfl rfl (Nat.le_of_ble_eq_true rfl) dX2_leastWithout_19 (fun a _ ha => ?_)
    subst ha
    rw [st1_ne (show (0 : Nat) ≠ 1 by decide)]
    refine g_iconst hX dX2_leastWithout_22 ?_
    refine g_iconst hX dX2_leastWithout_23 ?_
    refine g_call hX (cm_leastOf (A := allM (f 0 0)) (mj := -1) (mm := 0) hM' (by omega) (by omega)) (by decide) (by decide) vwX2_leastOf (hdX2_leastOf npX2_leastOf) (ci := 1) rfl rfl rfl rfl (Nat.le_of_ble_eq_true rfl) dX2_leastWithout_24 (fun z g hz => ?_)
    refine g_istore_n hX dX2_leastWithout_27 (by decide) ?_
    refine g_aload_n hX dX2_leastWithout_28 rfl ?_
    refine gy_there hX dX2_leastWithout_29 ?_
    refine g_iload_n hX dX2_leastWithout_32 rfl ?_
    refine g_iconst hX dX2_leastWithout_33 ?_
    refine sy_there hX dX2_leastWithout_34 (by omega) (by omega) ?_
    refine g_iload_n hX dX2_leastWithout_35 rfl ?_
    obtain ⟨z1, z4, z5, z6, z3, zL⟩ := hz
    rw [st1_ne (by decide)] at zL
    refine hR _ _ _ _ dX2_leastWithout_36 ⟨km_of hM (fun k hk => ?_), Or.inr ⟨a1, zL⟩⟩
    by_cases e : k = 1
    · subst e
      funext i
      rw [st1_at, z1 1 (by decide), st1_at]
      by_cases e2 : i = j
      · rw [if_pos e2, e2, hM.2.1 j a1.1 a1.2.1, if_pos a1.2.2]
      · rw [if_neg e2, if_neg e2]
    · rw [st1_ne e, z1 k hk, st1_ne e]
  · refine g_iconst hX dX2_leastWithout_8 ?_
    exact hR _ _ _ _ dX2_leastWithout_9 ⟨km_of hM (fun _ _ => rfl), Or.inl ⟨ht1.no c_5, rfl⟩⟩
set_option maxHeartbeats 4000000 in
theorem dbl_loop {P : Int → Bool} {m : Int} (hX : Ok X cX2_leastDoubled 3 3 RX2 (TyY kA)) (hM : MT f P) (hm : 0 ≤ m ∧ m < 3)
    (K : ∀ (g : DS) (x2 : Option Value), (∀ k, k ≠ 2 → g k = f k) → (∀ z, ¬ z % 4 = 3 → g 2 z = f 2 z) → (∀ i, 0 ≤ i → i < 5 → g 2 (4 * i + 3) = f 2 (4 * i + m)) → (∀ z, 0 ≤ z → z < 20 → 0 ≤ g 2 z ∧ g 2 z ≤ 15) → G X 3 (WY h q kA g) [some (.ref h), some (.int (iI m)), x2] 43 []) :
    ∀ (n : Nat) (j : Int) (g : DS), 0 ≤ j → j ≤ 5 → 5 - j < n → (∀ k, k ≠ 2 → g k = f k) → (∀ z, ¬ z % 4 = 3 → g 2 z = f 2 z) → (∀ i, 0 ≤ i → i < j → g 2 (4 * i + 3) = f 2 (4 * i + m)) → (∀ z, 0 ≤ z → z < 20 → 0 ≤ g 2 z ∧ g 2 z ≤ 15) → G X 3 (WY h q kA g) [some (.ref h), some (.int (iI m)), some (.int (iI j))] 12 [] := by
  intro n
  induction n with
  | zero => intro j g h0 h1 h2; omega
  | succ n ih =>
    intro j g h0 h1 h2 l1 l2 l3 l4
    refine g_iload_n hX dX2_leastDoubled_12 rfl ?_
    refine g_iconst hX dX2_leastDoubled_13 ?_
    refine g_icmp_ge (tgt := 43) hX dX2_leastDoubled_14 (by decide) (by omega) (by omega) (fun c_14 => ?_) (fun c_14 => ?_)
    · exact K g _ l1 l2 (fun i a b => l3 i a (by omega)) l4
    · refine g_aload_n hX dX2_leastDoubled_17 rfl ?_
      refine gy_times hX dX2_leastDoubled_18 ?_
      refine g_iconst hX dX2_leastDoubled_21 ?_
      refine g_iload_n hX dX2_leastDoubled_22 rfl ?_
      refine g_imul hX dX2_leastDoubled_23 ?_
      refine g_iconst hX dX2_leastDoubled_24 ?_
      refine g_iadd hX dX2_leastDoubled_25 ?_
      refine g_aload_n hX dX2_leastDoubled_26 rfl ?_
      refine gy_times hX dX2_leastDoubled_27 ?_
      refine g_iconst hX dX2_leastDoubled_30 ?_
      refine g_iload_n hX dX2_leastDoubled_31 rfl ?_
      refine g_imul hX dX2_leastDoubled_32 ?_
      refine g_iload_n hX dX2_leastDoubled_33 rfl ?_
      refine g_iadd hX dX2_leastDoubled_34 ?_
      refine ly_times hX dX2_leastDoubled_35 (by omega) ?_
      refine sy_times hX dX2_leastDoubled_36 (by omega) ?_
      refine g_iinc hX dX2_leastDoubled_37 rfl (by decide) ?_
      refine g_goto (tgt := 12) hX dX2_leastDoubled_40 (by decide) ?_
      have hv := l4 (4 * j + m) (by omega) (by omega)
      have hg := l2 (4 * j + m) (by omega)
      refine ih (j + 1) _ (by omega) (by omega) (by omega) (fun k hk => by rw [st1_ne hk, l1 k hk]) (fun z hz => ?_) (fun i a b => ?_) (fun z a b => ?_)
      · rw [st1_off (by omega), l2 z hz]
      · rw [st1_at]
        by_cases e : i = j
        · rw [if_pos (by omega), e, hg]
        · rw [if_neg (by omega), l3 i a (by omega)]
      · rw [st1_at]
        split
        · exact hv
        · exact l4 z a b
/-- all machines, and machine 3 -/
def all8 (n : Int) : Int → Bool := fun i => allM n i || decide (i = 3)
theorem all8_or (n : Int) : iI (ms (allM n)) ||| iI 8 = iI (ms (all8 n)) := by
  rw [show (8 : Int) = ms (fun i => decide (i = 3)) from rfl, ms_or]
  rfl
set_option maxHeartbeats 4000000 in
theorem cm_leastDoubled {P : Int → Bool} {m : Int} (hM : MT f P) (hm : -2147483648 ≤ m ∧ m ≤ 2147483647) : Ct yX2_leastDoubled cX2_leastDoubled 3 (some .int) 3 (TyY kA) (WY h q kA f) (fun g : DS => WY h q kA g) [.ref h, .int (iI m)] (fun z g => km f g ∧ ((¬ (0 ≤ m ∧ m < f 0 0) ∧ z = -1) ∨ ((0 ≤ m ∧ m < f 0 0) ∧ (∀ i, 0 ≤ i → i < 5 → g 2 (4 * i + 3) = f 2 (4 * i + m)) ∧ LW (g 2) P (all8 (f 0 0)) (-1) 0 1024 z))) := by
  refine ct_int (by decide) rfl (Nat.le_of_ble_eq_true rfl) (fun X hX hR => ?_)
  have hn := hM.1
  refine g_aload_n hX dX2_leastDoubled_0 rfl ?_
  refine g_iload_n hX dX2_leastDoubled_1 rfl ?_
  refine g_call hX (cm_machine hM.1 hm) (by decide) (by decide) vwX2_machine (hdX2_machine npX2_machine) (ci := 1) rfl rfl rfl rfl (Nat.le_of_ble_eq_true rfl) dX2_leastDoubled_2 (fun t1 _ ht1 => ?_)
  refine g_if_ne (tgt := 10) hX dX2_leastDoubled_5 (by decide) (ht1.r) (fun c_5 => ?_) (fun c_5 => ?_)
  · have a1 := ht1.yes c_5
    refine g_iconst hX dX2_leastDoubled_10 ?_
    refine g_istore_n hX dX2_leastDoubled_11 (by decide) ?_
    refine dbl_loop hX hM ⟨a1.1, by omega⟩ (fun g x2 l1 l2 l3 l4 => ?_) 10 0 f (by omega) (by omega) (by omega) (fun _ _ => rfl) (fun _ _ => rfl) (fun i a b => by omega) hM.2.2
    have hMg : MT g P := ⟨by rw [l1 0 (by decide)]; exact hM.1, by rw [l1 1 (by decide)]; exact hM.2.1, l4⟩
    refine g_aload_n hX dX2_leastDoubled_43 rfl ?_
    refine g_aload_n hX dX2_leastDoubled_44 rfl ?_
    refine g_call hX (cm_all hMg.1) (by decide) (by decide) vwX2_all (hdX2_all npX2_all) (ci := 1) rfl rfl rfl rfl (Nat.le_of_ble_eq_true rfl) dX2_leastDoubled_45 (fun a _ ha => ?_)
    subst ha
    rw [l1 0 (by decide)]
    refine g_bipush hX dX2_leastDoubled_48 (by decide) ?_
    refine g_ior hX dX2_leastDoubled_50 ?_
    refine g_int (all8_or _) ?_
    refine g_iconst hX dX2_leastDoubled_51 ?_
    refine g_iconst hX dX2_leastDoubled_52 ?_
    refine g_call hX (cm_leastOf (A := all8 (f 0 0)) (mj := -1) (mm := 0) hMg (by omega) (by omega)) (by decide) (by decide) vwX2_leastOf (hdX2_leastOf npX2_leastOf) (ci := 1) rfl rfl rfl rfl (Nat.le_of_ble_eq_true rfl) dX2_leastDoubled_53 (fun z g' hz => ?_)
    obtain ⟨z1, z4, z5, z6, z3, zL⟩ := hz
    have e2 : g' 2 = g 2 := z1 2 (by decide)
    refine hR _ _ _ _ dX2_leastDoubled_56 ⟨⟨by rw [z1 0 (by decide), l1 0 (by decide)], by rw [z1 1 (by decide), l1 1 (by decide)], by rw [e2]; exact l2, by rw [e2]; exact l4⟩, Or.inr ⟨a1, by rw [e2]; exact l3, by rw [e2]; exact zL⟩⟩
  · refine g_iconst hX dX2_leastDoubled_8 ?_
    exact hR _ _ _ _ dX2_leastDoubled_9 ⟨km_of hM (fun _ _ => rfl), Or.inl ⟨ht1.no c_5, rfl⟩⟩
set_option maxHeartbeats 4000000 in
theorem cm_leastIdle {P : Int → Bool} {m : Int} (hM : MT f P) (hm : -2147483648 ≤ m ∧ m ≤ 2147483647) : Ct yX2_leastIdle cX2_leastIdle 2 (some .int) 3 (TyY kA) (WY h q kA f) (fun g : DS => WY h q kA g) [.ref h, .int (iI m)] (fun z g => km f g ∧ ((¬ (0 ≤ m ∧ m < f 0 0) ∧ z = -1) ∨ ((0 ≤ m ∧ m < f 0 0) ∧ LW (f 2) P (fun i => allM (f 0 0) i && !decide (i = m)) (-1) 0 1024 z))) := by
  refine ct_int (by decide) rfl (Nat.le_of_ble_eq_true rfl) (fun X hX hR => ?_)
  have hn := hM.1
  refine g_aload_n hX dX2_leastIdle_0 rfl ?_
  refine g_iload_n hX dX2_leastIdle_1 rfl ?_
  refine g_call hX (cm_machine hM.1 hm) (by decide) (by decide) vwX2_machine (hdX2_machine npX2_machine) (ci := 1) rfl rfl rfl rfl (Nat.le_of_ble_eq_true rfl) dX2_leastIdle_2 (fun t1 _ ht1 => ?_)
  refine g_if_eq (tgt := 27) hX dX2_leastIdle_5 (by decide) (ht1.r) (fun c_5 => ?_) (fun c_5 => ?_)
  · refine g_iconst hX dX2_leastIdle_27 ?_
    exact hR _ _ _ _ dX2_leastIdle_28 ⟨km_of hM (fun _ _ => rfl), Or.inl ⟨ht1.no c_5, rfl⟩⟩
  · have a1 := ht1.yes c_5
    refine g_aload_n hX dX2_leastIdle_8 rfl ?_
    refine g_aload_n hX dX2_leastIdle_9 rfl ?_
    refine g_call hX (cm_all hM.1) (by decide) (by decide) vwX2_all (hdX2_all npX2_all) (ci := 1) rfl rfl rfl rfl (Nat.le_of_ble_eq_true rfl) dX2_leastIdle_10 (fun a _ ha => ?_)
    subst ha
    refine g_iconst hX dX2_leastIdle_13 ?_
    refine g_iload_n hX dX2_leastIdle_14 rfl ?_
    refine g_ishl hX dX2_leastIdle_15 ?_
    refine g_iconst hX dX2_leastIdle_16 ?_
    refine g_ixor hX dX2_leastIdle_17 ?_
    refine g_iand hX dX2_leastIdle_18 ?_
    refine g_int (z := ms (fun i => allM (f 0 0) i && !decide (i = m))) (by rw [ms_one a1.1 (by omega), ms_not]) ?_
    refine g_iconst hX dX2_leastIdle_19 ?_
    refine g_iconst hX dX2_leastIdle_20 ?_
    refine g_call hX (cm_leastOf (P := P) (A := fun i => allM (f 0 0) i && !decide (i = m)) (mj := -1) (mm := 0) hM (by omega) (by omega)) (by decide) (by decide) vwX2_leastOf (hdX2_leastOf npX2_leastOf) (ci := 1) rfl rfl rfl rfl (Nat.le_of_ble_eq_true rfl) dX2_leastIdle_21 (fun z g hz => ?_)
    refine g_goto (tgt := 28) hX dX2_leastIdle_24 (by decide) ?_
    exact hR _ _ _ _ dX2_leastIdle_28 ⟨km_of hM hz.1, Or.inr ⟨a1, hz.2.2.2.2.2⟩⟩
/-- how many jobs are on machine m -/
def njf (P : Int → Bool) (w : Int → Int) (m j : Int) : Int := if P j = true ∧ w j = m then 1 else 0
def nj (P : Int → Bool) (w : Int → Int) (m : Int) : Int := sj (njf P w m)
theorem njf_rng (P : Int → Bool) (w : Int → Int) (m j : Int) : 0 ≤ njf P w m j ∧ njf P w m j ≤ 1 := by
  unfold njf
  split <;> omega
theorem nj_rng (P : Int → Bool) (w : Int → Int) (m : Int) : 0 ≤ nj P w m ∧ nj P w m ≤ 5 := by
  have a0 := njf_rng P w m 0
  have a1 := njf_rng P w m 1
  have a2 := njf_rng P w m 2
  have a3 := njf_rng P w m 3
  have a4 := njf_rng P w m 4
  unfold nj sj
  omega
theorem nj_cg {P : Int → Bool} {w w' : Int → Int} {m : Int} (hw : ∀ i, 0 ≤ i → i < 5 → w i = w' i) : nj P w m = nj P w' m := by
  unfold nj
  refine sj_cg (fun j j0 j1 => ?_)
  unfold njf
  rw [hw j j0 j1]
/-- the most jobs on machine m in the ways ahead of number c with the total L -/
def MJ (T : Int → Int) (P A : Int → Bool) (L m c z : Int) : Prop := (0 ≤ z ∧ z ≤ 5) ∧ (z = 0 ∨ ∃ i, 0 ≤ i ∧ i < c ∧ vld T P A (-1) 0 (wy i) ∧ SW T P (wy i) = L ∧ nj P (wy i) m = z) ∧ ∀ i, 0 ≤ i → i < c → vld T P A (-1) 0 (wy i) → SW T P (wy i) = L → nj P (wy i) m ≤ z
set_option maxHeartbeats 4000000 in
theorem nj_loop {P : Int → Bool} {m L z c : Int} (hX : Ok X cX2_mostJobs 7 3 RX2 (TyY kA)) (hM : MT f P) (ho : ∀ i, 0 ≤ i → i < 5 → 0 ≤ f 3 i ∧ f 3 i < 4) (hm : 0 ≤ m ∧ m < 3)
    (K : ∀ (x6 : Option Value), G X 7 (WY h q kA f) [some (.ref h), some (.int (iI m)), some (.int (iI L)), some (.int (iI z)), some (.int (iI c)), some (.int (iI (nj P (f 3) m))), x6] 100 []) :
    ∀ (n : Nat) (i : Int), 0 ≤ i → i ≤ 5 → 5 - i < n → G X 7 (WY h q kA f) [some (.ref h), some (.int (iI m)), some (.int (iI L)), some (.int (iI z)), some (.int (iI c)), some (.int (iI (Sm (fun i => njf P (f 3) m (i - 1)) i))), some (.int (iI i))] 57 [] := by
  intro n
  induction n with
  | zero => intro i h0 h1 h2; omega
  | succ n ih =>
    intro i h0 h1 h2
    have hs : Sm (fun i => njf P (f 3) m (i - 1)) (i + 1) = Sm (fun i => njf P (f 3) m (i - 1)) i + njf P (f 3) m i := by
      rw [Sm_succ _ h0, show i + 1 - 1 = i by omega]
    refine g_iload hX dX2_mostJobs_57 rfl ?_
    refine g_iconst hX dX2_mostJobs_59 ?_
    refine g_icmp_ge (tgt := 100) hX dX2_mostJobs_60 (by decide) (by omega) (by omega) (fun c_60 => ?_) (fun c_60 => ?_)
    · have : i = 5 := by omega
      subst this
      have e : Sm (fun i => njf P (f 3) m (i - 1)) 5 = nj P (f 3) m := by
        rw [Sm_5]
        rfl
      rw [e]
      exact K _
    · have ht := hM.th h0 c_60
      have oi := ho i h0 c_60
      have K91 : ∀ (s : Int), s = njf P (f 3) m i → G X 7 (WY h q kA f) [some (.ref h), some (.int (iI m)), some (.int (iI L)), some (.int (iI z)), some (.int (iI c)), some (.int (iI (Sm (fun i => njf P (f 3) m (i - 1)) i))), some (.int (iI i))] 91 [.int (iI s), .int (iI (Sm (fun i => njf P (f 3) m (i - 1)) i))] := by
        intro s es
        refine g_iadd hX dX2_mostJobs_91 ?_
        refine g_z (z' := Sm (fun i => njf P (f 3) m (i - 1)) (i + 1)) (by rw [hs, es]) ?_
        refine g_istore hX dX2_mostJobs_92 (by decide) ?_
        refine g_iinc hX dX2_mostJobs_94 rfl (by decide) ?_
        refine g_goto (tgt := 57) hX dX2_mostJobs_97 (by decide) ?_
        exact ih (i + 1) (by omega) (by omega) (by omega)
      refine g_iload hX dX2_mostJobs_63 rfl ?_
      refine g_aload_n hX dX2_mostJobs_65 rfl ?_
      refine gy_there hX dX2_mostJobs_66 ?_
      refine g_iload hX dX2_mostJobs_69 rfl ?_
      refine ly_there hX dX2_mostJobs_71 (by omega) ?_
      refine g_if_eq (tgt := 90) hX dX2_mostJobs_72 (by decide) (ht.r) (fun c_72 => ?_) (fun c_72 => ?_)
      · refine g_iconst hX dX2_mostJobs_90 ?_
        exact K91 0 (by unfold njf; rw [if_neg (fun w => ht.no c_72 w.1)])
      · refine g_aload_n hX dX2_mostJobs_75 rfl ?_
        refine gy_on hX dX2_mostJobs_76 ?_
        refine g_iload hX dX2_mostJobs_79 rfl ?_
        refine ly_on hX dX2_mostJobs_81 (by omega) ?_
        refine g_iload_n hX dX2_mostJobs_82 rfl ?_
        refine g_icmp_ne (tgt := 90) hX dX2_mostJobs_83 (by decide) (by omega) (by omega) (fun c_83 => ?_) (fun c_83 => ?_)
        · refine g_iconst hX dX2_mostJobs_90 ?_
          exact K91 0 (by unfold njf; rw [if_neg (fun w => c_83 w.2)])
        · refine g_iconst hX dX2_mostJobs_86 ?_
          refine g_goto (tgt := 91) hX dX2_mostJobs_87 (by decide) ?_
          exact K91 1 (by unfold njf; rw [if_pos ⟨ht.yes c_72, c_83⟩])
set_option maxHeartbeats 4000000 in
theorem most_loop {P A : Int → Bool} {m L : Int} (hX : Ok X cX2_mostJobs 7 3 RX2 (TyY kA)) (hM : MT f P) (hA : f 4 0 = ms A) (h5 : f 5 0 = -1) (h6 : f 6 0 = 0) (hL : -1 ≤ L ∧ L ≤ 500) (hm : 0 ≤ m ∧ m < 3)
    (K : ∀ (g : DS) (z : Int) (lv : List (Option Value)), (∀ k, k ≠ 3 → g k = f k) → MJ (f 2) P A L m 1024 z → G X 7 (WY h q kA g) lv 120 [.int (iI z)]) :
    ∀ (n : Nat) (c z : Int) (g : DS) (x5 x6 : Option Value), 0 ≤ c → c ≤ 1024 → 1024 - c < n → (∀ k, k ≠ 3 → g k = f k) → MJ (f 2) P A L m c z → G X 7 (WY h q kA g) [some (.ref h), some (.int (iI m)), some (.int (iI L)), some (.int (iI z)), some (.int (iI c)), x5, x6] 26 [] := by
  intro n
  induction n with
  | zero => intro c z g x5 x6 h0 h1 h2; omega
  | succ n ih =>
    intro c z g x5 x6 h0 h1 h2 l1 hJ
    have hzr := hJ.1
    refine g_iload hX dX2_mostJobs_26 rfl ?_
    refine g_sipush hX dX2_mostJobs_28 (by decide) ?_
    refine g_icmp_ge (tgt := 119) hX dX2_mostJobs_31 (by decide) (by omega) (by omega) (fun c_31 => ?_) (fun c_31 => ?_)
    · refine g_iload_n hX dX2_mostJobs_119 rfl ?_
      have : c = 1024 := by omega
      subst this
      exact K g z _ l1 hJ
    · have g2 : g 2 = f 2 := l1 2 (by decide)
      have g5 : g 5 0 = -1 := by rw [l1 5 (by decide)]; exact h5
      have g6 : g 6 0 = 0 := by rw [l1 6 (by decide)]; exact h6
      have hMg : MT g P := hM.cg (l1 0 (by decide)) (l1 1 (by decide)) g2
      refine g_iconst hX dX2_mostJobs_34 ?_
      refine g_istore hX dX2_mostJobs_35 (by decide) ?_
      refine g_aload_n hX dX2_mostJobs_37 rfl ?_
      refine g_iload hX dX2_mostJobs_38 rfl ?_
      refine g_call hX (cm_way (A := A) hMg (by rw [l1 4 (by decide)]; exact hA) (by rw [g5, g6]; omega) ⟨h0, c_31⟩) (by decide) (by decide) vwX2_way (hdX2_way npX2_way) (ci := 1) rfl rfl rfl rfl (Nat.le_of_ble_eq_true rfl) dX2_mostJobs_40 (fun b g' hb => ?_)
      obtain ⟨w1, w2, w3⟩ := hb
      rw [g2, g5, g6] at w3
      have v1 : ∀ k, k ≠ 3 → g' k = f k := fun k hk => by rw [w1 k hk, l1 k hk]
      have v3 : ∀ i, 0 ≤ i → i < 5 → 0 ≤ g' 3 i ∧ g' 3 i < 4 := fun i i0 i1 => by rw [w2 i i0 i1]; exact wy_rng c i
      have K100 : ∀ (y : Int) (x6 : Option Value), (0 ≤ y ∧ y ≤ 5) → (y = 0 ∨ (vld (f 2) P A (-1) 0 (wy c) ∧ SW (f 2) P (wy c) = L ∧ nj P (wy c) m = y)) → (vld (f 2) P A (-1) 0 (wy c) → SW (f 2) P (wy c) = L → nj P (wy c) m ≤ y) → G X 7 (WY h q kA g') [some (.ref h), some (.int (iI m)), some (.int (iI L)), some (.int (iI z)), some (.int (iI c)), some (.int (iI y)), x6] 100 [] := by
        intro y x6 y0 y1 y2
        have K112 : ∀ t : Int, ((z < y ∧ t = y) ∨ (y ≤ z ∧ t = z)) → G X 7 (WY h q kA g') [some (.ref h), some (.int (iI m)), some (.int (iI L)), some (.int (iI z)), some (.int (iI c)), some (.int (iI y)), x6] 112 [.int (iI t)] := by
          intro t ht
          refine g_istore_n hX dX2_mostJobs_112 (by decide) ?_
          refine g_iinc hX dX2_mostJobs_113 rfl (by decide) ?_
          refine g_goto (tgt := 26) hX dX2_mostJobs_116 (by decide) ?_
          refine ih (c + 1) t g' _ _ (by omega) (by omega) (by omega) v1 ⟨by omega, ?_, fun i i0 i1 i2 i3 => ?_⟩
          · rcases ht with ⟨a, b⟩ | ⟨a, b⟩
            · rcases y1 with e | ⟨e1, e2, e3⟩
              · omega
              · exact Or.inr ⟨c, h0, by omega, e1, e2, by omega⟩
            · rcases hJ.2.1 with e | ⟨i, i0, i1, i2, i3, i4⟩
              · exact Or.inl (by omega)
              · exact Or.inr ⟨i, i0, by omega, i2, i3, by omega⟩
          · by_cases e : i = c
            · rw [e] at i2 i3 ⊢
              have := y2 i2 i3
              omega
            · have := hJ.2.2 i i0 (by omega) i2 i3
              omega
        refine g_iload hX dX2_mostJobs_100 rfl ?_
        refine g_iload_n hX dX2_mostJobs_102 rfl ?_
        refine g_icmp_le (tgt := 111) hX dX2_mostJobs_103 (by decide) (by omega) (by omega) (fun c_103 => ?_) (fun c_103 => ?_)
        · refine g_iload_n hX dX2_mostJobs_111 rfl ?_
          exact K112 z (Or.inr ⟨c_103, rfl⟩)
        · refine g_iload hX dX2_mostJobs_106 rfl ?_
          refine g_goto (tgt := 112) hX dX2_mostJobs_108 (by decide) ?_
          exact K112 y (Or.inl ⟨c_103, rfl⟩)
      refine g_if_eq (tgt := 100) hX dX2_mostJobs_43 (by decide) (w3.r) (fun c_43 => ?_) (fun c_43 => ?_)
      · exact K100 0 _ (by omega) (Or.inl rfl) (fun w => absurd w (w3.no c_43))
      · have hyes := w3.yes c_43
        have hMg' : MT g' P := hM.cg (v1 0 (by decide)) (v1 1 (by decide)) (v1 2 (by decide))
        refine g_aload_n hX dX2_mostJobs_46 rfl ?_
        refine g_call hX (cm_sum hMg' v3) (by decide) (by decide) vwX2_sum (hdX2_sum npX2_sum) (ci := 1) rfl rfl rfl rfl (Nat.le_of_ble_eq_true rfl) dX2_mostJobs_47 (fun s _ hs => ?_)
        have hse : s = SW (f 2) P (wy c) := by rw [hs, v1 2 (by decide)]; exact SW_cg w2
        have hsr := SW_rng (P := P) hM.2.2 (fun i _ _ => wy_rng c i)
        rw [← hse] at hsr
        refine g_iload_n hX dX2_mostJobs_50 rfl ?_
        refine g_icmp_ne (tgt := 100) hX dX2_mostJobs_51 (by decide) (by omega) (by omega) (fun c_51 => ?_) (fun c_51 => ?_)
        · exact K100 0 _ (by omega) (Or.inl rfl) (fun _ w => absurd (hse.trans w) c_51)
        · refine g_iconst hX dX2_mostJobs_54 ?_
          refine g_istore hX dX2_mostJobs_55 (by decide) ?_
          have hnr := nj_rng P (wy c) m
          have hne : nj P (g' 3) m = nj P (wy c) m := nj_cg w2
          refine nj_loop hX hMg' v3 hm (fun x6 => ?_) 10 0 (by omega) (by omega) (by omega)
          rw [hne]
          exact K100 _ _ hnr (Or.inr ⟨hyes, by rw [← hse]; exact c_51, rfl⟩) (fun _ _ => by omega)
set_option maxHeartbeats 4000000 in
theorem cm_mostJobs {P : Int → Bool} {m : Int} (hM : MT f P) (hm : -2147483648 ≤ m ∧ m ≤ 2147483647) : Ct yX2_mostJobs cX2_mostJobs 7 (some .int) 3 (TyY kA) (WY h q kA f) (fun g : DS => WY h q kA g) [.ref h, .int (iI m)] (fun z g => km f g ∧ ((¬ (0 ≤ m ∧ m < f 0 0) ∧ z = -1) ∨ ((0 ≤ m ∧ m < f 0 0) ∧ ∃ L, LW (f 2) P (allM (f 0 0)) (-1) 0 1024 L ∧ MJ (f 2) P (allM (f 0 0)) L m 1024 z))) := by
  refine ct_int (by decide) rfl (Nat.le_of_ble_eq_true rfl) (fun X hX hR => ?_)
  have hn := hM.1
  refine g_aload_n hX dX2_mostJobs_0 rfl ?_
  refine g_iload_n hX dX2_mostJobs_1 rfl ?_
  refine g_call hX (cm_machine hM.1 hm) (by decide) (by decide) vwX2_machine (hdX2_machine npX2_machine) (ci := 1) rfl rfl rfl rfl (Nat.le_of_ble_eq_true rfl) dX2_mostJobs_2 (fun t1 _ ht1 => ?_)
  refine g_if_ne (tgt := 10) hX dX2_mostJobs_5 (by decide) (ht1.r) (fun c_5 => ?_) (fun c_5 => ?_)
  · have a1 := ht1.yes c_5
    refine g_aload_n hX dX2_mostJobs_10 rfl ?_
    refine g_aload_n hX dX2_mostJobs_11 rfl ?_
    refine g_call hX (cm_all hM.1) (by decide) (by decide) vwX2_all (hdX2_all npX2_all) (ci := 1) rfl rfl rfl rfl (Nat.le_of_ble_eq_true rfl) dX2_mostJobs_12 (fun a _ ha => ?_)
    subst ha
    refine g_iconst hX dX2_mostJobs_15 ?_
    refine g_iconst hX dX2_mostJobs_16 ?_
    refine g_call hX (cm_leastOf (P := P) (A := allM (f 0 0)) (mj := -1) (mm := 0) hM (by omega) (by omega)) (by decide) (by decide) vwX2_leastOf (hdX2_leastOf npX2_leastOf) (ci := 1) rfl rfl rfl rfl (Nat.le_of_ble_eq_true rfl) dX2_mostJobs_17 (fun L g hL => ?_)
    obtain ⟨z1, z4, z5, z6, z3, zL⟩ := hL
    have hMg : MT g P := hM.cg (z1 0 (by decide)) (z1 1 (by decide)) (z1 2 (by decide))
    refine g_istore_n hX dX2_mostJobs_20 (by decide) ?_
    refine g_iconst hX dX2_mostJobs_21 ?_
    refine g_istore_n hX dX2_mostJobs_22 (by decide) ?_
    refine g_iconst hX dX2_mostJobs_23 ?_
    refine g_istore hX dX2_mostJobs_24 (by decide) ?_
    refine most_loop hX hMg z4 z5 z6 (LW_rng hM.2.2 zL) ⟨a1.1, by omega⟩ (fun g' z lv b1 b2 => ?_) 1030 0 0 g _ _ (by omega) (by omega) (by omega) (fun _ _ => rfl) ⟨by omega, Or.inl rfl, fun i a b => by omega⟩
    rw [z1 2 (by decide)] at b2
    exact hR _ _ _ _ dX2_mostJobs_120 ⟨km_of hM (fun k hk => by rw [b1 k (by omega), z1 k hk]), Or.inr ⟨a1, L, zL, b2⟩⟩
  · refine g_iconst hX dX2_mostJobs_8 ?_
    exact hR _ _ _ _ dX2_mostJobs_9 ⟨km_of hM (fun _ _ => rfl), Or.inl ⟨ht1.no c_5, rfl⟩⟩
end
end
section
/-! PLAIN: the total of a way, by places counted from the end -/
section
theorem sj_swap (F : Int → Int → Int) : sj (fun j => sj (fun i => F j i)) = sj (fun i => sj (fun j => F j i)) := by
  simp only [sj]
  omega
theorem sj_add (f g : Int → Int) : sj (fun i => f i + g i) = sj f + sj g := by
  simp only [sj]
  omega
theorem sj_lin (f g : Int → Int) : sj (fun i => 8 * f i - g i) = 8 * sj f - sj g := by
  simp only [sj]
  omega
theorem sj_mulr (f : Int → Int) (x : Int) : sj f * x = sj (fun i => f i * x) := by
  simp only [sj, Int.add_mul]
theorem sj_z {f : Int → Int} (h : ∀ i, 0 ≤ i → i < 5 → f i = 0) : sj f = 0 := by
  simp only [sj]
  rw [h 0 (by decide) (by decide), h 1 (by decide) (by decide), h 2 (by decide) (by decide), h 3 (by decide) (by decide), h 4 (by decide) (by decide)]
  rfl
theorem sj_lt {f g : Int → Int} {k : Int} (h : ∀ i, 0 ≤ i → i < 5 → f i ≤ g i) (k0 : 0 ≤ k) (k1 : k < 5) (hk : f k + 1 ≤ g k) : sj f + 1 ≤ sj g := by
  have a0 := h 0 (by decide) (by decide)
  have a1 := h 1 (by decide) (by decide)
  have a2 := h 2 (by decide) (by decide)
  have a3 := h 3 (by decide) (by decide)
  have a4 := h 4 (by decide) (by decide)
  simp only [sj]
  have : k = 0 ∨ k = 1 ∨ k = 2 ∨ k = 3 ∨ k = 4 := by omega
  rcases this with e | e | e | e | e <;> subst e <;> omega
theorem sj_at {x k : Int} (k0 : 0 ≤ k) (k1 : k < 5) : sj (fun i => if i = k then x else 0) = x := by
  simp only [sj]
  have : k = 0 ∨ k = 1 ∨ k = 2 ∨ k = 3 ∨ k = 4 := by omega
  rcases this with e | e | e | e | e <;> subst e <;> simp
theorem Sm_1 {n : Int} (hn : 0 ≤ n) : Sm (fun _ => 1) n = n := by
  refine int_ind (p := fun n => Sm (fun _ => 1) n = n) rfl (fun n h0 ih => ?_) hn
  rw [Sm_succ _ h0, ih]
/-- numbers that are apart, between 1 and x: fewer than x of them -/
theorem cnt_lt {b p : Int → Int} {x : Int} (hx : 1 ≤ x) (hb : ∀ i, 0 ≤ i → i < 5 → b i = 0 ∨ (b i = 1 ∧ 1 ≤ p i ∧ p i < x)) (hd : ∀ i k, 0 ≤ i → i < 5 → 0 ≤ k → k < 5 → b i = 1 → b k = 1 → p i = p k → i = k) : sj b ≤ x - 1 := by
  have e0 : sj b = Sm (fun i => b (i - 1)) 5 := by
    rw [Sm_5]
    rfl
  have e1 : Sm (fun i => b (i - 1)) 5 = Sm (fun i => Sm (fun v => if v = p (i - 1) then b (i - 1) else 0) (x - 1)) 5 := by
    refine Sm_congr (by decide) (fun i i1 i2 => ?_)
    rw [Sm_one (by omega)]
    rcases hb (i - 1) (by omega) (by omega) with h | ⟨h, h1, h2⟩
    · rw [h]
      split <;> rfl
    · rw [if_pos ⟨h1, by omega⟩]
  have e2 : Sm (fun v => Sm (fun i => if v = p (i - 1) then b (i - 1) else 0) 5) (x - 1) ≤ Sm (fun _ => 1) (x - 1) := by
    refine Sm_le (by omega) (fun v v1 v2 => ?_)
    by_cases h : ∃ i, 1 ≤ i ∧ i ≤ 5 ∧ b (i - 1) = 1 ∧ p (i - 1) = v
    · obtain ⟨k, k1, k2, k3, k4⟩ := h
      have e : Sm (fun i => if v = p (i - 1) then b (i - 1) else 0) 5 = Sm (fun i => if i = k then 1 else 0) 5 := by
        refine Sm_congr (by decide) (fun i i1 i2 => ?_)
        by_cases z : i = k
        · rw [z, if_pos k4.symm, if_pos rfl, k3]
        · rw [if_neg z]
          by_cases y : v = p (i - 1)
          · rw [if_pos y]
            rcases hb (i - 1) (by omega) (by omega) with h | ⟨h, -, -⟩
            · exact h
            · have := hd (i - 1) (k - 1) (by omega) (by omega) (by omega) (by omega) h k3 (by rw [k4, y])
              omega
          · rw [if_neg y]
      show Sm (fun i => if v = p (i - 1) then b (i - 1) else 0) 5 ≤ 1
      rw [e, Sm_one (by decide), if_pos ⟨k1, k2⟩]
      exact Int.le_refl 1
    · have e : Sm (fun i => if v = p (i - 1) then b (i - 1) else 0) 5 = Sm (fun _ => 0) 5 := by
        refine Sm_congr (by decide) (fun i i1 i2 => ?_)
        by_cases y : v = p (i - 1)
        · rw [if_pos y]
          rcases hb (i - 1) (by omega) (by omega) with h' | ⟨h', -, -⟩
          · exact h'
          · exact absurd ⟨i, i1, i2, h', y.symm⟩ h
        · rw [if_neg y]
      show Sm (fun i => if v = p (i - 1) then b (i - 1) else 0) 5 ≤ 1
      rw [e, Sm_z (by decide)]
      decide
  have e3 : Sm (fun _ => 1) (x - 1) = x - 1 := Sm_1 (by omega)
  have e4 : Sm (fun i => Sm (fun v => if v = p (i - 1) then b (i - 1) else 0) (x - 1)) 5 = Sm (fun v => Sm (fun i => if v = p (i - 1) then b (i - 1) else 0) 5) (x - 1) := Sm_swap (f := fun i v => if v = p (i - 1) then b (i - 1) else 0) (by decide) (by omega)
  omega
variable {P : Int → Bool} {w τ p : Int → Int} {j i : Int}
/-- what i, ahead of j on j's machine, adds to j's finish -/
def Fji (P : Int → Bool) (w τ : Int → Int) (j i : Int) : Int := if P j = true ∧ P i = true ∧ ¬ i = j ∧ w i = w j ∧ (τ i < τ j ∨ (τ i = τ j ∧ i < j)) then τ i else 0
/-- the same by places p from the end: j is nearer to the start -/
def Eji (P : Int → Bool) (w τ p : Int → Int) (j i : Int) : Int := if P j = true ∧ P i = true ∧ ¬ i = j ∧ w i = w j ∧ p i < p j then τ j else 0
theorem Fji_pos (h : P j = true ∧ P i = true ∧ ¬ i = j ∧ w i = w j ∧ (τ i < τ j ∨ (τ i = τ j ∧ i < j))) : Fji P w τ j i = τ i := by
  unfold Fji
  rw [if_pos h]
theorem Fji_neg (h : ¬ (P j = true ∧ P i = true ∧ ¬ i = j ∧ w i = w j ∧ (τ i < τ j ∨ (τ i = τ j ∧ i < j)))) : Fji P w τ j i = 0 := by
  unfold Fji
  rw [if_neg h]
theorem Eji_pos (h : P j = true ∧ P i = true ∧ ¬ i = j ∧ w i = w j ∧ p i < p j) : Eji P w τ p j i = τ j := by
  unfold Eji
  rw [if_pos h]
theorem Eji_neg (h : ¬ (P j = true ∧ P i = true ∧ ¬ i = j ∧ w i = w j ∧ p i < p j)) : Eji P w τ p j i = 0 := by
  unfold Eji
  rw [if_neg h]
def ta (T w : Int → Int) : Int → Int := fun j => T (4 * j + w j)
theorem SW_pairs (T : Int → Int) (P : Int → Bool) (w : Int → Int) : SW T P w = sj (fun j => if P j then ta T w j else 0) + sj (fun j => sj (fun i => Fji P w (ta T w) j i)) := by
  rw [← sj_add]
  unfold SW
  refine sj_cg (fun j j0 j1 => ?_)
  by_cases hb : P j = true
  · rw [if_pos hb, if_pos hb]
    unfold finM
    have e : sj (fnM T w P j) = sj (fun i => Fji P w (ta T w) j i) := by
      refine sj_cg (fun i i0 i1 => ?_)
      unfold fnM
      by_cases c : P i = true ∧ ¬ i = j ∧ w i = w j ∧ (T (4 * i + w i) < T (4 * j + w j) ∨ (T (4 * i + w i) = T (4 * j + w j) ∧ i < j))
      · rw [if_pos c, Fji_pos ⟨hb, c⟩]
        rfl
      · rw [if_neg c, Fji_neg (fun x => c x.2)]
    rw [e]
    rfl
  · rw [if_neg hb, if_neg hb, sj_z (f := fun i => Fji P w (ta T w) j i) (fun i _ _ => Fji_neg (fun x => hb x.1))]
    rfl
/-- is i behind j on j's machine? -/
def beh (P : Int → Bool) (w τ : Int → Int) (j i : Int) : Int := if P i = true ∧ ¬ i = j ∧ w i = w j ∧ (τ j < τ i ∨ (τ j = τ i ∧ j < i)) then 1 else 0
/-- the place of j, counted from the end -/
def plc (P : Int → Bool) (w τ : Int → Int) (j : Int) : Int := 1 + sj (beh P w τ j)
theorem SW_plc (T : Int → Int) (P : Int → Bool) (w : Int → Int) : SW T P w = sj (fun j => if P j then plc P w (ta T w) j * ta T w j else 0) := by
  rw [SW_pairs, sj_swap (fun j i => Fji P w (ta T w) j i), ← sj_add]
  refine sj_cg (fun j j0 j1 => ?_)
  by_cases hb : P j = true
  · rw [if_pos hb, if_pos hb]
    unfold plc
    rw [Int.add_mul, Int.one_mul, sj_mulr]
    have e : sj (fun i => Fji P w (ta T w) i j) = sj (fun i => beh P w (ta T w) j i * ta T w j) := by
      refine sj_cg (fun i i0 i1 => ?_)
      unfold beh
      by_cases c : P i = true ∧ ¬ i = j ∧ w i = w j ∧ (ta T w j < ta T w i ∨ (ta T w j = ta T w i ∧ j < i))
      · rw [if_pos c, Int.one_mul, Fji_pos ⟨c.1, hb, fun x => c.2.1 x.symm, c.2.2.1.symm, c.2.2.2⟩]
      · rw [if_neg c, Int.zero_mul, Fji_neg (fun x => c ⟨x.1, fun y => x.2.2.1 y.symm, x.2.2.2.1.symm, x.2.2.2.2⟩)]
    rw [e]
  · rw [if_neg hb, if_neg hb, sj_z (f := fun i => Fji P w (ta T w) i j) (fun i _ _ => Fji_neg (fun x => hb x.2.1))]
    rfl
theorem beh_rng (P : Int → Bool) (w τ : Int → Int) (j i : Int) : 0 ≤ beh P w τ j i ∧ beh P w τ j i ≤ 1 := by
  unfold beh
  split <;> omega
theorem beh_self (P : Int → Bool) (w τ : Int → Int) (j : Int) : beh P w τ j j = 0 := by
  unfold beh
  rw [if_neg (fun x => x.2.1 rfl)]
theorem plc_rng (P : Int → Bool) (w τ : Int → Int) {j : Int} (j0 : 0 ≤ j) (j1 : j < 5) : 1 ≤ plc P w τ j ∧ plc P w τ j ≤ 5 := by
  have a0 := beh_rng P w τ j 0
  have a1 := beh_rng P w τ j 1
  have a2 := beh_rng P w τ j 2
  have a3 := beh_rng P w τ j 3
  have a4 := beh_rng P w τ j 4
  have s := beh_self P w τ j
  unfold plc sj
  have : j = 0 ∨ j = 1 ∨ j = 2 ∨ j = 3 ∨ j = 4 := by omega
  rcases this with e | e | e | e | e <;> subst e <;> omega
theorem plc_lt {k : Int} (j0 : 0 ≤ j) (j1 : j < 5) (k0 : 0 ≤ k) (k1 : k < 5) (hk : P k = true) (hne : ¬ k = j) (hw : w k = w j) (hb : τ j < τ k ∨ (τ j = τ k ∧ j < k)) : plc P w τ k + 1 ≤ plc P w τ j := by
  unfold plc
  have : sj (beh P w τ k) + 1 ≤ sj (beh P w τ j) := by
    refine sj_lt (k := k) (fun i i0 i1 => ?_) k0 k1 ?_
    · unfold beh
      by_cases c : P i = true ∧ ¬ i = k ∧ w i = w k ∧ (τ k < τ i ∨ (τ k = τ i ∧ k < i))
      · obtain ⟨c1, c2, c3, c4⟩ := c
        have c' : P i = true ∧ ¬ i = j ∧ w i = w j ∧ (τ j < τ i ∨ (τ j = τ i ∧ j < i)) := by
          refine ⟨c1, fun e => ?_, by rw [c3, hw], by omega⟩
          subst e
          omega
        rw [if_pos ⟨c1, c2, c3, c4⟩, if_pos c']
        exact Int.le_refl 1
      · rw [if_neg c]
        exact (beh_rng P w τ j i).1
    · rw [beh_self]
      unfold beh
      rw [if_pos ⟨hk, hne, hw, hb⟩]
      decide
  omega
theorem plc_apart {k : Int} (j0 : 0 ≤ j) (j1 : j < 5) (k0 : 0 ≤ k) (k1 : k < 5) (hj : P j = true) (hk : P k = true) (hw : w j = w k) (he : plc P w τ j = plc P w τ k) : j = k := by
  by_cases hne : j = k
  · exact hne
  · exfalso
    have hc : (τ j < τ k ∨ (τ j = τ k ∧ j < k)) ∨ (τ k < τ j ∨ (τ k = τ j ∧ k < j)) := by omega
    rcases hc with c | c
    · have := plc_lt (P := P) (w := w) j0 j1 k0 k1 hk (fun e => hne e.symm) hw.symm c
      omega
    · have := plc_lt (P := P) (w := w) k0 k1 j0 j1 hj hne hw c
      omega
theorem pair_le (hw : w i = w j → P i = true → P j = true → ¬ i = j → ¬ p i = p j) : Fji P w τ j i + Fji P w τ i j ≤ Eji P w τ p j i + Eji P w τ p i j := by
  by_cases c : P j = true ∧ P i = true ∧ ¬ i = j ∧ w i = w j
  · obtain ⟨c1, c2, c3, c4⟩ := c
    have hp := hw c4 c2 c1 c3
    have c3' : ¬ j = i := fun e => c3 e.symm
    have c4' := c4.symm
    have hF : Fji P w τ j i + Fji P w τ i j ≤ τ i ∧ Fji P w τ j i + Fji P w τ i j ≤ τ j := by
      by_cases b : τ i < τ j ∨ (τ i = τ j ∧ i < j)
      · rw [Fji_pos ⟨c1, c2, c3, c4, b⟩, Fji_neg (j := i) (i := j) (fun x => by have := x.2.2.2.2; omega)]
        omega
      · rw [Fji_neg (fun x => b x.2.2.2.2), Fji_pos (j := i) (i := j) ⟨c2, c1, c3', c4', by omega⟩]
        omega
    by_cases b : p i < p j
    · rw [Eji_pos ⟨c1, c2, c3, c4, b⟩, Eji_neg (j := i) (i := j) (fun x => by have := x.2.2.2.2; omega)]
      omega
    · rw [Eji_neg (fun x => b x.2.2.2.2), Eji_pos (j := i) (i := j) ⟨c2, c1, c3', c4', by omega⟩]
      omega
  · rw [Fji_neg (fun x => c ⟨x.1, x.2.1, x.2.2.1, x.2.2.2.1⟩), Fji_neg (j := i) (i := j) (fun x => c ⟨x.2.1, x.1, fun e => x.2.2.1 e.symm, x.2.2.2.1.symm⟩), Eji_neg (fun x => c ⟨x.1, x.2.1, x.2.2.1, x.2.2.2.1⟩), Eji_neg (j := i) (i := j) (fun x => c ⟨x.2.1, x.1, fun e => x.2.2.1 e.symm, x.2.2.2.1.symm⟩)]
    exact Int.le_refl _
/-- any places: no less than the total -/
theorem SW_le {T : Int → Int} (hτ : ∀ j, 0 ≤ j → j < 5 → P j = true → 0 ≤ ta T w j) (hp : ∀ j, 0 ≤ j → j < 5 → P j = true → 1 ≤ p j) (hd : ∀ i j, 0 ≤ i → i < 5 → 0 ≤ j → j < 5 → P i = true → P j = true → w i = w j → p i = p j → i = j) : SW T P w ≤ sj (fun j => if P j then p j * ta T w j else 0) := by
  have sa : sj (fun j => (if P j then ta T w j else 0) + sj (fun i => Eji P w (ta T w) p j i)) ≤ sj (fun j => if P j then p j * ta T w j else 0) := by
    refine sj_le (fun j j0 j1 => ?_)
    show (if P j then ta T w j else 0) + sj (fun i => Eji P w (ta T w) p j i) ≤ (if P j then p j * ta T w j else 0)
    by_cases hb : P j = true
    · rw [if_pos hb, if_pos hb]
      have hc := cnt_lt (b := fun i => if P i = true ∧ ¬ i = j ∧ w i = w j ∧ p i < p j then 1 else 0) (p := p) (x := p j) (hp j j0 j1 hb) (fun i i0 i1 => by
        by_cases c : P i = true ∧ ¬ i = j ∧ w i = w j ∧ p i < p j
        · exact Or.inr ⟨if_pos c, hp i i0 i1 c.1, c.2.2.2⟩
        · exact Or.inl (if_neg c)) (fun i k i0 i1 k0 k1 hi hk e => by
        by_cases c : P i = true ∧ ¬ i = j ∧ w i = w j ∧ p i < p j
        · by_cases c' : P k = true ∧ ¬ k = j ∧ w k = w j ∧ p k < p j
          · exact hd i k i0 i1 k0 k1 c.1 c'.1 (by rw [c.2.2.1, c'.2.2.1]) e
          · have hk : (if P k = true ∧ ¬ k = j ∧ w k = w j ∧ p k < p j then (1 : Int) else 0) = 1 := hk
            rw [if_neg c'] at hk
            omega
        · have hi : (if P i = true ∧ ¬ i = j ∧ w i = w j ∧ p i < p j then (1 : Int) else 0) = 1 := hi
          rw [if_neg c] at hi
          omega)
      have e : sj (fun i => Eji P w (ta T w) p j i) = sj (fun i => if P i = true ∧ ¬ i = j ∧ w i = w j ∧ p i < p j then (1 : Int) else 0) * ta T w j := by
        rw [sj_mulr]
        refine sj_cg (fun i i0 i1 => ?_)
        by_cases c : P i = true ∧ ¬ i = j ∧ w i = w j ∧ p i < p j
        · rw [if_pos c, Int.one_mul, Eji_pos ⟨hb, c⟩]
        · rw [if_neg c, Int.zero_mul, Eji_neg (fun x => c x.2)]
      rw [e]
      have hm := Int.mul_le_mul_of_nonneg_right hc (hτ j j0 j1 hb)
      rw [Int.sub_mul, Int.one_mul] at hm
      omega
    · rw [if_neg hb, if_neg hb, sj_z (f := fun i => Eji P w (ta T w) p j i) (fun i _ _ => Eji_neg (fun x => hb x.1))]
      exact Int.le_refl 0
  rw [sj_add] at sa
  have e2 : ∀ F : Int → Int → Int, sj (fun j => sj (fun i => F j i + F i j)) = sj (fun j => sj (fun i => F j i)) + sj (fun j => sj (fun i => F j i)) := by
    intro F
    simp only [sj]
    omega
  have hF := e2 (Fji P w (ta T w))
  have hE := e2 (Eji P w (ta T w) p)
  have hle : sj (fun j => sj (fun i => Fji P w (ta T w) j i + Fji P w (ta T w) i j)) ≤ sj (fun j => sj (fun i => Eji P w (ta T w) p j i + Eji P w (ta T w) p i j)) := by
    refine sj_le (fun j j0 j1 => sj_le (fun i i0 i1 => pair_le (fun a b c e f => e (hd i j i0 i1 j0 j1 b c a f))))
  rw [SW_pairs]
  omega
end
end
section
/-! PLAIN: columns and ways: the desk's least total is the least total of the ways -/
section
/-- the machine that a number stands for: one that is not the crew's is the doubled one -/
def mq (d : DS) (db m : Int) : Int := if m < d 0 0 then m else db
def blk (d : DS) (m : Int) : Int := if m < d 0 0 then m else d 0 0
/-- a way that the desk's question allows -/
def vD (d : DS) (db : Int) (op : Int → Int → Bool) (Q : Int → Bool) (w : Int → Int) : Prop := ∀ j, 0 ≤ j → j < 5 → (Q j = true → (0 ≤ w j ∧ (w j < d 0 0 ∨ (w j = 3 ∧ 0 ≤ db))) ∧ op j (mq d db (w j)) = true) ∧ (¬ Q j = true → w j = 0)
/-- the model's times are the desk's -/
def TR (d : DS) (db : Int) (T : Int → Int) : Prop := ∀ j, 0 ≤ j → j < 5 → (∀ m, 0 ≤ m → m < d 0 0 → T (4 * j + m) = d 2 (j * 3 + m)) ∧ (0 ≤ db → T (4 * j + 3) = d 2 (j * 3 + db))
def nlf (d : DS) (db lk : Int) (Q : Int → Bool) (w : Int → Int) (j : Int) : Int := if Q j = true ∧ mq d db (w j) = lk then 1 else 0
/-- how many jobs are on the liked machine -/
def nlk (d : DS) (db lk : Int) (Q : Int → Bool) (w : Int → Int) : Int := sj (nlf d db lk Q w)
variable {d : DS} {db lk : Int} {op : Int → Int → Bool} {Q : Int → Bool} {T w : Int → Int}
theorem TR.at (hn : 1 ≤ d 0 0 ∧ d 0 0 ≤ 3) (hT : TR d db T) {j m : Int} (j0 : 0 ≤ j) (j1 : j < 5) (hm : 0 ≤ m ∧ (m < d 0 0 ∨ (m = 3 ∧ 0 ≤ db))) : T (4 * j + m) = d 2 (j * 3 + mq d db m) := by
  obtain ⟨h1, h2⟩ := hT j j0 j1
  unfold mq
  by_cases c : m < d 0 0
  · rw [if_pos c]
    exact h1 m hm.1 c
  · rw [if_neg c]
    have : m = 3 ∧ 0 ≤ db := by omega
    rw [this.1]
    exact h2 this.2
theorem mAt_blk (hn : 1 ≤ d 0 0 ∧ d 0 0 ≤ 3) {m p : Int} (hm : 0 ≤ m) (hp : 1 ≤ p ∧ p ≤ 5) : mAt (ql d db lk) (5 * blk d m + p) = mq d db m := by
  unfold mAt
  rw [ql_0, ql_4]
  have e : (5 * blk d m + p - 1) / 5 = blk d m := by omega
  rw [e]
  unfold blk mq
  by_cases c : m < d 0 0
  · simp only [if_pos c]
  · rw [if_neg c, if_neg (by omega), if_neg c]
theorem kc_at (hn : 1 ≤ d 0 0 ∧ d 0 0 ≤ 3) {j m p : Int} (hm : 0 ≤ m) (hp : 1 ≤ p ∧ p ≤ 5) (hq : 0 ≤ mq d db m) (hop : op j (mq d db m) = true) : kc (ql d db lk) op j (5 * blk d m + p) = 8 * (p * d 2 (j * 3 + mq d db m)) - (if mq d db m = lk then 1 else 0) := by
  unfold kc
  rw [mAt_blk hn hm hp, if_neg (by rw [hop]; simp; omega), ql_2, ql_5]
  have e : (5 * blk d m + p - 1) % 5 + 1 = p := by omega
  rw [e, Int.mul_assoc]
theorem mq_nn {j : Int} (hm : 0 ≤ w j ∧ (w j < d 0 0 ∨ (w j = 3 ∧ 0 ≤ db))) : 0 ≤ mq d db (w j) := by
  unfold mq
  split <;> omega
/-- a way gives columns -/
theorem way_cols (hq : QK d db lk op) (hT : TR d db T) (hw : vD d db op Q w) : ∃ t, asJ (cols (ql d db lk)) Q t ∧ sQ Q (kc (ql d db lk) op) t = 8 * SW T Q w - nlk d db lk Q w := by
  have hn := hq.1.1
  have hdb := hq.2.1
  refine ⟨fun j => 5 * blk d (w j) + plc Q w (ta T w) j, ⟨fun j j0 j1 hj => ?_, fun j k j0 j1 k0 k1 hj hk e => ?_⟩, ?_⟩
  · show 1 ≤ 5 * blk d (w j) + plc Q w (ta T w) j ∧ 5 * blk d (w j) + plc Q w (ta T w) j ≤ cols (ql d db lk)
    have hp := plc_rng Q w (ta T w) j0 j1
    have hm := ((hw j j0 j1).1 hj).1
    unfold cols blk
    rw [ql_0, ql_4]
    by_cases c : w j < d 0 0
    · rw [if_pos c]
      split <;> omega
    · rw [if_neg c, if_pos (by omega)]
      omega
  · have e : 5 * blk d (w j) + plc Q w (ta T w) j = 5 * blk d (w k) + plc Q w (ta T w) k := e
    have hp := plc_rng Q w (ta T w) j0 j1
    have hp' := plc_rng Q w (ta T w) k0 k1
    have hm := ((hw j j0 j1).1 hj).1
    have hm' := ((hw k k0 k1).1 hk).1
    have hb : blk d (w j) = blk d (w k) := by omega
    have hww : w j = w k := by
      unfold blk at hb
      by_cases c : w j < d 0 0
      · rw [if_pos c] at hb
        by_cases c' : w k < d 0 0
        · rw [if_pos c'] at hb
          exact hb
        · rw [if_neg c'] at hb
          omega
      · rw [if_neg c] at hb
        by_cases c' : w k < d 0 0
        · rw [if_pos c'] at hb
          omega
        · omega
    exact plc_apart (τ := ta T w) j0 j1 k0 k1 hj hk hww (by omega)
  · rw [SW_plc]
    unfold nlk
    rw [← sj_lin]
    unfold sQ
    refine sj_cg (fun j j0 j1 => ?_)
    show (if Q j then kc (ql d db lk) op j (5 * blk d (w j) + plc Q w (ta T w) j) else 0) = 8 * (if Q j then plc Q w (ta T w) j * ta T w j else 0) - nlf d db lk Q w j
    unfold nlf
    by_cases hb : Q j = true
    · have hm := (hw j j0 j1).1 hb
      rw [if_pos hb, if_pos hb, kc_at hn hm.1.1 (plc_rng Q w (ta T w) j0 j1) (mq_nn hm.1) hm.2]
      have hta : ta T w j = d 2 (j * 3 + mq d db (w j)) := hT.at hn j0 j1 hm.1
      rw [hta]
      by_cases c : mq d db (w j) = lk
      · rw [if_pos c, if_pos ⟨hb, c⟩]
      · rw [if_neg c, if_neg (fun x => c x.2)]
    · rw [if_neg hb, if_neg hb, if_neg (fun x => hb x.1)]
      rfl
/-- columns give a way that is no dearer -/
theorem cols_way (hq : QK d db lk op) (hT : TR d db T) {t : Int → Int} (ht : asJ (cols (ql d db lk)) Q t) (hs : sQ Q (kc (ql d db lk) op) t < 100000) : ∃ w, vD d db op Q w ∧ 8 * SW T Q w - nlk d db lk Q w ≤ sQ Q (kc (ql d db lk) op) t := by
  have hn := hq.1.1
  have hdb := hq.2.1
  have hTT := hq.1.2
  have hcol : ∀ j, 0 ≤ j → j < 5 → Q j = true → (t j - 1) / 5 < d 0 0 ∨ ((t j - 1) / 5 = d 0 0 ∧ 0 ≤ db) := by
    intro j j0 j1 hj
    have h1 := ht.1 j j0 j1 hj
    unfold cols at h1
    rw [ql_0, ql_4] at h1
    by_cases c : 0 ≤ db
    · rw [if_pos c] at h1
      omega
    · rw [if_neg c] at h1
      omega
  have hlt : ∀ j, 0 ≤ j → j < 5 → Q j = true → kc (ql d db lk) op j (t j) < 100000 := by
    intro j j0 j1 hj
    have := sj_nn (f := fun i => if Q i then kc (ql d db lk) op i (t i) else 0) (fun i x y => by
      show 0 ≤ (if Q i then kc (ql d db lk) op i (t i) else 0)
      by_cases hb : Q i = true
      · rw [if_pos hb]
        exact (hq.rng ⟨x, y⟩ (ht.1 i x y hb).1).1
      · rw [if_neg hb]
        exact Int.le_refl 0) j0 j1
    have this : (if Q j then kc (ql d db lk) op j (t j) else 0) ≤ sQ Q (kc (ql d db lk) op) t := this
    rw [if_pos hj] at this
    omega
  obtain ⟨w, hwd⟩ : ∃ w : Int → Int, ∀ j, w j = if Q j then (if (t j - 1) / 5 < d 0 0 then (t j - 1) / 5 else 3) else 0 := ⟨_, fun _ => rfl⟩
  have hwv : ∀ j, 0 ≤ j → j < 5 → Q j = true → (w j = (t j - 1) / 5 ∧ w j < d 0 0) ∨ (w j = 3 ∧ (t j - 1) / 5 = d 0 0 ∧ 0 ≤ db) := by
    intro j j0 j1 hj
    have h1 := hwd j
    rw [if_pos hj] at h1
    by_cases c : (t j - 1) / 5 < d 0 0
    · rw [if_pos c] at h1
      exact Or.inl ⟨h1, by omega⟩
    · rw [if_neg c] at h1
      have := hcol j j0 j1 hj
      exact Or.inr ⟨h1, by omega, by omega⟩
  have hwr : ∀ j, 0 ≤ j → j < 5 → Q j = true → 0 ≤ w j ∧ (w j < d 0 0 ∨ (w j = 3 ∧ 0 ≤ db)) := by
    intro j j0 j1 hj
    have h1 := ht.1 j j0 j1 hj
    rcases hwv j j0 j1 hj with ⟨a, b⟩ | ⟨a, b, c⟩
    · exact ⟨by omega, Or.inl b⟩
    · exact ⟨by omega, Or.inr ⟨a, c⟩⟩
  have htj : ∀ j, 0 ≤ j → j < 5 → Q j = true → t j = 5 * blk d (w j) + ((t j - 1) % 5 + 1) := by
    intro j j0 j1 hj
    have h1 := ht.1 j j0 j1 hj
    unfold blk
    rcases hwv j j0 j1 hj with ⟨a, b⟩ | ⟨a, b, c⟩
    · rw [if_pos b]
      omega
    · rw [if_neg (by omega)]
      omega
  have hopj : ∀ j, 0 ≤ j → j < 5 → Q j = true → op j (mq d db (w j)) = true := by
    intro j j0 j1 hj
    have h1 := hlt j j0 j1 hj
    rw [htj j j0 j1 hj] at h1
    have hma := mAt_blk (lk := lk) (db := db) hn (hwr j j0 j1 hj).1 (show 1 ≤ (t j - 1) % 5 + 1 ∧ (t j - 1) % 5 + 1 ≤ 5 by omega)
    cases hb : op j (mq d db (w j)) with
    | true => rfl
    | false =>
      unfold kc at h1
      rw [hma, if_pos (Or.inr hb)] at h1
      omega
  have hvD : vD d db op Q w := by
    intro j j0 j1
    refine ⟨fun hj => ⟨hwr j j0 j1 hj, hopj j j0 j1 hj⟩, fun hj => ?_⟩
    rw [hwd j, if_neg hj]
  refine ⟨w, hvD, ?_⟩
  have hta : ∀ j, 0 ≤ j → j < 5 → Q j = true → ta T w j = d 2 (j * 3 + mq d db (w j)) := fun j j0 j1 hj => hT.at hn j0 j1 (hwr j j0 j1 hj)
  have hmr : ∀ j, 0 ≤ j → j < 5 → Q j = true → 0 ≤ mq d db (w j) ∧ mq d db (w j) < d 0 0 := by
    intro j j0 j1 hj
    have h1 := hwr j j0 j1 hj
    unfold mq
    split <;> omega
  have hle := SW_le (P := Q) (w := w) (T := T) (p := fun j => (t j - 1) % 5 + 1) (fun j j0 j1 hj => by
      rw [hta j j0 j1 hj]
      have := hmr j j0 j1 hj
      exact (hTT _ (by omega) (by omega)).1) (fun j j0 j1 hj => by
      show 1 ≤ (t j - 1) % 5 + 1
      omega) (fun i j i0 i1 j0 j1 hi hj hw he => by
      have he : (t i - 1) % 5 + 1 = (t j - 1) % 5 + 1 := he
      have a := htj i i0 i1 hi
      have b := htj j j0 j1 hj
      rw [hw] at a
      exact ht.2 i j i0 i1 j0 j1 hi hj (by omega))
  have he : sQ Q (kc (ql d db lk) op) t = 8 * sj (fun j => if Q j then ((t j - 1) % 5 + 1) * ta T w j else 0) - nlk d db lk Q w := by
    unfold nlk
    rw [← sj_lin]
    unfold sQ
    refine sj_cg (fun j j0 j1 => ?_)
    unfold nlf
    by_cases hb : Q j = true
    · rw [if_pos hb, if_pos hb, hta j j0 j1 hb]
      have hk := kc_at (lk := lk) hn (p := (t j - 1) % 5 + 1) (hwr j j0 j1 hb).1 (by omega) (hmr j j0 j1 hb).1 (hopj j j0 j1 hb)
      rw [← htj j j0 j1 hb] at hk
      rw [hk]
      by_cases c : mq d db (w j) = lk
      · rw [if_pos c, if_pos ⟨hb, c⟩]
      · rw [if_neg c, if_neg (fun x => c x.2)]
    · rw [if_neg hb, if_neg hb, if_neg (fun x => hb x.1)]
      rfl
  rw [he]
  have hle : SW T Q w ≤ sj (fun j => if Q j then ((t j - 1) % 5 + 1) * ta T w j else 0) := hle
  omega
/-- z is the least total of the ways with V; -1: there is none -/
def LWp (V : (Int → Int) → Prop) (T : Int → Int) (Q : Int → Bool) (z : Int) : Prop := (z = -1 ∧ ∀ w, ¬ V w) ∨ (0 ≤ z ∧ (∃ w, V w ∧ SW T Q w = z) ∧ ∀ w, V w → z ≤ SW T Q w)
theorem LWp_uniq {V V' : (Int → Int) → Prop} {z z' : Int} (hV : ∀ w, V w ↔ V' w) (h : LWp V T Q z) (h' : LWp V' T Q z') : z = z' := by
  rcases h with ⟨a, b⟩ | ⟨a, ⟨w, b1, b2⟩, c⟩
  · rcases h' with ⟨a', b'⟩ | ⟨a', ⟨w', b1', b2'⟩, c'⟩
    · omega
    · exact absurd ((hV w').mpr b1') (b w')
  · rcases h' with ⟨a', b'⟩ | ⟨a', ⟨w', b1', b2'⟩, c'⟩
    · exact absurd ((hV w).mp b1) (b' w)
    · have := c w' ((hV w').mpr b1')
      have := c' w ((hV w).mp b1)
      omega
theorem vD_rng (hn : 1 ≤ d 0 0 ∧ d 0 0 ≤ 3) (hw : vD d db op Q w) : ∀ j, 0 ≤ j → j < 5 → 0 ≤ w j ∧ w j < 4 := by
  intro j j0 j1
  by_cases hb : Q j = true
  · have := ((hw j j0 j1).1 hb).1
    omega
  · have := (hw j j0 j1).2 hb
    omega
theorem nlk_rng : 0 ≤ nlk d db lk Q w ∧ nlk d db lk Q w ≤ 5 := by
  have key : ∀ j, 0 ≤ nlf d db lk Q w j ∧ nlf d db lk Q w j ≤ 1 := by
    intro j
    unfold nlf
    split <;> omega
  have a0 := key 0
  have a1 := key 1
  have a2 := key 2
  have a3 := key 3
  have a4 := key 4
  unfold nlk sj
  omega
theorem nlk_0 (hw : vD d db op Q w) : nlk d db (-1) Q w = 0 := by
  unfold nlk
  refine sj_z (fun j j0 j1 => ?_)
  unfold nlf
  rw [if_neg (fun x => ?_)]
  have := mq_nn ((hw j j0 j1).1 x.1).1
  omega
theorem nlk_nj {m : Int} (hw : vD d (-1) op Q w) : nlk d (-1) m Q w = nj Q w m := by
  unfold nlk nj
  refine sj_cg (fun j j0 j1 => ?_)
  unfold nlf njf
  by_cases hb : Q j = true
  · have h1 := ((hw j j0 j1).1 hb).1
    have e : mq d (-1) (w j) = w j := by
      unfold mq
      rw [if_pos (by omega)]
    rw [e]
  · rw [if_neg (fun x => hb x.1), if_neg (fun x => hb x.1)]
/-- THE LEAST TOTAL OF THE DESK IS THAT OF THE WAYS -/
theorem Tot_ways (hq : QK d db (-1) op) (hT : TR d db T) (hr : ∀ z, 0 ≤ z → z < 20 → 0 ≤ T z ∧ T z ≤ 15) {z : Int} (h : Tot d db (-1) op Q z) : LWp (vD d db op Q) T Q z := by
  obtain ⟨s, ho, g⟩ := h
  have hA : ∀ w, vD d db op Q w → s ≤ 8 * SW T Q w ∧ 0 ≤ SW T Q w ∧ SW T Q w ≤ 500 := by
    intro w hw
    obtain ⟨t, t1, t2⟩ := way_cols hq hT hw
    have h1 := ho.2 t t1
    rw [t2, nlk_0 hw] at h1
    have := SW_rng (P := Q) hr (vD_rng hq.1.1 hw)
    omega
  rcases g with ⟨g1, g2⟩ | ⟨g1, g2⟩
  · refine Or.inl ⟨g2, fun w hw => ?_⟩
    have := hA w hw
    omega
  · obtain ⟨⟨t, t1, t2⟩, -⟩ := ho
    obtain ⟨w, w1, w2⟩ := cols_way hq hT t1 (by omega)
    rw [nlk_0 w1] at w2
    have h1 := hA w w1
    refine Or.inr ⟨by omega, ⟨w, w1, by omega⟩, fun w' hw' => ?_⟩
    have := hA w' hw'
    omega
theorem Tot_of_ways (hq : QK d db (-1) op) (hT : TR d db T) (hr : ∀ z, 0 ≤ z → z < 20 → 0 ≤ T z ∧ T z ≤ 15) {z : Int} (h1 : ∃ w, vD d db op Q w ∧ SW T Q w = z) (h2 : ∀ w, vD d db op Q w → z ≤ SW T Q w) : Tot d db (-1) op Q z := by
  obtain ⟨w, w1, w2⟩ := h1
  have hz := SW_rng (P := Q) hr (vD_rng hq.1.1 w1)
  obtain ⟨t, t1, t2⟩ := way_cols hq hT w1
  rw [nlk_0 w1] at t2
  refine ⟨8 * z, ⟨⟨t, t1, by omega⟩, fun t' ht' => ?_⟩, Or.inr ⟨by omega, by omega⟩⟩
  by_cases c : sQ Q (kc (ql d db (-1)) op) t' < 100000
  · obtain ⟨w', a, b⟩ := cols_way hq hT ht' c
    rw [nlk_0 a] at b
    have := h2 w' a
    omega
  · omega
/-- the most jobs on a liked machine -/
theorem most_ways {m L s z : Int} (hq : QK d (-1) m op) (hT : TR d (-1) T) (hr : ∀ z, 0 ≤ z → z < 20 → 0 ≤ T z ∧ T z ≤ 15) (ho : Opt (cols (ql d (-1) m)) Q (kc (ql d (-1) m) op) s) (hL1 : ∃ w, vD d (-1) op Q w ∧ SW T Q w = L) (hL2 : ∀ w, vD d (-1) op Q w → L ≤ SW T Q w) (hz : z = (s + 7) / 8 * 8 - s) : (∃ w, vD d (-1) op Q w ∧ SW T Q w = L ∧ nj Q w m = z) ∧ ∀ w, vD d (-1) op Q w → SW T Q w = L → nj Q w m ≤ z := by
  have hA : ∀ w, vD d (-1) op Q w → s ≤ 8 * SW T Q w - nj Q w m ∧ 0 ≤ SW T Q w ∧ SW T Q w ≤ 500 := by
    intro w hw
    obtain ⟨t, t1, t2⟩ := way_cols hq hT hw
    have h1 := ho.2 t t1
    rw [t2, nlk_nj hw] at h1
    have := SW_rng (P := Q) hr (vD_rng hq.1.1 hw)
    omega
  obtain ⟨w1, a1, a2⟩ := hL1
  have h1 := hA w1 a1
  have n1 := nj_rng Q w1 m
  obtain ⟨⟨t, t1, t2⟩, -⟩ := ho
  obtain ⟨w0, b1, b2⟩ := cols_way hq hT t1 (by omega)
  rw [nlk_nj b1] at b2
  have h0 := hA w0 b1
  have n0 := nj_rng Q w0 m
  have l0 := hL2 w0 b1
  have e0 : SW T Q w0 = L := by omega
  refine ⟨⟨w0, b1, e0, by omega⟩, fun w hw he => ?_⟩
  have := hA w hw
  omega
end
end
section
/-! PLAIN: the model's ways by number; the first plan -/
section
def enc (w : Int → Int) : Int := 256 * w 0 + 64 * w 1 + 16 * w 2 + 4 * w 3 + w 4
def w4 (w : Int → Int) : Prop := ∀ j, 0 ≤ j → j < 5 → 0 ≤ w j ∧ w j < 4
variable {d : DS} {db : Int} {op : Int → Int → Bool} {P A : Int → Bool} {T w : Int → Int} {mj mm : Int}
theorem enc_rng (hw : w4 w) : 0 ≤ enc w ∧ enc w < 1024 := by
  have a0 := hw 0 (by decide) (by decide)
  have a1 := hw 1 (by decide) (by decide)
  have a2 := hw 2 (by decide) (by decide)
  have a3 := hw 3 (by decide) (by decide)
  have a4 := hw 4 (by decide) (by decide)
  unfold enc
  omega
theorem wy_0 (c : Int) : wy c 0 = c / 256 % 4 := rfl
theorem wy_1 (c : Int) : wy c 1 = c / 64 % 4 := rfl
theorem wy_2 (c : Int) : wy c 2 = c / 16 % 4 := rfl
theorem wy_3 (c : Int) : wy c 3 = c / 4 % 4 := rfl
theorem wy_4 (c : Int) : wy c 4 = c / 1 % 4 := rfl
theorem wy_enc (hw : w4 w) : ∀ j, 0 ≤ j → j < 5 → wy (enc w) j = w j := by
  intro j j0 j1
  have a0 := hw 0 (by decide) (by decide)
  have a1 := hw 1 (by decide) (by decide)
  have a2 := hw 2 (by decide) (by decide)
  have a3 := hw 3 (by decide) (by decide)
  have a4 := hw 4 (by decide) (by decide)
  have : j = 0 ∨ j = 1 ∨ j = 2 ∨ j = 3 ∨ j = 4 := by omega
  rcases this with e | e | e | e | e <;> subst e
  · rw [wy_0]
    unfold enc
    omega
  · rw [wy_1]
    unfold enc
    omega
  · rw [wy_2]
    unfold enc
    omega
  · rw [wy_3]
    unfold enc
    omega
  · rw [wy_4]
    unfold enc
    omega
/-- the numbers of the ways go by the dictionary -/
theorem enc_lex {c j : Int} (hc : 0 ≤ c ∧ c < 1024) (hw : w4 w) (j0 : 0 ≤ j) (j1 : j < 5) (hl : ∀ i, 0 ≤ i → i < j → w i = wy c i) (h : w j < wy c j) : enc w < c := by
  have a0 := hw 0 (by decide) (by decide)
  have a1 := hw 1 (by decide) (by decide)
  have a2 := hw 2 (by decide) (by decide)
  have a3 := hw 3 (by decide) (by decide)
  have a4 := hw 4 (by decide) (by decide)
  unfold enc
  have : j = 0 ∨ j = 1 ∨ j = 2 ∨ j = 3 ∨ j = 4 := by omega
  rcases this with e | e | e | e | e <;> subst e
  · rw [wy_0] at h
    omega
  · have b0 := hl 0 (by decide) (by decide)
    rw [wy_0] at b0
    rw [wy_1] at h
    omega
  · have b0 := hl 0 (by decide) (by decide)
    have b1 := hl 1 (by decide) (by decide)
    rw [wy_0] at b0
    rw [wy_1] at b1
    rw [wy_2] at h
    omega
  · have b0 := hl 0 (by decide) (by decide)
    have b1 := hl 1 (by decide) (by decide)
    have b2 := hl 2 (by decide) (by decide)
    rw [wy_0] at b0
    rw [wy_1] at b1
    rw [wy_2] at b2
    rw [wy_3] at h
    omega
  · have b0 := hl 0 (by decide) (by decide)
    have b1 := hl 1 (by decide) (by decide)
    have b2 := hl 2 (by decide) (by decide)
    have b3 := hl 3 (by decide) (by decide)
    rw [wy_0] at b0
    rw [wy_1] at b1
    rw [wy_2] at b2
    rw [wy_3] at b3
    rw [wy_4] at h
    omega
theorem vld_cg {w' : Int → Int} (h : ∀ j, 0 ≤ j → j < 5 → w' j = w j) (hv : vld T P A mj mm w) : vld T P A mj mm w' := by
  intro j j0 j1
  have := hv j j0 j1
  unfold okj canj at this ⊢
  rw [h j j0 j1]
  exact this
/-- the model's least total -/
theorem LW_p {z : Int} (h : LW T P A mj mm 1024 z) : LWp (fun w => w4 w ∧ vld T P A mj mm w) T P z := by
  have key : ∀ w, w4 w → vld T P A mj mm w → (0 ≤ enc w ∧ enc w < 1024) ∧ vld T P A mj mm (wy (enc w)) ∧ SW T P (wy (enc w)) = SW T P w := fun w a b => ⟨enc_rng a, vld_cg (wy_enc a) b, SW_cg (wy_enc a)⟩
  rcases h with ⟨a, b⟩ | ⟨a, ⟨i, i0, i1, i2, i3⟩, b⟩
  · refine Or.inl ⟨a, fun w hw => ?_⟩
    obtain ⟨k1, k2, k3⟩ := key w hw.1 hw.2
    exact b (enc w) k1.1 k1.2 k2
  · refine Or.inr ⟨a, ⟨wy i, ⟨fun j _ _ => wy_rng i j, i2⟩, i3⟩, fun w hw => ?_⟩
    obtain ⟨k1, k2, k3⟩ := key w hw.1 hw.2
    have := b (enc w) k1.1 k1.2 k2
    omega
theorem ab_iff {j m : Int} : ab d j m = true ↔ 0 ≤ m ∧ m < d 0 0 ∧ 0 < d 2 (j * 3 + m) := by
  unfold ab
  simp
theorem allM_iff {n m : Int} : allM n m = true ↔ 0 ≤ m ∧ m < n := by
  unfold allM
  simp
theorem all8_iff {n m : Int} : all8 n m = true ↔ (0 ≤ m ∧ m < n) ∨ m = 3 := by
  unfold all8 allM
  simp
theorem mq_lt {m : Int} (h : m < d 0 0) : mq d db m = m := by
  unfold mq
  rw [if_pos h]
theorem mq_ge {m : Int} (h : ¬ m < d 0 0) : mq d db m = db := by
  unfold mq
  rw [if_neg h]
/-- the model's ways are the desk's, if they are so job by job -/
theorem V_iff (hn : 1 ≤ d 0 0 ∧ d 0 0 ≤ 3) (h : ∀ j m, 0 ≤ j → j < 5 → P j = true → ((0 < T (4 * j + m) ∧ A m = true ∧ (j = mj → m = mm)) ↔ ((0 ≤ m ∧ (m < d 0 0 ∨ (m = 3 ∧ 0 ≤ db))) ∧ op j (mq d db m) = true))) (w : Int → Int) : (w4 w ∧ vld T P A mj mm w) ↔ vD d db op P w := by
  constructor
  · rintro ⟨hw, hv⟩ j j0 j1
    exact ⟨fun hj => (h j (w j) j0 j1 hj).mp ((hv j j0 j1).1 hj), (hv j j0 j1).2⟩
  · intro hv
    exact ⟨vD_rng hn hv, fun j j0 j1 => ⟨fun hj => (h j (w j) j0 j1 hj).mpr ((hv j j0 j1).1 hj), (hv j j0 j1).2⟩⟩
theorem V_plain (hn : 1 ≤ d 0 0 ∧ d 0 0 ≤ 3) (hT : TR d (-1) T) (w : Int → Int) : (w4 w ∧ vld T P (allM (d 0 0)) (-1) 0 w) ↔ vD d (-1) (ab d) P w := by
  refine V_iff hn (fun j m j0 j1 hj => ?_) w
  constructor
  · rintro ⟨a, b, c⟩
    have b := allM_iff.mp b
    have e := (hT j j0 j1).1 m b.1 b.2
    rw [mq_lt b.2]
    exact ⟨⟨b.1, Or.inl b.2⟩, ab_iff.mpr ⟨b.1, b.2, by omega⟩⟩
  · rintro ⟨⟨a, b⟩, c⟩
    have b : m < d 0 0 := by omega
    rw [mq_lt b] at c
    have c := ab_iff.mp c
    have e := (hT j j0 j1).1 m a b
    exact ⟨by omega, allM_iff.mpr ⟨a, b⟩, fun x => by omega⟩
theorem V_idle {m0 : Int} (hn : 1 ≤ d 0 0 ∧ d 0 0 ≤ 3) (hT : TR d (-1) T) (w : Int → Int) : (w4 w ∧ vld T P (fun i => allM (d 0 0) i && !decide (i = m0)) (-1) 0 w) ↔ vD d (-1) (fun i x => ab d i x && !decide (x = m0)) P w := by
  refine V_iff hn (fun j m j0 j1 hj => ?_) w
  constructor
  · rintro ⟨a, b, c⟩
    have b : allM (d 0 0) m = true ∧ ¬ m = m0 := by simpa using b
    have b1 := allM_iff.mp b.1
    have e := (hT j j0 j1).1 m b1.1 b1.2
    rw [mq_lt b1.2]
    refine ⟨⟨b1.1, Or.inl b1.2⟩, ?_⟩
    have h1 : ab d j m = true := ab_iff.mpr ⟨b1.1, b1.2, by omega⟩
    simp [h1, b.2]
  · rintro ⟨⟨a, b⟩, c⟩
    have b : m < d 0 0 := by omega
    rw [mq_lt b] at c
    have c : ab d j m = true ∧ ¬ m = m0 := by simpa using c
    have c1 := ab_iff.mp c.1
    have e := (hT j j0 j1).1 m a b
    have h1 : allM (d 0 0) m = true := allM_iff.mpr ⟨a, b⟩
    exact ⟨by omega, by simp [h1, c.2], fun x => by omega⟩
theorem V_dbl (hn : 1 ≤ d 0 0 ∧ d 0 0 ≤ 3) (hdb : 0 ≤ db ∧ db < d 0 0) (hT : TR d db T) (w : Int → Int) : (w4 w ∧ vld T P (all8 (d 0 0)) (-1) 0 w) ↔ vD d db (ab d) P w := by
  refine V_iff hn (fun j m j0 j1 hj => ?_) w
  by_cases hm : m < d 0 0
  · rw [mq_lt hm]
    constructor
    · rintro ⟨a, b, c⟩
      have b := all8_iff.mp b
      have e := (hT j j0 j1).1 m (by omega) hm
      exact ⟨⟨by omega, Or.inl hm⟩, ab_iff.mpr ⟨by omega, hm, by omega⟩⟩
    · rintro ⟨⟨a, b⟩, c⟩
      have c := ab_iff.mp c
      have e := (hT j j0 j1).1 m a hm
      exact ⟨by omega, all8_iff.mpr (Or.inl ⟨a, hm⟩), fun x => by omega⟩
  · rw [mq_ge hm]
    have e := (hT j j0 j1).2 hdb.1
    constructor
    · rintro ⟨a, b, c⟩
      have b := all8_iff.mp b
      have m3 : m = 3 := by omega
      subst m3
      exact ⟨⟨by omega, Or.inr ⟨rfl, hdb.1⟩⟩, ab_iff.mpr ⟨hdb.1, hdb.2, by omega⟩⟩
    · rintro ⟨⟨a, b⟩, c⟩
      have c := ab_iff.mp c
      have m3 : m = 3 := by omega
      subst m3
      exact ⟨by omega, all8_iff.mpr (Or.inr rfl), fun x => by omega⟩
theorem V_with {j0' m0 : Int} (hn : 1 ≤ d 0 0 ∧ d 0 0 ≤ 3) (hT : TR d (-1) T) (hp : 0 < d 2 (j0' * 3 + m0)) (w : Int → Int) : (w4 w ∧ vld T P (allM (d 0 0)) j0' m0 w) ↔ vD d (-1) (one (ab d) j0' m0) P w := by
  refine V_iff hn (fun j m j0 j1 hj => ?_) w
  constructor
  · rintro ⟨a, b, c⟩
    have b := allM_iff.mp b
    have e := (hT j j0 j1).1 m b.1 b.2
    rw [mq_lt b.2]
    refine ⟨⟨b.1, Or.inl b.2⟩, ?_⟩
    unfold one
    by_cases z : j = j0'
    · rw [if_pos z]
      simp [c z]
    · rw [if_neg z]
      exact ab_iff.mpr ⟨b.1, b.2, by omega⟩
  · rintro ⟨⟨a, b⟩, c⟩
    have b : m < d 0 0 := by omega
    rw [mq_lt b] at c
    have e := (hT j j0 j1).1 m a b
    unfold one at c
    by_cases z : j = j0'
    · rw [if_pos z] at c
      have c : m = m0 := by simpa using c
      subst z
      subst c
      exact ⟨by omega, allM_iff.mpr ⟨a, b⟩, fun _ => rfl⟩
    · rw [if_neg z] at c
      have c := ab_iff.mp c
      exact ⟨by omega, allM_iff.mpr ⟨a, b⟩, fun x => absurd x z⟩
set_option maxHeartbeats 1000000 in
/-- THE FIRST PLAN IS THE SAME -/
theorem plan_eq {bm : Int → Int} {LT z c : Int} (hd : DT d) (hm : hasM d P) (hT : TR d (-1) T) (hr : ∀ z, 0 ≤ z → z < 20 → 0 ≤ T z ∧ T z ≤ 15) (hL : LInv d P bm LT) (hW : LW T P (allM (d 0 0)) (-1) 0 1024 z) (hc : 0 ≤ c ∧ c < 1024) (hv : vld T P (allM (d 0 0)) (-1) 0 (wy c)) (hs : SW T P (wy c) = z) (hf : ∀ i, 0 ≤ i → i < c → vld T P (allM (d 0 0)) (-1) 0 (wy i) → ¬ SW T P (wy i) = z) : ∀ j, 0 ≤ j → j < 5 → P j = true → wy c j = bm j := by
  have hn := hd.1
  have hq := QK_ab hd (db := -1) (lk := -1) (by omega) (by omega)
  have hLT0 : 0 ≤ LT := Tot_plan hq hm hL.1
  have hV := V_plain (P := P) hn hT
  have hLw := Tot_ways hq hT hr hL.1
  have hzL : z = LT := LWp_uniq hV (LW_p hW) hLw
  have hvD : vD d (-1) (ab d) P (wy c) := (hV (wy c)).mp ⟨fun j _ _ => wy_rng c j, hv⟩
  have hmin : ∀ w, vD d (-1) (ab d) P w → LT ≤ SW T P w := by
    rcases hLw with ⟨a, -⟩ | ⟨-, -, b⟩
    · omega
    · exact b
  have hmqc : ∀ w, ∀ (op : Int → Int → Bool), vD d (-1) op P w → ∀ i, 0 ≤ i → i < 5 → P i = true → mq d (-1) (w i) = w i := by
    intro w op hw i i0 i1 hi
    have := ((hw i i0 i1).1 hi).1
    exact mq_lt (by omega)
  have key : ∀ k : Int, 0 ≤ k → k ≤ 5 → ∀ j, 0 ≤ j → j < k → P j = true → wy c j = bm j := by
    intro k hk
    refine int_ind (p := fun k => k ≤ 5 → ∀ j, 0 ≤ j → j < k → P j = true → wy c j = bm j) (fun _ j a b => by omega) (fun k k0 ih k5 j j0 j1 hj => ?_) hk
    by_cases e : j = k
    · subst e
      have ihj := ih (by omega)
      have j5 : j < 5 := by omega
      obtain ⟨f1, f2, f3, f4⟩ := hL.2 j j0 j5 hj
      have hwj := (hvD j j0 j5).1 hj
      have hab : ab d j (wy c j) = true := by
        have := hwj.2
        rw [hmqc _ _ hvD j j0 j5 hj] at this
        exact this
      have hqG : QK d (-1) (-1) (opG d P bm j) := by
        refine ⟨hd, by omega, by omega, fun i x i0 i1 x0 x1 hx => ?_⟩
        unfold opG at hx
        by_cases y : i < j ∧ P i = true
        · rw [if_pos y] at hx
          have hx : x = bm i := by simpa using hx
          have := ab_iff.mp (hL.2 i i0 i1 y.2).2.1
          rw [hx]
          exact this.2.2
        · rw [if_neg y] at hx
          exact (ab_iff.mp hx).2.2
      have hqm : ∀ m, ab d j m = true → QK d (-1) (-1) (one (opG d P bm j) j m) := fun m hm' => QK_one hqG (by rw [opG_self]; exact hm')
      have sub : ∀ m, ab d j m = true → ∀ w, vD d (-1) (one (opG d P bm j) j m) P w → vD d (-1) (ab d) P w := by
        intro m hm' w hw i i0 i1
        refine ⟨fun hi => ⟨((hw i i0 i1).1 hi).1, ?_⟩, (hw i i0 i1).2⟩
        have h := ((hw i i0 i1).1 hi).2
        unfold one at h
        by_cases y : i = j
        · rw [if_pos y] at h
          have h : mq d (-1) (w i) = m := by simpa using h
          rw [h, y]
          exact hm'
        · rw [if_neg y] at h
          unfold opG at h
          by_cases y2 : i < j ∧ P i = true
          · rw [if_pos y2] at h
            have h : mq d (-1) (w i) = bm i := by simpa using h
            rw [h]
            exact (hL.2 i i0 i1 y2.2).2.1
          · rw [if_neg y2] at h
            exact h
      by_cases h1 : wy c j < bm j
      · exfalso
        refine f4 (wy c j) hwj.1.1 h1 hab (Tot_of_ways (hqm _ hab) hT hr ⟨wy c, fun i i0 i1 => ⟨fun hi => ⟨((hvD i i0 i1).1 hi).1, ?_⟩, (hvD i i0 i1).2⟩, by rw [hs, hzL]⟩ (fun w hw => hmin w (sub _ hab w hw)))
        have h := ((hvD i i0 i1).1 hi).2
        rw [hmqc _ _ hvD i i0 i1 hi] at h ⊢
        unfold one
        by_cases y : i = j
        · rw [if_pos y, y]
          simp
        · rw [if_neg y]
          unfold opG
          by_cases y2 : i < j ∧ P i = true
          · rw [if_pos y2, ihj i i0 y2.1 y2.2]
            simp
          · rw [if_neg y2]
            exact h
      · by_cases h2 : bm j < wy c j
        · exfalso
          rcases Tot_ways (hqm _ f2) hT hr f3 with ⟨a, -⟩ | ⟨-, ⟨w', a, b⟩, -⟩
          · omega
          · have hw4 := vD_rng hn a
            have hv' := (hV w').mpr (sub _ f2 w' a)
            have hval : ∀ i, 0 ≤ i → i < 5 → i ≤ j → w' i = if P i then bm i else 0 := by
              intro i i0 i1 i2
              by_cases hi : P i = true
              · rw [if_pos hi]
                have h := ((a i i0 i1).1 hi).2
                rw [hmqc _ _ a i i0 i1 hi] at h
                unfold one at h
                by_cases y : i = j
                · rw [if_pos y] at h
                  have h : w' i = bm j := by simpa using h
                  rw [h, y]
                · rw [if_neg y] at h
                  unfold opG at h
                  rw [if_pos ⟨by omega, hi⟩] at h
                  simpa using h
              · rw [if_neg hi]
                exact (a i i0 i1).2 hi
            have hlex : enc w' < c := by
              refine enc_lex hc hw4 j0 j5 (fun i i0 i1 => ?_) ?_
              · rw [hval i i0 (by omega) (by omega)]
                by_cases hi : P i = true
                · rw [if_pos hi, ihj i i0 i1 hi]
                · rw [if_neg hi, (hvD i i0 (by omega)).2 hi]
              · rw [hval j j0 j5 (by omega), if_pos hj]
                exact h2
            refine hf (enc w') (enc_rng hw4).1 hlex (vld_cg (wy_enc hw4) hv'.2) ?_
            rw [SW_cg (wy_enc hw4), b, hzL]
        · omega
    · exact ih (by omega) j j0 (by omega) hj
  exact fun j j0 j1 hj => key 5 (by decide) (by decide) j j0 j1 hj
/-- the finish of a job in the first plan -/
theorem fin_eq {bm g : Int → Int} {j : Int} (hT : TR d (-1) T) (hb : ∀ i, 0 ≤ i → i < 5 → P i = true → g i = bm i ∧ 0 ≤ bm i ∧ bm i < d 0 0) (hj : 0 ≤ j ∧ j < 5 ∧ P j = true) : sj (fnD (d 2) P bm j) = finM T g P j := by
  obtain ⟨j0, j1, hpj⟩ := hj
  have hbj := hb j j0 j1 hpj
  have tj : T (4 * j + g j) = d 2 (j * 3 + bm j) := by
    rw [hbj.1]
    exact (hT j j0 j1).1 (bm j) hbj.2.1 hbj.2.2
  unfold finM
  have e : T (4 * j + g j) = sj (fun i => if i = j then T (4 * j + g j) else 0) := (sj_at j0 j1).symm
  rw [e, ← sj_add]
  refine sj_cg (fun i i0 i1 => ?_)
  by_cases hi : P i = true
  · have hbi := hb i i0 i1 hi
    have ti : T (4 * i + g i) = d 2 (i * 3 + bm i) := by
      rw [hbi.1]
      exact (hT i i0 i1).1 (bm i) hbi.2.1 hbi.2.2
    unfold fnD fnM
    by_cases y : i = j
    · subst y
      rw [if_pos ⟨hi, rfl, Or.inr ⟨rfl, Int.le_refl i⟩⟩, if_pos rfl, if_neg (fun x => x.2.1 rfl), tj]
      omega
    · rw [if_neg y, ti, tj, hbi.1, hbj.1]
      by_cases m : bm i = bm j
      · rw [m]
        by_cases c : d 2 (i * 3 + bm j) < d 2 (j * 3 + bm j) ∨ (d 2 (i * 3 + bm j) = d 2 (j * 3 + bm j) ∧ i < j)
        · rw [if_pos ⟨hi, rfl, by omega⟩, if_pos ⟨hi, y, rfl, c⟩]
          omega
        · rw [if_neg (fun x => c (by have := x.2.2; omega)), if_neg (fun x => c x.2.2.2)]
          rfl
      · rw [if_neg (fun x => m x.2.1), if_neg (fun x => m x.2.2.1)]
        rfl
  · have y : ¬ i = j := fun y => hi (by rw [y]; exact hpj)
    unfold fnD fnM
    rw [if_neg (fun x => hi x.1), if_neg y, if_neg (fun x => hi x.1)]
    rfl
end
end
section
/-! PLAIN: desk and model side by side: the same answers, the relation is kept -/
section
variable {d e f g : DS} {P : Int → Bool}
theorem Tot_dcg {db lk z : Int} {op : Int → Int → Bool} {Q : Int → Bool} (h0 : e 0 = d 0) (h2 : e 2 = d 2) : Tot e db lk op Q z ↔ Tot d db lk op Q z := by
  obtain ⟨a, b⟩ := kc_ql (d := d) (e := ql e db lk) (db := db) (lk := lk) (op := op) (by rw [ql_0, h0]) (by rw [ql_2, h2]) ql_4 ql_5
  unfold Tot
  rw [a, b]
theorem ab_dcg (h0 : e 0 = d 0) (h2 : e 2 = d 2) : ab e = ab d := by
  funext i
  unfold ab
  rw [h0, h2]
theorem LInv_cg {bm : Int → Int} {LT : Int} (h0 : e 0 = d 0) (h2 : e 2 = d 2) (h : LInv d P bm LT) : LInv e P bm LT := by
  have hab := ab_dcg h0 h2
  have hop : ∀ j, opG e P bm j = opG d P bm j := by
    intro j
    funext i
    unfold opG
    rw [hab]
  obtain ⟨a, b⟩ := h
  refine ⟨(Tot_dcg h0 h2).mpr (by rw [hab]; exact a), fun j j0 j1 hj => ?_⟩
  obtain ⟨f1, f2, f3, f4⟩ := b j j0 j1 hj
  exact ⟨by rw [h0]; exact f1, by rw [hab]; exact f2, (Tot_dcg h0 h2).mpr (by rw [hop]; exact f3), fun m m0 m1 m2 hc => f4 m m0 m1 (by rw [← hab]; exact m2) (by rw [← hop]; exact (Tot_dcg h0 h2).mp hc)⟩
theorem DT_cg (h0 : e 0 = d 0) (h2 : e 2 = d 2) (h : DT d) : DT e := by
  unfold DT
  rw [h0, h2]
  exact h
theorem DK_cg (h0 : e 0 = d 0) (h1 : e 1 = d 1) (h2 : e 2 = d 2) (hk : e 15 0 = 0 ∨ (e 15 0 = 1 ∧ LInv d P (e 17) (e 16 0))) (hK : DK d P) : DK e P := by
  obtain ⟨a, b, c, -⟩ := hK
  refine ⟨DT_cg h0 h2 a, by rw [h1]; exact b, ?_, ?_⟩
  · intro j j0 j1 hj
    rw [h0, ab_dcg h0 h2]
    exact c j j0 j1 hj
  · rcases hk with k | ⟨k, k2⟩
    · exact Or.inl k
    · exact Or.inr ⟨k, LInv_cg h0 h2 k2⟩
theorem DK_kq (h : kq d e) (hK : DK d P) : DK e P := by
  refine DK_cg (h 0 (by decide)) (h 1 (by decide)) (h 2 (by decide)) ?_ hK
  rw [h 15 (by decide), h 16 (by decide), h 17 (by decide)]
  exact hK.2.2.2
theorem DK_LPd (h : LPd d P e) (hK : DK d P) : DK e P := DK_cg (h.1 0 (by decide)) (h.1 1 (by decide)) (h.1 2 (by decide)) (Or.inr h.2) hK
/-- DESK AND MODEL HOLD THE SAME -/
def Rl (d f : DS) (P : Int → Bool) : Prop := DK d P ∧ MT f P ∧ f 0 0 = d 0 0 ∧ (∀ j m, 0 ≤ j → j < 5 → 0 ≤ m → m < 3 → f 2 (4 * j + m) = d 2 (j * 3 + m)) ∧ ∀ j m, 0 ≤ j → j < 5 → d 0 0 ≤ m → m < 3 → d 2 (j * 3 + m) = 0
theorem Rl.dd (hR : Rl d f P) (h0 : e 0 = d 0) (h2 : e 2 = d 2) (hK : DK e P) : Rl e f P := by
  obtain ⟨-, r2, r3, r4, r5⟩ := hR
  exact ⟨hK, r2, by rw [h0]; exact r3, by rw [h2]; exact r4, by rw [h0, h2]; exact r5⟩
theorem Rl.ff (hR : Rl d f P) (hk : km f g) : Rl d g P := by
  obtain ⟨r1, r2, r3, r4, r5⟩ := hR
  obtain ⟨k0, k1, k2, k3⟩ := hk
  refine ⟨r1, ⟨by rw [k0]; exact r2.1, by rw [k1]; exact r2.2.1, k3⟩, by rw [k0]; exact r3, fun j m j0 j1 m0 m1 => ?_, r5⟩
  rw [k2 (4 * j + m) (by omega)]
  exact r4 j m j0 j1 m0 m1
theorem Rl.kq (hR : Rl d f P) (h : kq d e) : Rl e f P := hR.dd (h 0 (by decide)) (h 2 (by decide)) (DK_kq h hR.1)
theorem Rl.lp (hR : Rl d f P) (h : LPd d P e) : Rl e f P := hR.dd (h.1 0 (by decide)) (h.1 2 (by decide)) (DK_LPd h hR.1)
theorem Rl.tr (hR : Rl d f P) : TR d (-1) (f 2) := by
  intro j j0 j1
  have hn := hR.1.1.1
  exact ⟨fun m m0 m1 => hR.2.2.2.1 j m j0 j1 m0 (by omega), fun h => by omega⟩
theorem e_least {z z' : Int} (hR : Rl d f P) (h : LPd d P e ∧ z = e 16 0) (h' : LO f P (allM (f 0 0)) (-1) 0 z' g) : z = z' ∧ Rl e g P := by
  obtain ⟨a, b⟩ := h
  have hn := hR.1.1.1
  have hq := QK_ab hR.1.1 (db := -1) (lk := -1) (by omega) (by omega)
  refine ⟨?_, (hR.lp a).ff (km_of hR.2.1 h'.1)⟩
  have h1 := Tot_ways hq hR.tr hR.2.1.2.2 a.2.2.1
  have h2 := LW_p h'.2.2.2.2.2
  rw [hR.2.2.1] at h2
  rw [b]
  exact LWp_uniq (fun w => (V_plain hn hR.tr w).symm) h1 h2
/-- the plan that the model has written is the desk's -/
theorem e_plan {bm : Int → Int} {LT : Int} (hR : Rl d f P) (hL : LInv d P bm LT) (hP : PL f P g) : ∀ j, 0 ≤ j → j < 5 → P j = true → g 3 j = bm j := by
  obtain ⟨p1, p2, z, p3, p4⟩ := hP
  have hn := hR.1.1.1
  have hq := QK_ab hR.1.1 (db := -1) (lk := -1) (by omega) (by omega)
  have hL0 := Tot_plan hq hR.1.2.2.1 hL.1
  have hLw := Tot_ways hq hR.tr hR.2.1.2.2 hL.1
  rw [hR.2.2.1] at p3 p4
  have hz := LWp_uniq (fun w => V_plain hn hR.tr w) (LW_p p3) hLw
  rcases p4 with ⟨c, c1, c2, c3, c4, c5⟩ | c
  · intro j j0 j1 hj
    rw [c5 j j0 j1]
    exact plan_eq hR.1.1 hR.1.2.2.1 hR.tr hR.2.1.2.2 hL p3 c1 c2 c3 c4 j j0 j1 hj
  · exfalso
    rcases p3 with ⟨a, -⟩ | ⟨-, ⟨i, i0, i1, i2, i3⟩, -⟩
    · omega
    · exact c i i0 i1 i2 i3
theorem DK_learn (hK : DK d P) (h : d 15 0 = 1) : LInv d P (d 17) (d 16 0) := by
  rcases hK.2.2.2 with a | a
  · omega
  · exact a.2
theorem PL_km (hM : MT f P) (h : PL f P g) : km f g := km_of hM h.1
theorem e_machineOf {j z z' : Int} (hR : Rl d f P) (h : (¬ (0 ≤ j ∧ j < 5 ∧ P j = true) ∧ z = -1 ∧ e = d) ∨ ((0 ≤ j ∧ j < 5 ∧ P j = true) ∧ LPd d P e ∧ z = e 17 j)) (h' : PL f P g ∧ ((¬ (0 ≤ j ∧ j < 5 ∧ P j = true) ∧ z' = -1) ∨ ((0 ≤ j ∧ j < 5 ∧ P j = true) ∧ z' = g 3 j))) : z = z' ∧ Rl e g P := by
  obtain ⟨hp, h'⟩ := h'
  rcases h with ⟨a, b, c⟩ | ⟨a, b, c⟩
  · rcases h' with ⟨a', b'⟩ | ⟨a', b'⟩
    · exact ⟨by omega, by rw [c]; exact hR.ff (PL_km hR.2.1 hp)⟩
    · exact absurd a' a
  · rcases h' with ⟨a', b'⟩ | ⟨a', b'⟩
    · exact absurd a a'
    · refine ⟨?_, (hR.lp b).ff (PL_km hR.2.1 hp)⟩
      rw [c, b', e_plan hR b.2.2 hp j a.1 a.2.1 a.2.2]
theorem e_finishOf {j z z' : Int} (hR : Rl d f P) (h : (¬ (0 ≤ j ∧ j < 5 ∧ P j = true) ∧ z = -1 ∧ e = d) ∨ ((0 ≤ j ∧ j < 5 ∧ P j = true) ∧ LPd d P e ∧ z = sj (fnD (d 2) P (e 17) j))) (h' : PL f P g ∧ ((¬ (0 ≤ j ∧ j < 5 ∧ P j = true) ∧ z' = -1) ∨ ((0 ≤ j ∧ j < 5 ∧ P j = true) ∧ z' = finM (f 2) (g 3) P j))) : z = z' ∧ Rl e g P := by
  obtain ⟨hp, h'⟩ := h'
  rcases h with ⟨a, b, c⟩ | ⟨a, b, c⟩
  · rcases h' with ⟨a', b'⟩ | ⟨a', b'⟩
    · exact ⟨by omega, by rw [c]; exact hR.ff (PL_km hR.2.1 hp)⟩
    · exact absurd a' a
  · rcases h' with ⟨a', b'⟩ | ⟨a', b'⟩
    · exact absurd a a'
    · refine ⟨?_, (hR.lp b).ff (PL_km hR.2.1 hp)⟩
      rw [c, b']
      exact fin_eq hR.tr (fun i i0 i1 hi => ⟨e_plan hR b.2.2 hp i i0 i1 hi, (b.2.2.2 i i0 i1 hi).1⟩) a
theorem e_leastWith {j m z z' : Int} (hR : Rl d f P) (h : kq d e ∧ ((¬ ((0 ≤ j ∧ j < 5 ∧ P j = true) ∧ (0 ≤ m ∧ m < d 0 0) ∧ ¬ d 2 (j * 3 + m) = 0) ∧ z = -1) ∨ ((0 ≤ j ∧ j < 5 ∧ P j = true) ∧ (0 ≤ m ∧ m < d 0 0) ∧ ¬ d 2 (j * 3 + m) = 0 ∧ Tot d (-1) (-1) (one (ab d) j m) P z))) (h' : km f g ∧ ((¬ ((0 ≤ j ∧ j < 5 ∧ P j = true) ∧ (0 ≤ m ∧ m < f 0 0)) ∧ z' = -1) ∨ (((0 ≤ j ∧ j < 5 ∧ P j = true) ∧ (0 ≤ m ∧ m < f 0 0)) ∧ LW (f 2) P (allM (f 0 0)) j m 1024 z'))) : z = z' ∧ Rl e g P := by
  obtain ⟨hk, h⟩ := h
  obtain ⟨hk', h'⟩ := h'
  refine ⟨?_, (hR.kq hk).ff hk'⟩
  rw [hR.2.2.1] at h'
  have hn := hR.1.1.1
  rcases h with ⟨a, b⟩ | ⟨a1, a2, a3, b⟩
  · rcases h' with ⟨a', b'⟩ | ⟨a', b'⟩
    · omega
    · have hz : d 2 (j * 3 + m) = 0 := by
        by_cases c : d 2 (j * 3 + m) = 0
        · exact c
        · exact absurd ⟨a'.1, a'.2, c⟩ a
      rcases b' with ⟨c, -⟩ | ⟨-, ⟨i, i0, i1, i2, i3⟩, -⟩
      · omega
      · exfalso
        have hv := (i2 j a'.1.1 a'.1.2.1).1 a'.1.2.2
        have hm := hv.2.2 rfl
        have ht := hv.1
        rw [hm, hR.2.2.2.1 j m a'.1.1 a'.1.2.1 a'.2.1 (by omega)] at ht
        omega
  · rcases h' with ⟨a', b'⟩ | ⟨a', b'⟩
    · exact absurd ⟨a1, a2⟩ a'
    · have hpos : 0 < d 2 (j * 3 + m) := by
        have := hR.1.1.2 (j * 3 + m) (by omega) (by omega)
        omega
      have hq := QK_one (QK_ab hR.1.1 (db := -1) (lk := -1) (by omega) (by omega)) (j := j) (m := m) (ab_iff.mpr ⟨a2.1, a2.2, hpos⟩)
      exact LWp_uniq (fun w => (V_with hn hR.tr hpos w).symm) (Tot_ways hq hR.tr hR.2.1.2.2 b) (LW_p b')
theorem e_leastWithout {j z z' : Int} (hR : Rl d f P) (h : kq d e ∧ ((¬ (0 ≤ j ∧ j < 5 ∧ P j = true) ∧ z = -1) ∨ ((0 ≤ j ∧ j < 5 ∧ P j = true) ∧ Tot d (-1) (-1) (ab d) (fun i => P i && !decide (i = j)) z))) (h' : km f g ∧ ((¬ (0 ≤ j ∧ j < 5 ∧ P j = true) ∧ z' = -1) ∨ ((0 ≤ j ∧ j < 5 ∧ P j = true) ∧ LW (f 2) (fun i => P i && !decide (i = j)) (allM (f 0 0)) (-1) 0 1024 z'))) : z = z' ∧ Rl e g P := by
  obtain ⟨hk, h⟩ := h
  obtain ⟨hk', h'⟩ := h'
  refine ⟨?_, (hR.kq hk).ff hk'⟩
  rw [hR.2.2.1] at h'
  have hn := hR.1.1.1
  rcases h with ⟨a, b⟩ | ⟨a, b⟩
  · rcases h' with ⟨a', b'⟩ | ⟨a', b'⟩
    · omega
    · exact absurd a' a
  · rcases h' with ⟨a', b'⟩ | ⟨a', b'⟩
    · exact absurd a a'
    · have hq := QK_ab hR.1.1 (db := -1) (lk := -1) (by omega) (by omega)
      exact LWp_uniq (fun w => (V_plain hn hR.tr w).symm) (Tot_ways hq hR.tr hR.2.1.2.2 b) (LW_p b')
theorem e_leastIdle {m z z' : Int} (hR : Rl d f P) (h : kq d e ∧ ((¬ (0 ≤ m ∧ m < d 0 0) ∧ z = -1) ∨ ((0 ≤ m ∧ m < d 0 0) ∧ Tot d (-1) (-1) (fun i x => ab d i x && !decide (x = m)) P z))) (h' : km f g ∧ ((¬ (0 ≤ m ∧ m < f 0 0) ∧ z' = -1) ∨ ((0 ≤ m ∧ m < f 0 0) ∧ LW (f 2) P (fun i => allM (f 0 0) i && !decide (i = m)) (-1) 0 1024 z'))) : z = z' ∧ Rl e g P := by
  obtain ⟨hk, h⟩ := h
  obtain ⟨hk', h'⟩ := h'
  refine ⟨?_, (hR.kq hk).ff hk'⟩
  rw [hR.2.2.1] at h'
  have hn := hR.1.1.1
  rcases h with ⟨a, b⟩ | ⟨a, b⟩
  · rcases h' with ⟨a', b'⟩ | ⟨a', b'⟩
    · omega
    · exact absurd a' a
  · rcases h' with ⟨a', b'⟩ | ⟨a', b'⟩
    · exact absurd a a'
    · have hq : QK d (-1) (-1) (fun i x => ab d i x && !decide (x = m)) := by
        obtain ⟨f1, f2, f3, f4⟩ := QK_ab hR.1.1 (db := -1) (lk := -1) (by omega) (by omega)
        refine ⟨f1, f2, f3, fun j x j0 j1 x0 x1 hx => f4 j x j0 j1 x0 x1 ?_⟩
        simp at hx
        exact hx.1
      exact LWp_uniq (fun w => (V_idle hn hR.tr w).symm) (Tot_ways hq hR.tr hR.2.1.2.2 b) (LW_p b')
theorem e_leastDoubled {m z z' : Int} (hR : Rl d f P) (h : kq d e ∧ ((¬ (0 ≤ m ∧ m < d 0 0) ∧ z = -1) ∨ ((0 ≤ m ∧ m < d 0 0) ∧ Tot d m (-1) (ab d) P z))) (h' : km f g ∧ ((¬ (0 ≤ m ∧ m < f 0 0) ∧ z' = -1) ∨ ((0 ≤ m ∧ m < f 0 0) ∧ (∀ i, 0 ≤ i → i < 5 → g 2 (4 * i + 3) = f 2 (4 * i + m)) ∧ LW (g 2) P (all8 (f 0 0)) (-1) 0 1024 z'))) : z = z' ∧ Rl e g P := by
  obtain ⟨hk, h⟩ := h
  obtain ⟨hk', h'⟩ := h'
  refine ⟨?_, (hR.kq hk).ff hk'⟩
  rw [hR.2.2.1] at h'
  have hn := hR.1.1.1
  rcases h with ⟨a, b⟩ | ⟨a, b⟩
  · rcases h' with ⟨a', b'⟩ | ⟨a', b'⟩
    · omega
    · exact absurd a' a
  · rcases h' with ⟨a', b'⟩ | ⟨a', b', c'⟩
    · exact absurd a a'
    · have hq := QK_ab hR.1.1 (db := m) (lk := -1) (by omega) (by omega)
      have hT : TR d m (g 2) := by
        intro j j0 j1
        refine ⟨fun x x0 x1 => ?_, fun _ => ?_⟩
        · rw [hk'.2.2.1 (4 * j + x) (by omega)]
          exact hR.2.2.2.1 j x j0 j1 x0 (by omega)
        · rw [b' j j0 j1]
          exact hR.2.2.2.1 j m j0 j1 a.1 (by omega)
      exact LWp_uniq (fun w => (V_dbl hn a hT w).symm) (Tot_ways hq hT hk'.2.2.2 b) (LW_p c')
theorem e_mostJobs {m z z' : Int} (hR : Rl d f P) (h : kq d e ∧ ((¬ (0 ≤ m ∧ m < d 0 0) ∧ z = -1) ∨ ((0 ≤ m ∧ m < d 0 0) ∧ ∃ s, Opt (cols (ql d (-1) m)) P (kc (ql d (-1) m) (ab d)) s ∧ z = (s + 7) / 8 * 8 - s))) (h' : km f g ∧ ((¬ (0 ≤ m ∧ m < f 0 0) ∧ z' = -1) ∨ ((0 ≤ m ∧ m < f 0 0) ∧ ∃ L, LW (f 2) P (allM (f 0 0)) (-1) 0 1024 L ∧ MJ (f 2) P (allM (f 0 0)) L m 1024 z'))) : z = z' ∧ Rl e g P := by
  obtain ⟨hk, h⟩ := h
  obtain ⟨hk', h'⟩ := h'
  refine ⟨?_, (hR.kq hk).ff hk'⟩
  rw [hR.2.2.1] at h'
  have hn := hR.1.1.1
  rcases h with ⟨a, b⟩ | ⟨a, s, b, b2⟩
  · rcases h' with ⟨a', b'⟩ | ⟨a', b'⟩
    · omega
    · exact absurd a' a
  · rcases h' with ⟨a', b'⟩ | ⟨a', L, b', c'⟩
    · exact absurd a a'
    · have hq := QK_ab hR.1.1 (db := -1) (lk := m) (by omega) (by omega)
      have hV := V_plain (P := P) hn hR.tr
      have hw : ∃ w, vD d (-1) (ab d) P w := by
        have hch : ∀ j, ∃ x, (0 ≤ j → j < 5 → (P j = true → (0 ≤ x ∧ x < d 0 0) ∧ ab d j x = true) ∧ (¬ P j = true → x = 0)) := by
          intro j
          by_cases c : 0 ≤ j ∧ j < 5 ∧ P j = true
          · obtain ⟨x, x0, x1, x2⟩ := hR.1.2.2.1 j c.1 c.2.1 c.2.2
            exact ⟨x, fun _ _ => ⟨fun _ => ⟨⟨x0, x1⟩, x2⟩, fun y => absurd c.2.2 y⟩⟩
          · exact ⟨0, fun j0 j1 => ⟨fun y => absurd ⟨j0, j1, y⟩ c, fun _ => rfl⟩⟩
        refine ⟨fun j => Classical.choose (hch j), fun j j0 j1 => ?_⟩
        have hs := Classical.choose_spec (hch j) j0 j1
        refine ⟨fun hj => ?_, hs.2⟩
        have h1 := hs.1 hj
        refine ⟨⟨h1.1.1, Or.inl h1.1.2⟩, ?_⟩
        rw [mq_lt h1.1.2]
        exact h1.2
      obtain ⟨w0, hw0⟩ := hw
      have hLp := LW_p b'
      have hL : (∃ w, vD d (-1) (ab d) P w ∧ SW (f 2) P w = L) ∧ ∀ w, vD d (-1) (ab d) P w → L ≤ SW (f 2) P w := by
        rcases hLp with ⟨-, c⟩ | ⟨-, ⟨w, c1, c2⟩, c3⟩
        · exact absurd ((hV w0).mpr hw0) (c w0)
        · exact ⟨⟨w, (hV w).mp c1, c2⟩, fun w hw => c3 w ((hV w).mpr hw)⟩
      obtain ⟨⟨w1, u1, u2, u3⟩, u4⟩ := most_ways hq hR.tr hR.2.1.2.2 b hL.1 hL.2 b2
      obtain ⟨c0, c1, c2⟩ := c'
      have hw1 := (hV w1).mpr u1
      have k1 := c2 (enc w1) (enc_rng hw1.1).1 (enc_rng hw1.1).2 (vld_cg (wy_enc hw1.1) hw1.2) (by rw [SW_cg (wy_enc hw1.1)]; exact u2)
      rw [nj_cg (wy_enc hw1.1), u3] at k1
      rcases c1 with c1 | ⟨i, i0, i1, i2, i3, i4⟩
      · have := nj_rng P w1 m
        omega
      · have := u4 (wy i) ((hV (wy i)).mp ⟨fun j _ _ => wy_rng i j, i2⟩) i3
        omega
theorem e_jobs {z z' : Int} (hR : Rl d f P) (h : z = d 1 0) (h' : z' = ms P) : z = z' := by
  rw [h, h', hR.1.2.1]
theorem e_time {j m z z' : Int} (hR : Rl d f P) (h : (0 ≤ j ∧ j < 5 ∧ P j = true) ∧ (0 ≤ m ∧ m < d 0 0) ∧ z = d 2 (j * 3 + m) ∨ ¬ ((0 ≤ j ∧ j < 5 ∧ P j = true) ∧ (0 ≤ m ∧ m < d 0 0)) ∧ z = -1) (h' : (0 ≤ j ∧ j < 5 ∧ P j = true) ∧ (0 ≤ m ∧ m < f 0 0) ∧ z' = f 2 (4 * j + m) ∨ ¬ ((0 ≤ j ∧ j < 5 ∧ P j = true) ∧ (0 ≤ m ∧ m < f 0 0)) ∧ z' = -1) : z = z' := by
  have hn := hR.1.1.1
  rw [hR.2.2.1] at h'
  rcases h with ⟨a, b, c⟩ | ⟨a, b⟩
  · rcases h' with ⟨a', b', c'⟩ | ⟨a', b'⟩
    · rw [c, c', hR.2.2.2.1 j m a.1 a.2.1 b.1 (by omega)]
    · exact absurd ⟨a, b⟩ a'
  · rcases h' with ⟨a', b', c'⟩ | ⟨a', b'⟩
    · exact absurd ⟨a', b'⟩ a
    · omega
theorem e_remove {j z z' : Int} (hR : Rl d f P) (h : (¬ (0 ≤ j ∧ j < 5 ∧ P j = true) ∧ z = 0 ∧ e = d) ∨ ((0 ≤ j ∧ j < 5 ∧ P j = true) ∧ z = 1 ∧ e = st1 (st1 d 1 0 (ms (fun i => P i && !decide (i = j)))) 15 0 0)) (h' : (¬ (0 ≤ j ∧ j < 5 ∧ P j = true) ∧ z' = 0 ∧ g = f) ∨ ((0 ≤ j ∧ j < 5 ∧ P j = true) ∧ z' = 1 ∧ g = st1 f 1 j 0)) : z = z' ∧ ∃ P', Rl e g P' := by
  rcases h with ⟨a, b, c⟩ | ⟨a, b, c⟩
  · rcases h' with ⟨a', b', c'⟩ | ⟨a', b', c'⟩
    · exact ⟨by omega, P, by rw [c, c']; exact hR⟩
    · exact absurd a' a
  · rcases h' with ⟨a', b', c'⟩ | ⟨a', b', c'⟩
    · exact absurd a a'
    · refine ⟨by omega, fun i => P i && !decide (i = j), ?_⟩
      obtain ⟨⟨r1, r1b, r1c, r1d⟩, r2, r3, r4, r5⟩ := hR
      have e0 : e 0 = d 0 := by rw [c, st1_ne (by decide), st1_ne (by decide)]
      have e2 : e 2 = d 2 := by rw [c, st1_ne (by decide), st1_ne (by decide)]
      have g0 : g 0 = f 0 := by rw [c', st1_ne (by decide)]
      have g2 : g 2 = f 2 := by rw [c', st1_ne (by decide)]
      refine ⟨⟨DT_cg e0 e2 r1, by rw [c, st1_ne (by decide), st1_eq], fun i i0 i1 hi => ?_, Or.inl (by rw [c, st1_eq])⟩, ⟨by rw [g0]; exact r2.1, fun i i0 i1 => ?_, by rw [g2]; exact r2.2.2⟩, by rw [e0, g0]; exact r3, by rw [e2, g2]; exact r4, by rw [e0, e2]; exact r5⟩
      · have hi : P i = true ∧ ¬ i = j := by simpa using hi
        rw [e0, ab_dcg e0 e2]
        exact r1c i i0 i1 hi.1
      · rw [c', st1_at]
        by_cases y : i = j
        · rw [if_pos y]
          simp [y]
        · rw [if_neg y, r2.2.1 i i0 i1]
          simp [y]
theorem e_add {a b c z z' : Int} (hR : Rl d f P) (h : ∃ y x : Int, y = (if 1 < d 0 0 then b else 0) ∧ x = (if 2 < d 0 0 then c else 0) ∧ ((¬ gd a y x ∧ z = -1 ∧ e = d) ∨ (gd a y x ∧ (∀ j, 0 ≤ j → j < 5 → P j = true) ∧ z = -2 ∧ e = d) ∨ (gd a y x ∧ ∃ j, 0 ≤ j ∧ j < 5 ∧ P j = false ∧ (∀ i, 0 ≤ i → i < j → P i = true) ∧ z = j ∧ e = addTo d P j a y x))) (h' : ∃ y x : Int, y = (if 1 < f 0 0 then b else 0) ∧ x = (if 2 < f 0 0 then c else 0) ∧ ((¬ gd a y x ∧ z' = -1 ∧ g = f) ∨ (gd a y x ∧ (∀ j, 0 ≤ j → j < 5 → P j = true) ∧ z' = -2 ∧ g = f) ∨ (gd a y x ∧ ∃ j, 0 ≤ j ∧ j < 5 ∧ P j = false ∧ (∀ i, 0 ≤ i → i < j → P i = true) ∧ z' = j ∧ g = addM f j a y x))) : z = z' ∧ ∃ P', Rl e g P' := by
  rw [hR.2.2.1] at h'
  obtain ⟨y, x, hy, hx, h⟩ := h
  obtain ⟨y', x', hy', hx', h'⟩ := h'
  have ey : y' = y := by rw [hy, hy']
  have ex : x' = x := by rw [hx, hx']
  subst ey
  subst ex
  have no : ∀ {p : Prop} (j : Int), 0 ≤ j → j < 5 → P j = false → (∀ i, 0 ≤ i → i < 5 → P i = true) → p := by
    intro p j j0 j1 h1 h2
    rw [h2 j j0 j1] at h1
    exact absurd h1 (by decide)
  rcases h with ⟨h1, h2, h3⟩ | ⟨h1, h2, h3, h4⟩ | ⟨h1, j, j0, j1, h2, h3, h4, h5⟩
  · rcases h' with ⟨k1, k2, k3⟩ | ⟨k1, k2, k3, k4⟩ | ⟨k1, k⟩
    · exact ⟨by omega, P, by rw [h3, k3]; exact hR⟩
    · exact absurd k1 h1
    · exact absurd k1 h1
  · rcases h' with ⟨k1, k2, k3⟩ | ⟨k1, k2, k3, k4⟩ | ⟨k1, k, k0, k1', k2, k3, k4, k5⟩
    · exact absurd h1 k1
    · exact ⟨by omega, P, by rw [h4, k4]; exact hR⟩
    · exact no k k0 k1' k2 h2
  · rcases h' with ⟨k1, k2, k3⟩ | ⟨k1, k2, k3, k4⟩ | ⟨k1, k, k0, k1', k2, k3, k4, k5⟩
    · exact absurd h1 k1
    · exact no j j0 j1 h2 k2
    · have hjk : k = j := by
        by_cases c1 : k < j
        · have := h3 k k0 c1
          rw [this] at k2
          exact absurd k2 (by decide)
        · by_cases c2 : j < k
          · have := k3 j j0 c2
            rw [this] at h2
            exact absurd h2 (by decide)
          · omega
      subst hjk
      refine ⟨by omega, fun i => P i || decide (i = k), ?_⟩
      obtain ⟨⟨r1, r1b, r1c, r1d⟩, r2, r3, r4, r5⟩ := hR
      have hn := r1.1
      unfold addTo at h5
      unfold addM at k5
      obtain ⟨ga, gy, gx, gn⟩ := h1
      have e0 : e 0 = d 0 := by rw [h5, st1_ne (by decide), st1_ne (by decide), st1_ne (by decide), st1_ne (by decide), st1_ne (by decide)]
      have e1 : e 1 0 = ms (fun i => P i || decide (i = k)) := by rw [h5, st1_ne (by decide), st1_ne (by decide), st1_ne (by decide), st1_ne (by decide), st1_eq]
      have e15 : e 15 0 = 0 := by rw [h5, st1_eq]
      have e2 : ∀ v, e 2 v = if v = k * 3 + 2 then x' else if v = k * 3 + 1 then y' else if v = k * 3 then a else d 2 v := by
        intro v
        rw [h5, st1_ne (by decide), st1_at, st1_at, st1_at, st1_ne (by decide)]
      have g0 : g 0 = f 0 := by rw [k5, st1_ne (by decide), st1_ne (by decide), st1_ne (by decide), st1_ne (by decide)]
      have g1 : ∀ v, g 1 v = if v = k then 1 else f 1 v := by
        intro v
        rw [k5, st1_ne (by decide), st1_ne (by decide), st1_ne (by decide), st1_at]
      have g2 : ∀ v, g 2 v = if v = 4 * k + 2 then x' else if v = 4 * k + 1 then y' else if v = 4 * k then a else f 2 v := by
        intro v
        rw [k5, st1_at, st1_at, st1_at, st1_ne (by decide)]
      have e00 : e 0 0 = d 0 0 := by rw [e0]
      have ej0 : e 2 (k * 3) = a := by rw [e2, if_neg (by omega), if_neg (by omega), if_pos rfl]
      have ej1 : e 2 (k * 3 + 1) = y' := by rw [e2, if_neg (by omega), if_pos rfl]
      have ej2 : e 2 (k * 3 + 2) = x' := by rw [e2, if_pos rfl]
      have eo : ∀ i m, ¬ i = k → 0 ≤ m → m < 3 → e 2 (i * 3 + m) = d 2 (i * 3 + m) := by
        intro i m hi m0 m1
        rw [e2, if_neg (by omega), if_neg (by omega), if_neg (by omega)]
      have go : ∀ i m, ¬ i = k → 0 ≤ m → m < 3 → g 2 (4 * i + m) = f 2 (4 * i + m) := by
        intro i m hi m0 m1
        rw [g2, if_neg (by omega), if_neg (by omega), if_neg (by omega)]
      have y1 : ¬ 1 < d 0 0 → y' = 0 := fun w => by rw [hy, if_neg w]
      have x1 : ¬ 2 < d 0 0 → x' = 0 := fun w => by rw [hx, if_neg w]
      refine ⟨⟨⟨by rw [e0]; exact hn, fun v v0 v1 => ?_⟩, e1, fun i i0 i1 hi => ?_, Or.inl e15⟩, ⟨by rw [g0]; exact r2.1, fun i i0 i1 => ?_, fun v v0 v1 => ?_⟩, by rw [e0, g0]; exact r3, fun i m i0 i1 m0 m1 => ?_, fun i m i0 i1 m0 m1 => ?_⟩
      · rw [e2]
        split
        · exact gx
        · split
          · exact gy
          · split
            · exact ga
            · exact r1.2 v v0 v1
      · by_cases hik : i = k
        · subst hik
          have hc : ¬ a = 0 ∨ ¬ y' = 0 ∨ ¬ x' = 0 := by omega
          rcases hc with w | w | w
          · exact ⟨0, by omega, by omega, ab_iff.mpr ⟨by omega, by omega, by rw [Int.add_zero, ej0]; omega⟩⟩
          · have : 1 < d 0 0 := by
              by_cases q : 1 < d 0 0
              · exact q
              · exact absurd (y1 q) w
            exact ⟨1, by omega, by omega, ab_iff.mpr ⟨by omega, by omega, by rw [ej1]; omega⟩⟩
          · have : 2 < d 0 0 := by
              by_cases q : 2 < d 0 0
              · exact q
              · exact absurd (x1 q) w
            exact ⟨2, by omega, by omega, ab_iff.mpr ⟨by omega, by omega, by rw [ej2]; omega⟩⟩
        · have hi : P i = true := by
            have hi : P i = true ∨ i = k := by simpa using hi
            rcases hi with q | q
            · exact q
            · exact absurd q hik
          obtain ⟨m, m0, m1, m2⟩ := r1c i i0 i1 hi
          have m2 := ab_iff.mp m2
          exact ⟨m, m0, by omega, ab_iff.mpr ⟨m0, by omega, by rw [eo i m hik m0 (by omega)]; exact m2.2.2⟩⟩
      · rw [g1]
        by_cases hik : i = k
        · rw [if_pos hik]
          simp [hik]
        · rw [if_neg hik, r2.2.1 i i0 i1]
          simp [hik]
      · rw [g2]
        split
        · exact gx
        · split
          · exact gy
          · split
            · exact ga
            · exact r2.2.2 v v0 v1
      · by_cases hik : i = k
        · subst hik
          have hm : m = 0 ∨ m = 1 ∨ m = 2 := by omega
          rcases hm with q | q | q
          · subst q
            rw [Int.add_zero, Int.add_zero, ej0, g2, if_neg (by omega), if_neg (by omega), if_pos rfl]
          · subst q
            rw [ej1, g2, if_neg (by omega), if_pos rfl]
          · subst q
            rw [ej2, g2, if_pos rfl]
        · rw [go i m hik m0 m1, eo i m hik m0 m1]
          exact r4 i m i0 i1 m0 m1
      · rw [e00] at m0
        by_cases hik : i = k
        · subst hik
          have hm : m = 1 ∨ m = 2 := by omega
          rcases hm with q | q
          · subst q
            rw [ej1]
            exact y1 (by omega)
          · subst q
            rw [ej2]
            exact x1 (by omega)
        · rw [eo i m hik (by omega) m1]
          exact r5 i m i0 i1 m0 m1
theorem e_setTime {j m t z z' : Int} (hR : Rl d f P) (h : (¬ ((0 ≤ j ∧ j < 5 ∧ P j = true) ∧ (0 ≤ m ∧ m < d 0 0) ∧ (0 ≤ t ∧ t ≤ 15)) ∧ z = 0 ∧ e = d) ∨ (((0 ≤ j ∧ j < 5 ∧ P j = true) ∧ (0 ≤ m ∧ m < d 0 0) ∧ (0 ≤ t ∧ t ≤ 15)) ∧ ((ms (ab (st1 d 2 (j * 3 + m) t) j) = 0 ∧ z = 0 ∧ e = d) ∨ (¬ ms (ab (st1 d 2 (j * 3 + m) t) j) = 0 ∧ z = 1 ∧ e = st1 (st1 d 2 (j * 3 + m) t) 15 0 0)))) (h' : (¬ ((0 ≤ j ∧ j < 5 ∧ P j = true) ∧ (0 ≤ m ∧ m < f 0 0) ∧ (0 ≤ t ∧ t ≤ 15)) ∧ z' = 0 ∧ g = f) ∨ (((0 ≤ j ∧ j < 5 ∧ P j = true) ∧ (0 ≤ m ∧ m < f 0 0) ∧ (0 ≤ t ∧ t ≤ 15)) ∧ ((¬ 0 < st1 f 2 (4 * j + m) t 2 (4 * j) + st1 f 2 (4 * j + m) t 2 (4 * j + 1) + st1 f 2 (4 * j + m) t 2 (4 * j + 2) ∧ z' = 0 ∧ g = f) ∨ (0 < st1 f 2 (4 * j + m) t 2 (4 * j) + st1 f 2 (4 * j + m) t 2 (4 * j + 1) + st1 f 2 (4 * j + m) t 2 (4 * j + 2) ∧ z' = 1 ∧ g = st1 f 2 (4 * j + m) t)))) : z = z' ∧ ∃ P', Rl e g P' := by
  rw [hR.2.2.1] at h'
  rcases h with ⟨a, b, c⟩ | ⟨a, h⟩
  · rcases h' with ⟨a', b', c'⟩ | ⟨a', h'⟩
    · exact ⟨by omega, P, by rw [c, c']; exact hR⟩
    · exact absurd a' a
  · rcases h' with ⟨a', b', c'⟩ | ⟨a', h'⟩
    · exact absurd a a'
    · have hR0 := hR
      obtain ⟨⟨r1, r1b, r1c, r1d⟩, r2, r3, r4, r5⟩ := hR
      have hn := r1.1
      obtain ⟨⟨j0, j1, hj⟩, ⟨m0, m1⟩, ⟨t0, t1⟩⟩ := a
      -- the two sides, cell by cell
      have hE : ∀ i x, 0 ≤ i → i < 5 → 0 ≤ x → x < 3 → st1 f 2 (4 * j + m) t 2 (4 * i + x) = st1 d 2 (j * 3 + m) t 2 (i * 3 + x) := by
        intro i x i0 i1 x0 x1
        rw [st1_at, st1_at]
        by_cases q : i = j ∧ x = m
        · rw [if_pos (by omega), if_pos (by omega)]
        · rw [if_neg (by omega), if_neg (by omega)]
          exact r4 i x i0 i1 x0 x1
      have hD : ∀ v, 0 ≤ v → v < 15 → 0 ≤ st1 d 2 (j * 3 + m) t 2 v ∧ st1 d 2 (j * 3 + m) t 2 v ≤ 15 := by
        intro v v0 v1
        rw [st1_at]
        split
        · exact ⟨t0, t1⟩
        · exact r1.2 v v0 v1
      have hZ : ∀ i x, 0 ≤ i → i < 5 → d 0 0 ≤ x → x < 3 → st1 d 2 (j * 3 + m) t 2 (i * 3 + x) = 0 := by
        intro i x i0 i1 x0 x1
        rw [st1_off (by omega)]
        exact r5 i x i0 i1 x0 x1
      have n0 : st1 d 2 (j * 3 + m) t 0 = d 0 := st1_ne (by decide)
      have s0 := hE j 0 j0 j1 (by omega) (by omega)
      have s1 := hE j 1 j0 j1 (by omega) (by omega)
      have s2 := hE j 2 j0 j1 (by omega) (by omega)
      have d0 := hD (j * 3 + 0) (by omega) (by omega)
      have d1 := hD (j * 3 + 1) (by omega) (by omega)
      have d2 := hD (j * 3 + 2) (by omega) (by omega)
      rw [Int.add_zero (4 * j)] at s0
      have habm : ∀ x, ab (st1 d 2 (j * 3 + m) t) j x = true ↔ 0 ≤ x ∧ x < d 0 0 ∧ 0 < st1 d 2 (j * 3 + m) t 2 (j * 3 + x) := by
        intro x
        rw [ab_iff, n0]
      have key : (ms (ab (st1 d 2 (j * 3 + m) t) j) = 0) ↔ ¬ 0 < st1 f 2 (4 * j + m) t 2 (4 * j) + st1 f 2 (4 * j + m) t 2 (4 * j + 1) + st1 f 2 (4 * j + m) t 2 (4 * j + 2) := by
        rw [ms_0]
        constructor
        · intro hz hpos
          have hx : ∀ x, 0 ≤ x → x < 3 → st1 d 2 (j * 3 + m) t 2 (j * 3 + x) = 0 := by
            intro x x0 x1
            by_cases q : x < d 0 0
            · have h1 := hz x x0 (by omega)
              have h2 := hD (j * 3 + x) (by omega) (by omega)
              by_cases q2 : 0 < st1 d 2 (j * 3 + m) t 2 (j * 3 + x)
              · have h3 := (habm x).mpr ⟨x0, q, q2⟩
                rw [h3] at h1
                exact absurd h1 (by decide)
              · omega
            · exact hZ j x j0 j1 (by omega) x1
          have a0 := hx 0 (by omega) (by omega)
          have a1 := hx 1 (by omega) (by omega)
          have a2 := hx 2 (by omega) (by omega)
          omega
        · intro hz x x0 x1
          cases hb : ab (st1 d 2 (j * 3 + m) t) j x with
          | false => rfl
          | true =>
            exfalso
            have h1 := (habm x).mp hb
            have hx : x = 0 ∨ x = 1 ∨ x = 2 := by omega
            rcases hx with q | q | q <;> subst q <;> omega
      rcases h with ⟨k1, k2, k3⟩ | ⟨k1, k2, k3⟩
      · rcases h' with ⟨k1', k2', k3'⟩ | ⟨k1', k2', k3'⟩
        · exact ⟨by omega, P, by rw [k3, k3']; exact hR0⟩
        · exact absurd k1' (key.mp k1)
      · rcases h' with ⟨k1', k2', k3'⟩ | ⟨k1', k2', k3'⟩
        · exact absurd (key.mpr k1') k1
        · refine ⟨by omega, P, ?_⟩
          have e0 : e 0 = d 0 := by rw [k3, st1_ne (by decide), n0]
          have e2 : e 2 = st1 d 2 (j * 3 + m) t 2 := by rw [k3, st1_ne (by decide)]
          have g0 : g 0 = f 0 := by rw [k3', st1_ne (by decide)]
          have g1 : g 1 = f 1 := by rw [k3', st1_ne (by decide)]
          have e00 : e 0 0 = d 0 0 := by rw [e0]
          refine ⟨⟨⟨by rw [e0]; exact hn, by rw [e2]; exact hD⟩, by rw [k3, st1_ne (by decide), st1_ne (by decide)]; exact r1b, fun i i0 i1 hi => ?_, Or.inl (by rw [k3, st1_eq])⟩, ⟨by rw [g0]; exact r2.1, by rw [g1]; exact r2.2.1, fun v v0 v1 => ?_⟩, by rw [e0, g0]; exact r3, fun i x i0 i1 x0 x1 => ?_, fun i x i0 i1 x0 x1 => ?_⟩
          · by_cases q : i = j
            · subst q
              have hne : ∃ x, 0 ≤ x ∧ x < 3 ∧ 0 < st1 d 2 (i * 3 + m) t 2 (i * 3 + x) := by
                by_cases q0 : 0 < st1 d 2 (i * 3 + m) t 2 (i * 3 + 0)
                · exact ⟨0, by omega, by omega, q0⟩
                · by_cases q1 : 0 < st1 d 2 (i * 3 + m) t 2 (i * 3 + 1)
                  · exact ⟨1, by omega, by omega, q1⟩
                  · exact ⟨2, by omega, by omega, by omega⟩
              obtain ⟨x, x0, x1, x2⟩ := hne
              have xn : x < d 0 0 := by
                by_cases q : x < d 0 0
                · exact q
                · have := hZ i x i0 i1 (by omega) x1
                  omega
              exact ⟨x, x0, by omega, ab_iff.mpr ⟨x0, by omega, by rw [e2]; exact x2⟩⟩
            · obtain ⟨x, x0, x1, x2⟩ := r1c i i0 i1 hi
              have x2 := ab_iff.mp x2
              refine ⟨x, x0, by omega, ab_iff.mpr ⟨x0, by omega, ?_⟩⟩
              rw [e2, st1_off (by omega)]
              exact x2.2.2
          · rw [k3', st1_at]
            split
            · exact ⟨t0, t1⟩
            · exact r2.2.2 v v0 v1
          · rw [k3', e2]
            exact hE i x i0 i1 x0 x1
          · rw [e2]
            exact hZ i x i0 i1 (by omega) x1
end
end
section
/-! THE CONSTRUCTORS, and the law's cell -/
section
set_option maxRecDepth 100000
/-- the number of machines, kept between 1 and 3 -/
def clp (v : Int) : Int := if v < 1 then 1 else if 3 < v then 3 else v
/-- a new object's numbers -/
def dz0 (v : Int) : DS := fun k _ => match k with
  | 0 => clp v
  | _ => 0
/-- a new object of RX1 at h, before its constructor -/
def X1f0 (h : Nat) : va_W := [(h, .inr (0, [.int 0, .int 0, .null, .null, .int 0, .int 0, .int 0, .int 0, .null, .null, .null, .null, .null, .null, .null, .int 0, .int 0, .null]))]
set_option maxHeartbeats 8000000 in
theorem cX1_ini {v : Int} (hv : -2147483648 ≤ v ∧ v ≤ 2147483647) (l : Launch) (D : va_G) (h sz : Nat) : Met l yX1_init (ws_ yX1_init cX1_init 2 none) ({ frames := 1, cells := 10, slots := 157, locals := 30 }) (va_Pc [.ref h, .int (iI v)] (fun U => U.heap.size = sz ∧ va_P D vwCl (X1f0 h) U.heap ∧ va_K D vwCl [] U ∧ va_D (fun _ => True) (X1f0 h))) (va_Qv (fun (_ : (Nat → Nat) × (Nat → ClassId)) => True) (fun u t => va_P D vwCl (WX h u.1 u.2 (dz0 v)) t.heap ∧ va_K D vwCl (TyX u.2) t ∧ va_D (va_A (X1f0 h) sz) (WX h u.1 u.2 (dz0 v))) (va_A (X1f0 h) sz)) 10 157 (va_A (X1f0 h) sz) := by
  refine Met.ofW (cc := cX1_init) (maxL := 2) (ret := none) (by decide) rfl ?_
  intro p e s m args below meth c s₁ B hml hv0
  obtain ⟨rfl, hsz, hP, hK, hD0⟩ := hv0
  have hx := B.exec
  have hb := B.bytes
  have hr := B.returns
  have hts := atoms_spec (ws := ws_ yX1_init cX1_init 2 none) B.pre
  have hts : ∀ w ∈ lw_all, w.before _ s = true := fun w h => hts w (List.mem_cons_of_mem _ h)
  have hown : s.vm.findClass RX1 = some m.cls := findClass_of_methodNamed B.named
  have hlocks := B.notSynchronized
  have hin : meth.name = "<init>" := (name_of_methodNamed B.named B.method).1
  subst hsz
  have hD := hD0.self (sz := s.heap.size)
  generalize hAe : va_A (X1f0 h) s.heap.size = A at hD ⊢
  have hA : ∀ q : Nat, s.heap.size ≤ q → A q := fun q h => by rw [← hAe]; exact Or.inr h
  have hS : va_S A s.heap s.heap [] := va_S.rf
  have hP : va_P D vwCl [(h, .inr (0, [.int 0, .int 0, .null, .null, .int 0, .int 0, .int 0, .int 0, .null, .null, .null, .null, .null, .null, .null, .int 0, .int 0, .null]))] s.heap := hP
  have hD : va_D A [(h, .inr (0, [.int 0, .int 0, .null, .null, .int 0, .int 0, .int 0, .int 0, .null, .null, .null, .null, .null, .null, .null, .int 0, .int 0, .null]))] := hD
  have hl := lv_entry ([.ref h, .int (iI v)]) (n := 2) (Nat.le_of_ble_eq_true rfl)
  rw [lg_entry_eq]
  generalize (lg_sl ([.ref h, .int (iI v)]) ++ List.replicate (2 - (lg_sl ([.ref h, .int (iI v)])).length) Slot.unset).toArray = ls at hl ⊢
  have hl : lv_has ls 2 [(0, .ref h), (1, .int (iI v))] := hl
  refine lv_aload_n hx hb dX1_init_0 rfl (lv_at hl 0 rfl) ?_
  refine W.objInit hx hb hown (hts _ q28) (hts _ q29) (hts _ q30) rfl (by rw [hml]; exact hl.1) rfl dX1_init_1 (Nat.le_of_ble_eq_true rfl) (Nat.le_of_ble_eq_true rfl) ?_
  refine W.eq (g2 := F0 m 4 ls []) rfl ?_
  refine lv_aload_n hx hb dX1_init_4 rfl (lv_at hl 0 rfl) ?_
  refine lv_bipush (v := 15) hx hb dX1_init_5 (by decide) ?_
  refine va_newa (a0 := (15, .inl (fun _ => 0))) (atype := .byte) (ty := .byte) hx hb (hts _ q86) rfl hK hP hD hS hA (fun _ => rfl) (by decide) (by decide) (by decide) (Nat.le_of_ble_eq_true rfl) (Nat.le_of_ble_eq_true rfl) dX1_init_7 (fun q2 k2 H hK hP hD hS => ?_)
  have hP : va_P D vwCl [(h, .inr (0, [.int 0, .int 0, .null, .null, .int 0, .int 0, .int 0, .int 0, .null, .null, .null, .null, .null, .null, .null, .int 0, .int 0, .null])), (q2, .inl (k2, 15, .inl (fun _ => 0)))] H := hP
  have hD : va_D A [(h, .inr (0, [.int 0, .int 0, .null, .null, .int 0, .int 0, .int 0, .int 0, .null, .null, .null, .null, .null, .null, .null, .int 0, .int 0, .null])), (q2, .inl (k2, 15, .inl (fun _ => 0)))] := hD
  have hK : va_K D vwCl [(k2, .byte)] s := hK
  refine va_putF (ci := 0) (v := .ref q2) (ty := tyX1 2) (C := RX1) (T := TX1) (N := 18) hx hb hts in_X1 tyX1 tyX1_ok nmX1 hown hK hP hD hS 0 rfl rfl 2 (by decide) (hts _ q33) (fun _ h9 => h9) rfl hin rfl (by decide +kernel) rfl rfl (Nat.le_of_ble_eq_true rfl) dX1_init_9 (fun H locs hP hD hS => ?_)
  have hP : va_P D vwCl [(h, .inr (0, [.int 0, .int 0, .ref q2, .null, .int 0, .int 0, .int 0, .int 0, .null, .null, .null, .null, .null, .null, .null, .int 0, .int 0, .null])), (q2, .inl (k2, 15, .inl (fun _ => 0)))] H := hP
  have hD : va_D A [(h, .inr (0, [.int 0, .int 0, .ref q2, .null, .int 0, .int 0, .int 0, .int 0, .null, .null, .null, .null, .null, .null, .null, .int 0, .int 0, .null])), (q2, .inl (k2, 15, .inl (fun _ => 0)))] := hD
  refine lv_aload_n hx hb dX1_init_12 rfl (lv_at hl 0 rfl) ?_
  refine lv_iconst (v := 5) hx hb dX1_init_13 (by decide) ?_
  refine va_newa (a0 := (5, .inl (fun _ => 0))) (atype := .byte) (ty := .byte) hx hb (hts _ q86) rfl hK hP hD hS hA (fun _ => rfl) (by decide) (by decide) (by decide) (Nat.le_of_ble_eq_true rfl) (Nat.le_of_ble_eq_true rfl) dX1_init_14 (fun q3 k3 H hK hP hD hS => ?_)
  have hP : va_P D vwCl [(h, .inr (0, [.int 0, .int 0, .ref q2, .null, .int 0, .int 0, .int 0, .int 0, .null, .null, .null, .null, .null, .null, .null, .int 0, .int 0, .null])), (q2, .inl (k2, 15, .inl (fun _ => 0))), (q3, .inl (k3, 5, .inl (fun _ => 0)))] H := hP
  have hD : va_D A [(h, .inr (0, [.int 0, .int 0, .ref q2, .null, .int 0, .int 0, .int 0, .int 0, .null, .null, .null, .null, .null, .null, .null, .int 0, .int 0, .null])), (q2, .inl (k2, 15, .inl (fun _ => 0))), (q3, .inl (k3, 5, .inl (fun _ => 0)))] := hD
  have hK : va_K D vwCl [(k2, .byte), (k3, .byte)] s := hK
  refine va_putF (ci := 0) (v := .ref q3) (ty := tyX1 3) (C := RX1) (T := TX1) (N := 18) hx hb hts in_X1 tyX1 tyX1_ok nmX1 hown hK hP hD hS 0 rfl rfl 3 (by decide) (hts _ q34) (fun _ h9 => h9) rfl hin rfl (by decide +kernel) rfl rfl (Nat.le_of_ble_eq_true rfl) dX1_init_16 (fun H locs hP hD hS => ?_)
  have hP : va_P D vwCl [(h, .inr (0, [.int 0, .int 0, .ref q2, .ref q3, .int 0, .int 0, .int 0, .int 0, .null, .null, .null, .null, .null, .null, .null, .int 0, .int 0, .null])), (q2, .inl (k2, 15, .inl (fun _ => 0))), (q3, .inl (k3, 5, .inl (fun _ => 0)))] H := hP
  have hD : va_D A [(h, .inr (0, [.int 0, .int 0, .ref q2, .ref q3, .int 0, .int 0, .int 0, .int 0, .null, .null, .null, .null, .null, .null, .null, .int 0, .int 0, .null])), (q2, .inl (k2, 15, .inl (fun _ => 0))), (q3, .inl (k3, 5, .inl (fun _ => 0)))] := hD
  refine lv_aload_n hx hb dX1_init_19 rfl (lv_at hl 0 rfl) ?_
  refine lv_bipush (v := 6) hx hb dX1_init_20 (by decide) ?_
  refine va_newa (a0 := (6, .inl (fun _ => 0))) (atype := .byte) (ty := .byte) hx hb (hts _ q86) rfl hK hP hD hS hA (fun _ => rfl) (by decide) (by decide) (by decide) (Nat.le_of_ble_eq_true rfl) (Nat.le_of_ble_eq_true rfl) dX1_init_22 (fun q8 k8 H hK hP hD hS => ?_)
  have hP : va_P D vwCl [(h, .inr (0, [.int 0, .int 0, .ref q2, .ref q3, .int 0, .int 0, .int 0, .int 0, .null, .null, .null, .null, .null, .null, .null, .int 0, .int 0, .null])), (q2, .inl (k2, 15, .inl (fun _ => 0))), (q3, .inl (k3, 5, .inl (fun _ => 0))), (q8, .inl (k8, 6, .inl (fun _ => 0)))] H := hP
  have hD : va_D A [(h, .inr (0, [.int 0, .int 0, .ref q2, .ref q3, .int 0, .int 0, .int 0, .int 0, .null, .null, .null, .null, .null, .null, .null, .int 0, .int 0, .null])), (q2, .inl (k2, 15, .inl (fun _ => 0))), (q3, .inl (k3, 5, .inl (fun _ => 0))), (q8, .inl (k8, 6, .inl (fun _ => 0)))] := hD
  have hK : va_K D vwCl [(k2, .byte), (k3, .byte), (k8, .byte)] s := hK
  refine va_putF (ci := 0) (v := .ref q8) (ty := tyX1 8) (C := RX1) (T := TX1) (N := 18) hx hb hts in_X1 tyX1 tyX1_ok nmX1 hown hK hP hD hS 0 rfl rfl 8 (by decide) (hts _ q39) (fun _ h9 => h9) rfl hin rfl (by decide +kernel) rfl rfl (Nat.le_of_ble_eq_true rfl) dX1_init_24 (fun H locs hP hD hS => ?_)
  have hP : va_P D vwCl [(h, .inr (0, [.int 0, .int 0, .ref q2, .ref q3, .int 0, .int 0, .int 0, .int 0, .ref q8, .null, .null, .null, .null, .null, .null, .int 0, .int 0, .null])), (q2, .inl (k2, 15, .inl (fun _ => 0))), (q3, .inl (k3, 5, .inl (fun _ => 0))), (q8, .inl (k8, 6, .inl (fun _ => 0)))] H := hP
  have hD : va_D A [(h, .inr (0, [.int 0, .int 0, .ref q2, .ref q3, .int 0, .int 0, .int 0, .int 0, .ref q8, .null, .null, .null, .null, .null, .null, .int 0, .int 0, .null])), (q2, .inl (k2, 15, .inl (fun _ => 0))), (q3, .inl (k3, 5, .inl (fun _ => 0))), (q8, .inl (k8, 6, .inl (fun _ => 0)))] := hD
  refine lv_aload_n hx hb dX1_init_27 rfl (lv_at hl 0 rfl) ?_
  refine lv_bipush (v := 6) hx hb dX1_init_28 (by decide) ?_
  refine va_newa (a0 := (6, .inl (fun _ => 0))) (atype := .int) (ty := .int) hx hb (hts _ q87) rfl hK hP hD hS hA (fun _ => rfl) (by decide) (by decide) (by decide) (Nat.le_of_ble_eq_true rfl) (Nat.le_of_ble_eq_true rfl) dX1_init_30 (fun q9 k9 H hK hP hD hS => ?_)
  have hP : va_P D vwCl [(h, .inr (0, [.int 0, .int 0, .ref q2, .ref q3, .int 0, .int 0, .int 0, .int 0, .ref q8, .null, .null, .null, .null, .null, .null, .int 0, .int 0, .null])), (q2, .inl (k2, 15, .inl (fun _ => 0))), (q3, .inl (k3, 5, .inl (fun _ => 0))), (q8, .inl (k8, 6, .inl (fun _ => 0))), (q9, .inl (k9, 6, .inl (fun _ => 0)))] H := hP
  have hD : va_D A [(h, .inr (0, [.int 0, .int 0, .ref q2, .ref q3, .int 0, .int 0, .int 0, .int 0, .ref q8, .null, .null, .null, .null, .null, .null, .int 0, .int 0, .null])), (q2, .inl (k2, 15, .inl (fun _ => 0))), (q3, .inl (k3, 5, .inl (fun _ => 0))), (q8, .inl (k8, 6, .inl (fun _ => 0))), (q9, .inl (k9, 6, .inl (fun _ => 0)))] := hD
  have hK : va_K D vwCl [(k2, .byte), (k3, .byte), (k8, .byte), (k9, .int)] s := hK
  refine va_putF (ci := 0) (v := .ref q9) (ty := tyX1 9) (C := RX1) (T := TX1) (N := 18) hx hb hts in_X1 tyX1 tyX1_ok nmX1 hown hK hP hD hS 0 rfl rfl 9 (by decide) (hts _ q40) (fun _ h9 => h9) rfl hin rfl (by decide +kernel) rfl rfl (Nat.le_of_ble_eq_true rfl) dX1_init_32 (fun H locs hP hD hS => ?_)
  have hP : va_P D vwCl [(h, .inr (0, [.int 0, .int 0, .ref q2, .ref q3, .int 0, .int 0, .int 0, .int 0, .ref q8, .ref q9, .null, .null, .null, .null, .null, .int 0, .int 0, .null])), (q2, .inl (k2, 15, .inl (fun _ => 0))), (q3, .inl (k3, 5, .inl (fun _ => 0))), (q8, .inl (k8, 6, .inl (fun _ => 0))), (q9, .inl (k9, 6, .inl (fun _ => 0)))] H := hP
  have hD : va_D A [(h, .inr (0, [.int 0, .int 0, .ref q2, .ref q3, .int 0, .int 0, .int 0, .int 0, .ref q8, .ref q9, .null, .null, .null, .null, .null, .int 0, .int 0, .null])), (q2, .inl (k2, 15, .inl (fun _ => 0))), (q3, .inl (k3, 5, .inl (fun _ => 0))), (q8, .inl (k8, 6, .inl (fun _ => 0))), (q9, .inl (k9, 6, .inl (fun _ => 0)))] := hD
  refine lv_aload_n hx hb dX1_init_35 rfl (lv_at hl 0 rfl) ?_
  refine lv_bipush (v := 24) hx hb dX1_init_36 (by decide) ?_
  refine va_newa (a0 := (24, .inl (fun _ => 0))) (atype := .int) (ty := .int) hx hb (hts _ q87) rfl hK hP hD hS hA (fun _ => rfl) (by decide) (by decide) (by decide) (Nat.le_of_ble_eq_true rfl) (Nat.le_of_ble_eq_true rfl) dX1_init_38 (fun q10 k10 H hK hP hD hS => ?_)
  have hP : va_P D vwCl [(h, .inr (0, [.int 0, .int 0, .ref q2, .ref q3, .int 0, .int 0, .int 0, .int 0, .ref q8, .ref q9, .null, .null, .null, .null, .null, .int 0, .int 0, .null])), (q2, .inl (k2, 15, .inl (fun _ => 0))), (q3, .inl (k3, 5, .inl (fun _ => 0))), (q8, .inl (k8, 6, .inl (fun _ => 0))), (q9, .inl (k9, 6, .inl (fun _ => 0))), (q10, .inl (k10, 24, .inl (fun _ => 0)))] H := hP
  have hD : va_D A [(h, .inr (0, [.int 0, .int 0, .ref q2, .ref q3, .int 0, .int 0, .int 0, .int 0, .ref q8, .ref q9, .null, .null, .null, .null, .null, .int 0, .int 0, .null])), (q2, .inl (k2, 15, .inl (fun _ => 0))), (q3, .inl (k3, 5, .inl (fun _ => 0))), (q8, .inl (k8, 6, .inl (fun _ => 0))), (q9, .inl (k9, 6, .inl (fun _ => 0))), (q10, .inl (k10, 24, .inl (fun _ => 0)))] := hD
  have hK : va_K D vwCl [(k2, .byte), (k3, .byte), (k8, .byte), (k9, .int), (k10, .int)] s := hK
  refine va_putF (ci := 0) (v := .ref q10) (ty := tyX1 10) (C := RX1) (T := TX1) (N := 18) hx hb hts in_X1 tyX1 tyX1_ok nmX1 hown hK hP hD hS 0 rfl rfl 10 (by decide) (hts _ q41) (fun _ h9 => h9) rfl hin rfl (by decide +kernel) rfl rfl (Nat.le_of_ble_eq_true rfl) dX1_init_40 (fun H locs hP hD hS => ?_)
  have hP : va_P D vwCl [(h, .inr (0, [.int 0, .int 0, .ref q2, .ref q3, .int 0, .int 0, .int 0, .int 0, .ref q8, .ref q9, .ref q10, .null, .null, .null, .null, .int 0, .int 0, .null])), (q2, .inl (k2, 15, .inl (fun _ => 0))), (q3, .inl (k3, 5, .inl (fun _ => 0))), (q8, .inl (k8, 6, .inl (fun _ => 0))), (q9, .inl (k9, 6, .inl (fun _ => 0))), (q10, .inl (k10, 24, .inl (fun _ => 0)))] H := hP
  have hD : va_D A [(h, .inr (0, [.int 0, .int 0, .ref q2, .ref q3, .int 0, .int 0, .int 0, .int 0, .ref q8, .ref q9, .ref q10, .null, .null, .null, .null, .int 0, .int 0, .null])), (q2, .inl (k2, 15, .inl (fun _ => 0))), (q3, .inl (k3, 5, .inl (fun _ => 0))), (q8, .inl (k8, 6, .inl (fun _ => 0))), (q9, .inl (k9, 6, .inl (fun _ => 0))), (q10, .inl (k10, 24, .inl (fun _ => 0)))] := hD
  refine lv_aload_n hx hb dX1_init_43 rfl (lv_at hl 0 rfl) ?_
  refine lv_bipush (v := 24) hx hb dX1_init_44 (by decide) ?_
  refine va_newa (a0 := (24, .inl (fun _ => 0))) (atype := .byte) (ty := .byte) hx hb (hts _ q86) rfl hK hP hD hS hA (fun _ => rfl) (by decide) (by decide) (by decide) (Nat.le_of_ble_eq_true rfl) (Nat.le_of_ble_eq_true rfl) dX1_init_46 (fun q11 k11 H hK hP hD hS => ?_)
  have hP : va_P D vwCl [(h, .inr (0, [.int 0, .int 0, .ref q2, .ref q3, .int 0, .int 0, .int 0, .int 0, .ref q8, .ref q9, .ref q10, .null, .null, .null, .null, .int 0, .int 0, .null])), (q2, .inl (k2, 15, .inl (fun _ => 0))), (q3, .inl (k3, 5, .inl (fun _ => 0))), (q8, .inl (k8, 6, .inl (fun _ => 0))), (q9, .inl (k9, 6, .inl (fun _ => 0))), (q10, .inl (k10, 24, .inl (fun _ => 0))), (q11, .inl (k11, 24, .inl (fun _ => 0)))] H := hP
  have hD : va_D A [(h, .inr (0, [.int 0, .int 0, .ref q2, .ref q3, .int 0, .int 0, .int 0, .int 0, .ref q8, .ref q9, .ref q10, .null, .null, .null, .null, .int 0, .int 0, .null])), (q2, .inl (k2, 15, .inl (fun _ => 0))), (q3, .inl (k3, 5, .inl (fun _ => 0))), (q8, .inl (k8, 6, .inl (fun _ => 0))), (q9, .inl (k9, 6, .inl (fun _ => 0))), (q10, .inl (k10, 24, .inl (fun _ => 0))), (q11, .inl (k11, 24, .inl (fun _ => 0)))] := hD
  have hK : va_K D vwCl [(k2, .byte), (k3, .byte), (k8, .byte), (k9, .int), (k10, .int), (k11, .byte)] s := hK
  refine va_putF (ci := 0) (v := .ref q11) (ty := tyX1 11) (C := RX1) (T := TX1) (N := 18) hx hb hts in_X1 tyX1 tyX1_ok nmX1 hown hK hP hD hS 0 rfl rfl 11 (by decide) (hts _ q42) (fun _ h9 => h9) rfl hin rfl (by decide +kernel) rfl rfl (Nat.le_of_ble_eq_true rfl) dX1_init_48 (fun H locs hP hD hS => ?_)
  have hP : va_P D vwCl [(h, .inr (0, [.int 0, .int 0, .ref q2, .ref q3, .int 0, .int 0, .int 0, .int 0, .ref q8, .ref q9, .ref q10, .ref q11, .null, .null, .null, .int 0, .int 0, .null])), (q2, .inl (k2, 15, .inl (fun _ => 0))), (q3, .inl (k3, 5, .inl (fun _ => 0))), (q8, .inl (k8, 6, .inl (fun _ => 0))), (q9, .inl (k9, 6, .inl (fun _ => 0))), (q10, .inl (k10, 24, .inl (fun _ => 0))), (q11, .inl (k11, 24, .inl (fun _ => 0)))] H := hP
  have hD : va_D A [(h, .inr (0, [.int 0, .int 0, .ref q2, .ref q3, .int 0, .int 0, .int 0, .int 0, .ref q8, .ref q9, .ref q10, .ref q11, .null, .null, .null, .int 0, .int 0, .null])), (q2, .inl (k2, 15, .inl (fun _ => 0))), (q3, .inl (k3, 5, .inl (fun _ => 0))), (q8, .inl (k8, 6, .inl (fun _ => 0))), (q9, .inl (k9, 6, .inl (fun _ => 0))), (q10, .inl (k10, 24, .inl (fun _ => 0))), (q11, .inl (k11, 24, .inl (fun _ => 0)))] := hD
  refine lv_aload_n hx hb dX1_init_51 rfl (lv_at hl 0 rfl) ?_
  refine lv_bipush (v := 24) hx hb dX1_init_52 (by decide) ?_
  refine va_newa (a0 := (24, .inl (fun _ => 0))) (atype := .byte) (ty := .byte) hx hb (hts _ q86) rfl hK hP hD hS hA (fun _ => rfl) (by decide) (by decide) (by decide) (Nat.le_of_ble_eq_true rfl) (Nat.le_of_ble_eq_true rfl) dX1_init_54 (fun q12 k12 H hK hP hD hS => ?_)
  have hP : va_P D vwCl [(h, .inr (0, [.int 0, .int 0, .ref q2, .ref q3, .int 0, .int 0, .int 0, .int 0, .ref q8, .ref q9, .ref q10, .ref q11, .null, .null, .null, .int 0, .int 0, .null])), (q2, .inl (k2, 15, .inl (fun _ => 0))), (q3, .inl (k3, 5, .inl (fun _ => 0))), (q8, .inl (k8, 6, .inl (fun _ => 0))), (q9, .inl (k9, 6, .inl (fun _ => 0))), (q10, .inl (k10, 24, .inl (fun _ => 0))), (q11, .inl (k11, 24, .inl (fun _ => 0))), (q12, .inl (k12, 24, .inl (fun _ => 0)))] H := hP
  have hD : va_D A [(h, .inr (0, [.int 0, .int 0, .ref q2, .ref q3, .int 0, .int 0, .int 0, .int 0, .ref q8, .ref q9, .ref q10, .ref q11, .null, .null, .null, .int 0, .int 0, .null])), (q2, .inl (k2, 15, .inl (fun _ => 0))), (q3, .inl (k3, 5, .inl (fun _ => 0))), (q8, .inl (k8, 6, .inl (fun _ => 0))), (q9, .inl (k9, 6, .inl (fun _ => 0))), (q10, .inl (k10, 24, .inl (fun _ => 0))), (q11, .inl (k11, 24, .inl (fun _ => 0))), (q12, .inl (k12, 24, .inl (fun _ => 0)))] := hD
  have hK : va_K D vwCl [(k2, .byte), (k3, .byte), (k8, .byte), (k9, .int), (k10, .int), (k11, .byte), (k12, .byte)] s := hK
  refine va_putF (ci := 0) (v := .ref q12) (ty := tyX1 12) (C := RX1) (T := TX1) (N := 18) hx hb hts in_X1 tyX1 tyX1_ok nmX1 hown hK hP hD hS 0 rfl rfl 12 (by decide) (hts _ q43) (fun _ h9 => h9) rfl hin rfl (by decide +kernel) rfl rfl (Nat.le_of_ble_eq_true rfl) dX1_init_56 (fun H locs hP hD hS => ?_)
  have hP : va_P D vwCl [(h, .inr (0, [.int 0, .int 0, .ref q2, .ref q3, .int 0, .int 0, .int 0, .int 0, .ref q8, .ref q9, .ref q10, .ref q11, .ref q12, .null, .null, .int 0, .int 0, .null])), (q2, .inl (k2, 15, .inl (fun _ => 0))), (q3, .inl (k3, 5, .inl (fun _ => 0))), (q8, .inl (k8, 6, .inl (fun _ => 0))), (q9, .inl (k9, 6, .inl (fun _ => 0))), (q10, .inl (k10, 24, .inl (fun _ => 0))), (q11, .inl (k11, 24, .inl (fun _ => 0))), (q12, .inl (k12, 24, .inl (fun _ => 0)))] H := hP
  have hD : va_D A [(h, .inr (0, [.int 0, .int 0, .ref q2, .ref q3, .int 0, .int 0, .int 0, .int 0, .ref q8, .ref q9, .ref q10, .ref q11, .ref q12, .null, .null, .int 0, .int 0, .null])), (q2, .inl (k2, 15, .inl (fun _ => 0))), (q3, .inl (k3, 5, .inl (fun _ => 0))), (q8, .inl (k8, 6, .inl (fun _ => 0))), (q9, .inl (k9, 6, .inl (fun _ => 0))), (q10, .inl (k10, 24, .inl (fun _ => 0))), (q11, .inl (k11, 24, .inl (fun _ => 0))), (q12, .inl (k12, 24, .inl (fun _ => 0)))] := hD
  refine lv_aload_n hx hb dX1_init_59 rfl (lv_at hl 0 rfl) ?_
  refine lv_bipush (v := 24) hx hb dX1_init_60 (by decide) ?_
  refine va_newa (a0 := (24, .inl (fun _ => 0))) (atype := .int) (ty := .int) hx hb (hts _ q87) rfl hK hP hD hS hA (fun _ => rfl) (by decide) (by decide) (by decide) (Nat.le_of_ble_eq_true rfl) (Nat.le_of_ble_eq_true rfl) dX1_init_62 (fun q13 k13 H hK hP hD hS => ?_)
  have hP : va_P D vwCl [(h, .inr (0, [.int 0, .int 0, .ref q2, .ref q3, .int 0, .int 0, .int 0, .int 0, .ref q8, .ref q9, .ref q10, .ref q11, .ref q12, .null, .null, .int 0, .int 0, .null])), (q2, .inl (k2, 15, .inl (fun _ => 0))), (q3, .inl (k3, 5, .inl (fun _ => 0))), (q8, .inl (k8, 6, .inl (fun _ => 0))), (q9, .inl (k9, 6, .inl (fun _ => 0))), (q10, .inl (k10, 24, .inl (fun _ => 0))), (q11, .inl (k11, 24, .inl (fun _ => 0))), (q12, .inl (k12, 24, .inl (fun _ => 0))), (q13, .inl (k13, 24, .inl (fun _ => 0)))] H := hP
  have hD : va_D A [(h, .inr (0, [.int 0, .int 0, .ref q2, .ref q3, .int 0, .int 0, .int 0, .int 0, .ref q8, .ref q9, .ref q10, .ref q11, .ref q12, .null, .null, .int 0, .int 0, .null])), (q2, .inl (k2, 15, .inl (fun _ => 0))), (q3, .inl (k3, 5, .inl (fun _ => 0))), (q8, .inl (k8, 6, .inl (fun _ => 0))), (q9, .inl (k9, 6, .inl (fun _ => 0))), (q10, .inl (k10, 24, .inl (fun _ => 0))), (q11, .inl (k11, 24, .inl (fun _ => 0))), (q12, .inl (k12, 24, .inl (fun _ => 0))), (q13, .inl (k13, 24, .inl (fun _ => 0)))] := hD
  have hK : va_K D vwCl [(k2, .byte), (k3, .byte), (k8, .byte), (k9, .int), (k10, .int), (k11, .byte), (k12, .byte), (k13, .int)] s := hK
  refine va_putF (ci := 0) (v := .ref q13) (ty := tyX1 13) (C := RX1) (T := TX1) (N := 18) hx hb hts in_X1 tyX1 tyX1_ok nmX1 hown hK hP hD hS 0 rfl rfl 13 (by decide) (hts _ q44) (fun _ h9 => h9) rfl hin rfl (by decide +kernel) rfl rfl (Nat.le_of_ble_eq_true rfl) dX1_init_64 (fun H locs hP hD hS => ?_)
  have hP : va_P D vwCl [(h, .inr (0, [.int 0, .int 0, .ref q2, .ref q3, .int 0, .int 0, .int 0, .int 0, .ref q8, .ref q9, .ref q10, .ref q11, .ref q12, .ref q13, .null, .int 0, .int 0, .null])), (q2, .inl (k2, 15, .inl (fun _ => 0))), (q3, .inl (k3, 5, .inl (fun _ => 0))), (q8, .inl (k8, 6, .inl (fun _ => 0))), (q9, .inl (k9, 6, .inl (fun _ => 0))), (q10, .inl (k10, 24, .inl (fun _ => 0))), (q11, .inl (k11, 24, .inl (fun _ => 0))), (q12, .inl (k12, 24, .inl (fun _ => 0))), (q13, .inl (k13, 24, .inl (fun _ => 0)))] H := hP
  have hD : va_D A [(h, .inr (0, [.int 0, .int 0, .ref q2, .ref q3, .int 0, .int 0, .int 0, .int 0, .ref q8, .ref q9, .ref q10, .ref q11, .ref q12, .ref q13, .null, .int 0, .int 0, .null])), (q2, .inl (k2, 15, .inl (fun _ => 0))), (q3, .inl (k3, 5, .inl (fun _ => 0))), (q8, .inl (k8, 6, .inl (fun _ => 0))), (q9, .inl (k9, 6, .inl (fun _ => 0))), (q10, .inl (k10, 24, .inl (fun _ => 0))), (q11, .inl (k11, 24, .inl (fun _ => 0))), (q12, .inl (k12, 24, .inl (fun _ => 0))), (q13, .inl (k13, 24, .inl (fun _ => 0)))] := hD
  refine lv_aload_n hx hb dX1_init_67 rfl (lv_at hl 0 rfl) ?_
  refine lv_bipush (v := 24) hx hb dX1_init_68 (by decide) ?_
  refine va_newa (a0 := (24, .inl (fun _ => 0))) (atype := .boolean) (ty := .boolean) hx hb (hts _ q88) rfl hK hP hD hS hA (fun _ => rfl) (by decide) (by decide) (by decide) (Nat.le_of_ble_eq_true rfl) (Nat.le_of_ble_eq_true rfl) dX1_init_70 (fun q14 k14 H hK hP hD hS => ?_)
  have hP : va_P D vwCl [(h, .inr (0, [.int 0, .int 0, .ref q2, .ref q3, .int 0, .int 0, .int 0, .int 0, .ref q8, .ref q9, .ref q10, .ref q11, .ref q12, .ref q13, .null, .int 0, .int 0, .null])), (q2, .inl (k2, 15, .inl (fun _ => 0))), (q3, .inl (k3, 5, .inl (fun _ => 0))), (q8, .inl (k8, 6, .inl (fun _ => 0))), (q9, .inl (k9, 6, .inl (fun _ => 0))), (q10, .inl (k10, 24, .inl (fun _ => 0))), (q11, .inl (k11, 24, .inl (fun _ => 0))), (q12, .inl (k12, 24, .inl (fun _ => 0))), (q13, .inl (k13, 24, .inl (fun _ => 0))), (q14, .inl (k14, 24, .inl (fun _ => 0)))] H := hP
  have hD : va_D A [(h, .inr (0, [.int 0, .int 0, .ref q2, .ref q3, .int 0, .int 0, .int 0, .int 0, .ref q8, .ref q9, .ref q10, .ref q11, .ref q12, .ref q13, .null, .int 0, .int 0, .null])), (q2, .inl (k2, 15, .inl (fun _ => 0))), (q3, .inl (k3, 5, .inl (fun _ => 0))), (q8, .inl (k8, 6, .inl (fun _ => 0))), (q9, .inl (k9, 6, .inl (fun _ => 0))), (q10, .inl (k10, 24, .inl (fun _ => 0))), (q11, .inl (k11, 24, .inl (fun _ => 0))), (q12, .inl (k12, 24, .inl (fun _ => 0))), (q13, .inl (k13, 24, .inl (fun _ => 0))), (q14, .inl (k14, 24, .inl (fun _ => 0)))] := hD
  have hK : va_K D vwCl [(k2, .byte), (k3, .byte), (k8, .byte), (k9, .int), (k10, .int), (k11, .byte), (k12, .byte), (k13, .int), (k14, .boolean)] s := hK
  refine va_putF (ci := 0) (v := .ref q14) (ty := tyX1 14) (C := RX1) (T := TX1) (N := 18) hx hb hts in_X1 tyX1 tyX1_ok nmX1 hown hK hP hD hS 0 rfl rfl 14 (by decide) (hts _ q45) (fun _ h9 => h9) rfl hin rfl (by decide +kernel) rfl rfl (Nat.le_of_ble_eq_true rfl) dX1_init_72 (fun H locs hP hD hS => ?_)
  have hP : va_P D vwCl [(h, .inr (0, [.int 0, .int 0, .ref q2, .ref q3, .int 0, .int 0, .int 0, .int 0, .ref q8, .ref q9, .ref q10, .ref q11, .ref q12, .ref q13, .ref q14, .int 0, .int 0, .null])), (q2, .inl (k2, 15, .inl (fun _ => 0))), (q3, .inl (k3, 5, .inl (fun _ => 0))), (q8, .inl (k8, 6, .inl (fun _ => 0))), (q9, .inl (k9, 6, .inl (fun _ => 0))), (q10, .inl (k10, 24, .inl (fun _ => 0))), (q11, .inl (k11, 24, .inl (fun _ => 0))), (q12, .inl (k12, 24, .inl (fun _ => 0))), (q13, .inl (k13, 24, .inl (fun _ => 0))), (q14, .inl (k14, 24, .inl (fun _ => 0)))] H := hP
  have hD : va_D A [(h, .inr (0, [.int 0, .int 0, .ref q2, .ref q3, .int 0, .int 0, .int 0, .int 0, .ref q8, .ref q9, .ref q10, .ref q11, .ref q12, .ref q13, .ref q14, .int 0, .int 0, .null])), (q2, .inl (k2, 15, .inl (fun _ => 0))), (q3, .inl (k3, 5, .inl (fun _ => 0))), (q8, .inl (k8, 6, .inl (fun _ => 0))), (q9, .inl (k9, 6, .inl (fun _ => 0))), (q10, .inl (k10, 24, .inl (fun _ => 0))), (q11, .inl (k11, 24, .inl (fun _ => 0))), (q12, .inl (k12, 24, .inl (fun _ => 0))), (q13, .inl (k13, 24, .inl (fun _ => 0))), (q14, .inl (k14, 24, .inl (fun _ => 0)))] := hD
  refine lv_aload_n hx hb dX1_init_75 rfl (lv_at hl 0 rfl) ?_
  refine lv_iconst (v := 5) hx hb dX1_init_76 (by decide) ?_
  refine va_newa (a0 := (5, .inl (fun _ => 0))) (atype := .byte) (ty := .byte) hx hb (hts _ q86) rfl hK hP hD hS hA (fun _ => rfl) (by decide) (by decide) (by decide) (Nat.le_of_ble_eq_true rfl) (Nat.le_of_ble_eq_true rfl) dX1_init_77 (fun q17 k17 H hK hP hD hS => ?_)
  have hP : va_P D vwCl [(h, .inr (0, [.int 0, .int 0, .ref q2, .ref q3, .int 0, .int 0, .int 0, .int 0, .ref q8, .ref q9, .ref q10, .ref q11, .ref q12, .ref q13, .ref q14, .int 0, .int 0, .null])), (q2, .inl (k2, 15, .inl (fun _ => 0))), (q3, .inl (k3, 5, .inl (fun _ => 0))), (q8, .inl (k8, 6, .inl (fun _ => 0))), (q9, .inl (k9, 6, .inl (fun _ => 0))), (q10, .inl (k10, 24, .inl (fun _ => 0))), (q11, .inl (k11, 24, .inl (fun _ => 0))), (q12, .inl (k12, 24, .inl (fun _ => 0))), (q13, .inl (k13, 24, .inl (fun _ => 0))), (q14, .inl (k14, 24, .inl (fun _ => 0))), (q17, .inl (k17, 5, .inl (fun _ => 0)))] H := hP
  have hD : va_D A [(h, .inr (0, [.int 0, .int 0, .ref q2, .ref q3, .int 0, .int 0, .int 0, .int 0, .ref q8, .ref q9, .ref q10, .ref q11, .ref q12, .ref q13, .ref q14, .int 0, .int 0, .null])), (q2, .inl (k2, 15, .inl (fun _ => 0))), (q3, .inl (k3, 5, .inl (fun _ => 0))), (q8, .inl (k8, 6, .inl (fun _ => 0))), (q9, .inl (k9, 6, .inl (fun _ => 0))), (q10, .inl (k10, 24, .inl (fun _ => 0))), (q11, .inl (k11, 24, .inl (fun _ => 0))), (q12, .inl (k12, 24, .inl (fun _ => 0))), (q13, .inl (k13, 24, .inl (fun _ => 0))), (q14, .inl (k14, 24, .inl (fun _ => 0))), (q17, .inl (k17, 5, .inl (fun _ => 0)))] := hD
  have hK : va_K D vwCl [(k2, .byte), (k3, .byte), (k8, .byte), (k9, .int), (k10, .int), (k11, .byte), (k12, .byte), (k13, .int), (k14, .boolean), (k17, .byte)] s := hK
  refine va_putF (ci := 0) (v := .ref q17) (ty := tyX1 17) (C := RX1) (T := TX1) (N := 18) hx hb hts in_X1 tyX1 tyX1_ok nmX1 hown hK hP hD hS 0 rfl rfl 17 (by decide) (hts _ q48) (fun _ h9 => h9) rfl hin rfl (by decide +kernel) rfl rfl (Nat.le_of_ble_eq_true rfl) dX1_init_79 (fun H locs hP hD hS => ?_)
  have hP : va_P D vwCl [(h, .inr (0, [.int 0, .int 0, .ref q2, .ref q3, .int 0, .int 0, .int 0, .int 0, .ref q8, .ref q9, .ref q10, .ref q11, .ref q12, .ref q13, .ref q14, .int 0, .int 0, .ref q17])), (q2, .inl (k2, 15, .inl (fun _ => 0))), (q3, .inl (k3, 5, .inl (fun _ => 0))), (q8, .inl (k8, 6, .inl (fun _ => 0))), (q9, .inl (k9, 6, .inl (fun _ => 0))), (q10, .inl (k10, 24, .inl (fun _ => 0))), (q11, .inl (k11, 24, .inl (fun _ => 0))), (q12, .inl (k12, 24, .inl (fun _ => 0))), (q13, .inl (k13, 24, .inl (fun _ => 0))), (q14, .inl (k14, 24, .inl (fun _ => 0))), (q17, .inl (k17, 5, .inl (fun _ => 0)))] H := hP
  have hD : va_D A [(h, .inr (0, [.int 0, .int 0, .ref q2, .ref q3, .int 0, .int 0, .int 0, .int 0, .ref q8, .ref q9, .ref q10, .ref q11, .ref q12, .ref q13, .ref q14, .int 0, .int 0, .ref q17])), (q2, .inl (k2, 15, .inl (fun _ => 0))), (q3, .inl (k3, 5, .inl (fun _ => 0))), (q8, .inl (k8, 6, .inl (fun _ => 0))), (q9, .inl (k9, 6, .inl (fun _ => 0))), (q10, .inl (k10, 24, .inl (fun _ => 0))), (q11, .inl (k11, 24, .inl (fun _ => 0))), (q12, .inl (k12, 24, .inl (fun _ => 0))), (q13, .inl (k13, 24, .inl (fun _ => 0))), (q14, .inl (k14, 24, .inl (fun _ => 0))), (q17, .inl (k17, 5, .inl (fun _ => 0)))] := hD
  refine lv_aload_n hx hb dX1_init_82 rfl (lv_at hl 0 rfl) ?_
  refine lv_iload_n hx hb dX1_init_83 rfl (lv_at hl 1 rfl) ?_
  refine lv_iconst (v := iI 1) hx hb dX1_init_84 rfl ?_
  refine lv_icmp_ge (tgt := 92) hx hb dX1_init_85 (by decide) (fun c1 => ?_) (fun c1 => ?_)
  · have c1 : 1 ≤ v := (iI_le (by omega) hv).mp c1
    refine lv_iload_n hx hb dX1_init_92 rfl (lv_at hl 1 rfl) ?_
    refine lv_iconst (v := iI 3) hx hb dX1_init_93 rfl ?_
    refine lv_icmp_le (tgt := 101) hx hb dX1_init_94 (by decide) (fun c2 => ?_) (fun c2 => ?_)
    · have c2 : v ≤ 3 := (iI_le hv (by omega)).mp c2
      refine lv_iload_n hx hb dX1_init_101 rfl (lv_at hl 1 rfl) ?_
      refine va_putF (ci := 0) (v := .int (iI (v))) (ty := tyX1 0) (C := RX1) (T := TX1) (N := 18) hx hb hts in_X1 tyX1 tyX1_ok nmX1 hown hK hP hD hS 0 rfl rfl 0 (by decide) (hts _ q31) (fun _ h9 => h9) rfl hin rfl (by decide +kernel) rfl rfl (Nat.le_of_ble_eq_true rfl) dX1_init_102 (fun H locs hP hD hS => ?_)
      have ev : clp v = v := by unfold clp; rw [if_neg (by omega), if_neg (by omega)]
      rw [← ev] at hP hD
      have hP : va_P D vwCl [(h, .inr (0, [.int (iI (clp v)), .int 0, .ref q2, .ref q3, .int 0, .int 0, .int 0, .int 0, .ref q8, .ref q9, .ref q10, .ref q11, .ref q12, .ref q13, .ref q14, .int 0, .int 0, .ref q17])), (q2, .inl (k2, 15, .inl (fun _ => 0))), (q3, .inl (k3, 5, .inl (fun _ => 0))), (q8, .inl (k8, 6, .inl (fun _ => 0))), (q9, .inl (k9, 6, .inl (fun _ => 0))), (q10, .inl (k10, 24, .inl (fun _ => 0))), (q11, .inl (k11, 24, .inl (fun _ => 0))), (q12, .inl (k12, 24, .inl (fun _ => 0))), (q13, .inl (k13, 24, .inl (fun _ => 0))), (q14, .inl (k14, 24, .inl (fun _ => 0))), (q17, .inl (k17, 5, .inl (fun _ => 0)))] H := hP
      have hD : va_D A [(h, .inr (0, [.int (iI (clp v)), .int 0, .ref q2, .ref q3, .int 0, .int 0, .int 0, .int 0, .ref q8, .ref q9, .ref q10, .ref q11, .ref q12, .ref q13, .ref q14, .int 0, .int 0, .ref q17])), (q2, .inl (k2, 15, .inl (fun _ => 0))), (q3, .inl (k3, 5, .inl (fun _ => 0))), (q8, .inl (k8, 6, .inl (fun _ => 0))), (q9, .inl (k9, 6, .inl (fun _ => 0))), (q10, .inl (k10, 24, .inl (fun _ => 0))), (q11, .inl (k11, 24, .inl (fun _ => 0))), (q12, .inl (k12, 24, .inl (fun _ => 0))), (q13, .inl (k13, 24, .inl (fun _ => 0))), (q14, .inl (k14, 24, .inl (fun _ => 0))), (q17, .inl (k17, 5, .inl (fun _ => 0)))] := hD
      refine W.widen (k := 10) (n := 157) (Nat.le_of_ble_eq_true rfl) (Nat.le_of_ble_eq_true rfl) ?_
      exact W.vret hx hb hr (fun t ht hW => ⟨⟨(fun k => [0, 0, q2, q3, 0, 0, 0, 0, q8, q9, q10, q11, q12, q13, q14, 0, 0, q17].getD k 0, fun k => [k2, k2, k2, k3, k2, k2, k2, k2, k8, k9, k10, k11, k12, k13, k14, k2, k2, k17].getD k k2), rfl, trivial, by rw [ht]; exact hP, va_K.moved hW.alike hK, hD⟩, hS.F ht⟩) hS.2.2 dX1_init_105
    · have c2 : ¬ v ≤ 3 := fun q => c2 ((iI_le hv (by omega)).mpr q)
      refine lv_iconst (v := iI 3) hx hb dX1_init_97 rfl ?_
      refine lv_goto (tgt := 102) hx hb dX1_init_98 (by decide) ?_
      refine va_putF (ci := 0) (v := .int (iI (3))) (ty := tyX1 0) (C := RX1) (T := TX1) (N := 18) hx hb hts in_X1 tyX1 tyX1_ok nmX1 hown hK hP hD hS 0 rfl rfl 0 (by decide) (hts _ q31) (fun _ h9 => h9) rfl hin rfl (by decide +kernel) rfl rfl (Nat.le_of_ble_eq_true rfl) dX1_init_102 (fun H locs hP hD hS => ?_)
      have ev : clp v = 3 := by unfold clp; rw [if_neg (by omega), if_pos (by omega)]
      rw [← ev] at hP hD
      have hP : va_P D vwCl [(h, .inr (0, [.int (iI (clp v)), .int 0, .ref q2, .ref q3, .int 0, .int 0, .int 0, .int 0, .ref q8, .ref q9, .ref q10, .ref q11, .ref q12, .ref q13, .ref q14, .int 0, .int 0, .ref q17])), (q2, .inl (k2, 15, .inl (fun _ => 0))), (q3, .inl (k3, 5, .inl (fun _ => 0))), (q8, .inl (k8, 6, .inl (fun _ => 0))), (q9, .inl (k9, 6, .inl (fun _ => 0))), (q10, .inl (k10, 24, .inl (fun _ => 0))), (q11, .inl (k11, 24, .inl (fun _ => 0))), (q12, .inl (k12, 24, .inl (fun _ => 0))), (q13, .inl (k13, 24, .inl (fun _ => 0))), (q14, .inl (k14, 24, .inl (fun _ => 0))), (q17, .inl (k17, 5, .inl (fun _ => 0)))] H := hP
      have hD : va_D A [(h, .inr (0, [.int (iI (clp v)), .int 0, .ref q2, .ref q3, .int 0, .int 0, .int 0, .int 0, .ref q8, .ref q9, .ref q10, .ref q11, .ref q12, .ref q13, .ref q14, .int 0, .int 0, .ref q17])), (q2, .inl (k2, 15, .inl (fun _ => 0))), (q3, .inl (k3, 5, .inl (fun _ => 0))), (q8, .inl (k8, 6, .inl (fun _ => 0))), (q9, .inl (k9, 6, .inl (fun _ => 0))), (q10, .inl (k10, 24, .inl (fun _ => 0))), (q11, .inl (k11, 24, .inl (fun _ => 0))), (q12, .inl (k12, 24, .inl (fun _ => 0))), (q13, .inl (k13, 24, .inl (fun _ => 0))), (q14, .inl (k14, 24, .inl (fun _ => 0))), (q17, .inl (k17, 5, .inl (fun _ => 0)))] := hD
      refine W.widen (k := 10) (n := 157) (Nat.le_of_ble_eq_true rfl) (Nat.le_of_ble_eq_true rfl) ?_
      exact W.vret hx hb hr (fun t ht hW => ⟨⟨(fun k => [0, 0, q2, q3, 0, 0, 0, 0, q8, q9, q10, q11, q12, q13, q14, 0, 0, q17].getD k 0, fun k => [k2, k2, k2, k3, k2, k2, k2, k2, k8, k9, k10, k11, k12, k13, k14, k2, k2, k17].getD k k2), rfl, trivial, by rw [ht]; exact hP, va_K.moved hW.alike hK, hD⟩, hS.F ht⟩) hS.2.2 dX1_init_105
  · have c1 : ¬ 1 ≤ v := fun q => c1 ((iI_le (by omega) hv).mpr q)
    refine lv_iconst (v := iI 1) hx hb dX1_init_88 rfl ?_
    refine lv_goto (tgt := 102) hx hb dX1_init_89 (by decide) ?_
    refine va_putF (ci := 0) (v := .int (iI (1))) (ty := tyX1 0) (C := RX1) (T := TX1) (N := 18) hx hb hts in_X1 tyX1 tyX1_ok nmX1 hown hK hP hD hS 0 rfl rfl 0 (by decide) (hts _ q31) (fun _ h9 => h9) rfl hin rfl (by decide +kernel) rfl rfl (Nat.le_of_ble_eq_true rfl) dX1_init_102 (fun H locs hP hD hS => ?_)
    have ev : clp v = 1 := by unfold clp; rw [if_pos (by omega)]
    rw [← ev] at hP hD
    have hP : va_P D vwCl [(h, .inr (0, [.int (iI (clp v)), .int 0, .ref q2, .ref q3, .int 0, .int 0, .int 0, .int 0, .ref q8, .ref q9, .ref q10, .ref q11, .ref q12, .ref q13, .ref q14, .int 0, .int 0, .ref q17])), (q2, .inl (k2, 15, .inl (fun _ => 0))), (q3, .inl (k3, 5, .inl (fun _ => 0))), (q8, .inl (k8, 6, .inl (fun _ => 0))), (q9, .inl (k9, 6, .inl (fun _ => 0))), (q10, .inl (k10, 24, .inl (fun _ => 0))), (q11, .inl (k11, 24, .inl (fun _ => 0))), (q12, .inl (k12, 24, .inl (fun _ => 0))), (q13, .inl (k13, 24, .inl (fun _ => 0))), (q14, .inl (k14, 24, .inl (fun _ => 0))), (q17, .inl (k17, 5, .inl (fun _ => 0)))] H := hP
    have hD : va_D A [(h, .inr (0, [.int (iI (clp v)), .int 0, .ref q2, .ref q3, .int 0, .int 0, .int 0, .int 0, .ref q8, .ref q9, .ref q10, .ref q11, .ref q12, .ref q13, .ref q14, .int 0, .int 0, .ref q17])), (q2, .inl (k2, 15, .inl (fun _ => 0))), (q3, .inl (k3, 5, .inl (fun _ => 0))), (q8, .inl (k8, 6, .inl (fun _ => 0))), (q9, .inl (k9, 6, .inl (fun _ => 0))), (q10, .inl (k10, 24, .inl (fun _ => 0))), (q11, .inl (k11, 24, .inl (fun _ => 0))), (q12, .inl (k12, 24, .inl (fun _ => 0))), (q13, .inl (k13, 24, .inl (fun _ => 0))), (q14, .inl (k14, 24, .inl (fun _ => 0))), (q17, .inl (k17, 5, .inl (fun _ => 0)))] := hD
    refine W.widen (k := 10) (n := 157) (Nat.le_of_ble_eq_true rfl) (Nat.le_of_ble_eq_true rfl) ?_
    exact W.vret hx hb hr (fun t ht hW => ⟨⟨(fun k => [0, 0, q2, q3, 0, 0, 0, 0, q8, q9, q10, q11, q12, q13, q14, 0, 0, q17].getD k 0, fun k => [k2, k2, k2, k3, k2, k2, k2, k2, k8, k9, k10, k11, k12, k13, k14, k2, k2, k17].getD k k2), rfl, trivial, by rw [ht]; exact hP, va_K.moved hW.alike hK, hD⟩, hS.F ht⟩) hS.2.2 dX1_init_105
/-- a new object of RX2 at h, before its constructor -/
def X2f0 (h : Nat) : va_W := [(h, .inr (1, [.int 0, .null, .null, .null, .int 0, .int 0, .int 0]))]
set_option maxHeartbeats 8000000 in
theorem cX2_ini {v : Int} (hv : -2147483648 ≤ v ∧ v ≤ 2147483647) (l : Launch) (D : va_G) (h sz : Nat) : Met l yX2_init (ws_ yX2_init cX2_init 2 none) ({ frames := 1, cells := 3, slots := 30, locals := 30 }) (va_Pc [.ref h, .int (iI v)] (fun U => U.heap.size = sz ∧ va_P D vwCl (X2f0 h) U.heap ∧ va_K D vwCl [] U ∧ va_D (fun _ => True) (X2f0 h))) (va_Qv (fun (_ : (Nat → Nat) × (Nat → ClassId)) => True) (fun u t => va_P D vwCl (WY h u.1 u.2 (dz0 v)) t.heap ∧ va_K D vwCl (TyY u.2) t ∧ va_D (va_A (X2f0 h) sz) (WY h u.1 u.2 (dz0 v))) (va_A (X2f0 h) sz)) 3 30 (va_A (X2f0 h) sz) := by
  refine Met.ofW (cc := cX2_init) (maxL := 2) (ret := none) (by decide) rfl ?_
  intro p e s m args below meth c s₁ B hml hv0
  obtain ⟨rfl, hsz, hP, hK, hD0⟩ := hv0
  have hx := B.exec
  have hb := B.bytes
  have hr := B.returns
  have hts := atoms_spec (ws := ws_ yX2_init cX2_init 2 none) B.pre
  have hts : ∀ w ∈ lw_all, w.before _ s = true := fun w h => hts w (List.mem_cons_of_mem _ h)
  have hown : s.vm.findClass RX2 = some m.cls := findClass_of_methodNamed B.named
  have hlocks := B.notSynchronized
  have hin : meth.name = "<init>" := (name_of_methodNamed B.named B.method).1
  subst hsz
  have hD := hD0.self (sz := s.heap.size)
  generalize hAe : va_A (X2f0 h) s.heap.size = A at hD ⊢
  have hA : ∀ q : Nat, s.heap.size ≤ q → A q := fun q h => by rw [← hAe]; exact Or.inr h
  have hS : va_S A s.heap s.heap [] := va_S.rf
  have hP : va_P D vwCl [(h, .inr (1, [.int 0, .null, .null, .null, .int 0, .int 0, .int 0]))] s.heap := hP
  have hD : va_D A [(h, .inr (1, [.int 0, .null, .null, .null, .int 0, .int 0, .int 0]))] := hD
  have hl := lv_entry ([.ref h, .int (iI v)]) (n := 2) (Nat.le_of_ble_eq_true rfl)
  rw [lg_entry_eq]
  generalize (lg_sl ([.ref h, .int (iI v)]) ++ List.replicate (2 - (lg_sl ([.ref h, .int (iI v)])).length) Slot.unset).toArray = ls at hl ⊢
  have hl : lv_has ls 2 [(0, .ref h), (1, .int (iI v))] := hl
  refine lv_aload_n hx hb dX2_init_0 rfl (lv_at hl 0 rfl) ?_
  refine W.objInit hx hb hown (hts _ q202) (hts _ q29) (hts _ q30) rfl (by rw [hml]; exact hl.1) rfl dX2_init_1 (Nat.le_of_ble_eq_true rfl) (Nat.le_of_ble_eq_true rfl) ?_
  refine W.eq (g2 := F0 m 4 ls []) rfl ?_
  refine lv_aload_n hx hb dX2_init_4 rfl (lv_at hl 0 rfl) ?_
  refine lv_iconst (v := 5) hx hb dX2_init_5 (by decide) ?_
  refine va_newa (a0 := (5, .inl (fun _ => 0))) (atype := .boolean) (ty := .boolean) hx hb (hts _ q88) rfl hK hP hD hS hA (fun _ => rfl) (by decide) (by decide) (by decide) (Nat.le_of_ble_eq_true rfl) (Nat.le_of_ble_eq_true rfl) dX2_init_6 (fun q1 k1 H hK hP hD hS => ?_)
  have hP : va_P D vwCl [(h, .inr (1, [.int 0, .null, .null, .null, .int 0, .int 0, .int 0])), (q1, .inl (k1, 5, .inl (fun _ => 0)))] H := hP
  have hD : va_D A [(h, .inr (1, [.int 0, .null, .null, .null, .int 0, .int 0, .int 0])), (q1, .inl (k1, 5, .inl (fun _ => 0)))] := hD
  have hK : va_K D vwCl [(k1, .boolean)] s := hK
  refine va_put (ci := 1) (v := .ref q1) (ty := tyX2 1) (C := RX2) (T := TX2) (N := 7) hx hb hts in_X2 tyX2 tyX2_ok nmX2 hown hK hP hD hS 0 rfl rfl 1 (by decide) (hts _ q204) (fun _ h9 => h9) rfl (by decide +kernel) rfl rfl (Nat.le_of_ble_eq_true rfl) dX2_init_8 (fun H locs hP hD hS => ?_)
  have hP : va_P D vwCl [(h, .inr (1, [.int 0, .ref q1, .null, .null, .int 0, .int 0, .int 0])), (q1, .inl (k1, 5, .inl (fun _ => 0)))] H := hP
  have hD : va_D A [(h, .inr (1, [.int 0, .ref q1, .null, .null, .int 0, .int 0, .int 0])), (q1, .inl (k1, 5, .inl (fun _ => 0)))] := hD
  refine lv_aload_n hx hb dX2_init_11 rfl (lv_at hl 0 rfl) ?_
  refine lv_bipush (v := 20) hx hb dX2_init_12 (by decide) ?_
  refine va_newa (a0 := (20, .inl (fun _ => 0))) (atype := .int) (ty := .int) hx hb (hts _ q87) rfl hK hP hD hS hA (fun _ => rfl) (by decide) (by decide) (by decide) (Nat.le_of_ble_eq_true rfl) (Nat.le_of_ble_eq_true rfl) dX2_init_14 (fun q2 k2 H hK hP hD hS => ?_)
  have hP : va_P D vwCl [(h, .inr (1, [.int 0, .ref q1, .null, .null, .int 0, .int 0, .int 0])), (q1, .inl (k1, 5, .inl (fun _ => 0))), (q2, .inl (k2, 20, .inl (fun _ => 0)))] H := hP
  have hD : va_D A [(h, .inr (1, [.int 0, .ref q1, .null, .null, .int 0, .int 0, .int 0])), (q1, .inl (k1, 5, .inl (fun _ => 0))), (q2, .inl (k2, 20, .inl (fun _ => 0)))] := hD
  have hK : va_K D vwCl [(k1, .boolean), (k2, .int)] s := hK
  refine va_put (ci := 1) (v := .ref q2) (ty := tyX2 2) (C := RX2) (T := TX2) (N := 7) hx hb hts in_X2 tyX2 tyX2_ok nmX2 hown hK hP hD hS 0 rfl rfl 2 (by decide) (hts _ q205) (fun _ h9 => h9) rfl (by decide +kernel) rfl rfl (Nat.le_of_ble_eq_true rfl) dX2_init_16 (fun H locs hP hD hS => ?_)
  have hP : va_P D vwCl [(h, .inr (1, [.int 0, .ref q1, .ref q2, .null, .int 0, .int 0, .int 0])), (q1, .inl (k1, 5, .inl (fun _ => 0))), (q2, .inl (k2, 20, .inl (fun _ => 0)))] H := hP
  have hD : va_D A [(h, .inr (1, [.int 0, .ref q1, .ref q2, .null, .int 0, .int 0, .int 0])), (q1, .inl (k1, 5, .inl (fun _ => 0))), (q2, .inl (k2, 20, .inl (fun _ => 0)))] := hD
  refine lv_aload_n hx hb dX2_init_19 rfl (lv_at hl 0 rfl) ?_
  refine lv_iconst (v := 5) hx hb dX2_init_20 (by decide) ?_
  refine va_newa (a0 := (5, .inl (fun _ => 0))) (atype := .int) (ty := .int) hx hb (hts _ q87) rfl hK hP hD hS hA (fun _ => rfl) (by decide) (by decide) (by decide) (Nat.le_of_ble_eq_true rfl) (Nat.le_of_ble_eq_true rfl) dX2_init_21 (fun q3 k3 H hK hP hD hS => ?_)
  have hP : va_P D vwCl [(h, .inr (1, [.int 0, .ref q1, .ref q2, .null, .int 0, .int 0, .int 0])), (q1, .inl (k1, 5, .inl (fun _ => 0))), (q2, .inl (k2, 20, .inl (fun _ => 0))), (q3, .inl (k3, 5, .inl (fun _ => 0)))] H := hP
  have hD : va_D A [(h, .inr (1, [.int 0, .ref q1, .ref q2, .null, .int 0, .int 0, .int 0])), (q1, .inl (k1, 5, .inl (fun _ => 0))), (q2, .inl (k2, 20, .inl (fun _ => 0))), (q3, .inl (k3, 5, .inl (fun _ => 0)))] := hD
  have hK : va_K D vwCl [(k1, .boolean), (k2, .int), (k3, .int)] s := hK
  refine va_put (ci := 1) (v := .ref q3) (ty := tyX2 3) (C := RX2) (T := TX2) (N := 7) hx hb hts in_X2 tyX2 tyX2_ok nmX2 hown hK hP hD hS 0 rfl rfl 3 (by decide) (hts _ q206) (fun _ h9 => h9) rfl (by decide +kernel) rfl rfl (Nat.le_of_ble_eq_true rfl) dX2_init_23 (fun H locs hP hD hS => ?_)
  have hP : va_P D vwCl [(h, .inr (1, [.int 0, .ref q1, .ref q2, .ref q3, .int 0, .int 0, .int 0])), (q1, .inl (k1, 5, .inl (fun _ => 0))), (q2, .inl (k2, 20, .inl (fun _ => 0))), (q3, .inl (k3, 5, .inl (fun _ => 0)))] H := hP
  have hD : va_D A [(h, .inr (1, [.int 0, .ref q1, .ref q2, .ref q3, .int 0, .int 0, .int 0])), (q1, .inl (k1, 5, .inl (fun _ => 0))), (q2, .inl (k2, 20, .inl (fun _ => 0))), (q3, .inl (k3, 5, .inl (fun _ => 0)))] := hD
  refine lv_aload_n hx hb dX2_init_26 rfl (lv_at hl 0 rfl) ?_
  refine lv_iload_n hx hb dX2_init_27 rfl (lv_at hl 1 rfl) ?_
  refine lv_iconst (v := iI 1) hx hb dX2_init_28 rfl ?_
  refine lv_icmp_ge (tgt := 36) hx hb dX2_init_29 (by decide) (fun c1 => ?_) (fun c1 => ?_)
  · have c1 : 1 ≤ v := (iI_le (by omega) hv).mp c1
    refine lv_iload_n hx hb dX2_init_36 rfl (lv_at hl 1 rfl) ?_
    refine lv_iconst (v := iI 3) hx hb dX2_init_37 rfl ?_
    refine lv_icmp_le (tgt := 45) hx hb dX2_init_38 (by decide) (fun c2 => ?_) (fun c2 => ?_)
    · have c2 : v ≤ 3 := (iI_le hv (by omega)).mp c2
      refine lv_iload_n hx hb dX2_init_45 rfl (lv_at hl 1 rfl) ?_
      refine va_put (ci := 1) (v := .int (iI (v))) (ty := tyX2 0) (C := RX2) (T := TX2) (N := 7) hx hb hts in_X2 tyX2 tyX2_ok nmX2 hown hK hP hD hS 0 rfl rfl 0 (by decide) (hts _ q203) (fun _ h9 => h9) rfl (by decide +kernel) rfl rfl (Nat.le_of_ble_eq_true rfl) dX2_init_46 (fun H locs hP hD hS => ?_)
      have ev : clp v = v := by unfold clp; rw [if_neg (by omega), if_neg (by omega)]
      rw [← ev] at hP hD
      have hP : va_P D vwCl [(h, .inr (1, [.int (iI (clp v)), .ref q1, .ref q2, .ref q3, .int 0, .int 0, .int 0])), (q1, .inl (k1, 5, .inl (fun _ => 0))), (q2, .inl (k2, 20, .inl (fun _ => 0))), (q3, .inl (k3, 5, .inl (fun _ => 0)))] H := hP
      have hD : va_D A [(h, .inr (1, [.int (iI (clp v)), .ref q1, .ref q2, .ref q3, .int 0, .int 0, .int 0])), (q1, .inl (k1, 5, .inl (fun _ => 0))), (q2, .inl (k2, 20, .inl (fun _ => 0))), (q3, .inl (k3, 5, .inl (fun _ => 0)))] := hD
      refine W.widen (k := 3) (n := 30) (Nat.le_of_ble_eq_true rfl) (Nat.le_of_ble_eq_true rfl) ?_
      exact W.vret hx hb hr (fun t ht hW => ⟨⟨(fun k => [0, q1, q2, q3, 0, 0, 0].getD k 0, fun k => [k1, k1, k2, k3, k1, k1, k1].getD k k1), rfl, trivial, by rw [ht]; exact hP, va_K.moved hW.alike hK, hD⟩, hS.F ht⟩) hS.2.2 dX2_init_49
    · have c2 : ¬ v ≤ 3 := fun q => c2 ((iI_le hv (by omega)).mpr q)
      refine lv_iconst (v := iI 3) hx hb dX2_init_41 rfl ?_
      refine lv_goto (tgt := 46) hx hb dX2_init_42 (by decide) ?_
      refine va_put (ci := 1) (v := .int (iI (3))) (ty := tyX2 0) (C := RX2) (T := TX2) (N := 7) hx hb hts in_X2 tyX2 tyX2_ok nmX2 hown hK hP hD hS 0 rfl rfl 0 (by decide) (hts _ q203) (fun _ h9 => h9) rfl (by decide +kernel) rfl rfl (Nat.le_of_ble_eq_true rfl) dX2_init_46 (fun H locs hP hD hS => ?_)
      have ev : clp v = 3 := by unfold clp; rw [if_neg (by omega), if_pos (by omega)]
      rw [← ev] at hP hD
      have hP : va_P D vwCl [(h, .inr (1, [.int (iI (clp v)), .ref q1, .ref q2, .ref q3, .int 0, .int 0, .int 0])), (q1, .inl (k1, 5, .inl (fun _ => 0))), (q2, .inl (k2, 20, .inl (fun _ => 0))), (q3, .inl (k3, 5, .inl (fun _ => 0)))] H := hP
      have hD : va_D A [(h, .inr (1, [.int (iI (clp v)), .ref q1, .ref q2, .ref q3, .int 0, .int 0, .int 0])), (q1, .inl (k1, 5, .inl (fun _ => 0))), (q2, .inl (k2, 20, .inl (fun _ => 0))), (q3, .inl (k3, 5, .inl (fun _ => 0)))] := hD
      refine W.widen (k := 3) (n := 30) (Nat.le_of_ble_eq_true rfl) (Nat.le_of_ble_eq_true rfl) ?_
      exact W.vret hx hb hr (fun t ht hW => ⟨⟨(fun k => [0, q1, q2, q3, 0, 0, 0].getD k 0, fun k => [k1, k1, k2, k3, k1, k1, k1].getD k k1), rfl, trivial, by rw [ht]; exact hP, va_K.moved hW.alike hK, hD⟩, hS.F ht⟩) hS.2.2 dX2_init_49
  · have c1 : ¬ 1 ≤ v := fun q => c1 ((iI_le (by omega) hv).mpr q)
    refine lv_iconst (v := iI 1) hx hb dX2_init_32 rfl ?_
    refine lv_goto (tgt := 46) hx hb dX2_init_33 (by decide) ?_
    refine va_put (ci := 1) (v := .int (iI (1))) (ty := tyX2 0) (C := RX2) (T := TX2) (N := 7) hx hb hts in_X2 tyX2 tyX2_ok nmX2 hown hK hP hD hS 0 rfl rfl 0 (by decide) (hts _ q203) (fun _ h9 => h9) rfl (by decide +kernel) rfl rfl (Nat.le_of_ble_eq_true rfl) dX2_init_46 (fun H locs hP hD hS => ?_)
    have ev : clp v = 1 := by unfold clp; rw [if_pos (by omega)]
    rw [← ev] at hP hD
    have hP : va_P D vwCl [(h, .inr (1, [.int (iI (clp v)), .ref q1, .ref q2, .ref q3, .int 0, .int 0, .int 0])), (q1, .inl (k1, 5, .inl (fun _ => 0))), (q2, .inl (k2, 20, .inl (fun _ => 0))), (q3, .inl (k3, 5, .inl (fun _ => 0)))] H := hP
    have hD : va_D A [(h, .inr (1, [.int (iI (clp v)), .ref q1, .ref q2, .ref q3, .int 0, .int 0, .int 0])), (q1, .inl (k1, 5, .inl (fun _ => 0))), (q2, .inl (k2, 20, .inl (fun _ => 0))), (q3, .inl (k3, 5, .inl (fun _ => 0)))] := hD
    refine W.widen (k := 3) (n := 30) (Nat.le_of_ble_eq_true rfl) (Nat.le_of_ble_eq_true rfl) ?_
    exact W.vret hx hb hr (fun t ht hW => ⟨⟨(fun k => [0, q1, q2, q3, 0, 0, 0].getD k 0, fun k => [k1, k1, k2, k3, k1, k1, k1].getD k k1), rfl, trivial, by rw [ht]; exact hP, va_K.moved hW.alike hK, hD⟩, hS.F ht⟩) hS.2.2 dX2_init_49
set_option maxHeartbeats 4000000 in
/-- cell(s, k): s[k], or 0 -/
theorem c_cell (l : Launch) (b L : Nat) (xs : Nat → Int32) (hL : L ≤ 257) (sz : Nat) : Met l yX0_cell (ws_ yX0_cell cX0_cell 2 (some .int)) (rmx 0) (va_Pc [.ref b, .int (iI 0)] (fun U => U.heap.size = sz ∧ va_X b L xs U U.heap ∧ b < U.heap.size)) (va_Qi (fun (r : Int32) (_ : Unit) => r = if 0 < L then xs 0 else 0) (fun _ _ => True) (fun q : Nat => sz ≤ q)) 0 0 (fun q : Nat => sz ≤ q) := by
  refine Met.ofW (cc := cX0_cell) (maxL := 2) (ret := some .int) (by decide) rfl ?_
  intro p e s m args below meth c s₁ B hml hv0
  obtain ⟨rfl, hsz, hX, hbl⟩ := hv0
  have hx := B.exec
  have hb := B.bytes
  have hr := B.returns
  have hlocks := B.notSynchronized
  subst hsz
  have hbA : ¬ (fun q : Nat => s.heap.size ≤ q) b := Nat.not_le.mpr hbl
  have hS : va_S (fun q : Nat => s.heap.size ≤ q) s.heap s.heap [] := va_S.rf
  have hl := lv_entry ([.ref b, .int (iI 0)]) (n := 2) (Nat.le_of_ble_eq_true rfl)
  rw [lg_entry_eq]
  generalize (lg_sl ([.ref b, .int (iI 0)]) ++ List.replicate (2 - (lg_sl ([.ref b, .int (iI 0)])).length) Slot.unset).toArray = ls at hl ⊢
  have hl : lv_has ls 2 [(0, .ref b), (1, .int (iI 0))] := hl
  refine lv_iload_n hx hb dX0_cell_0 rfl (lv_at hl 1 rfl) ?_
  refine lv_aload_n hx hb dX0_cell_1 rfl (lv_at hl 0 rfl) ?_
  refine va_slen hx hb hX hbl hbA hS dX0_cell_2 ?_
  refine lv_icmp_ge (tgt := 12) hx hb dX0_cell_3 (by decide) (fun c1 => ?_) (fun c1 => ?_)
  · have c1 : (L : Int) ≤ 0 := (iI_le (a := (L : Int)) (b := 0) (by omega) (by omega)).mp (by rw [iI_nat]; exact c1)
    refine lv_iconst (v := 0) hx hb dX0_cell_12 (by decide) ?_
    exact W.iret (v := 0) hx hb hr (fun t ht hW => ⟨⟨0, (), rfl, by rw [if_neg (by omega)], trivial⟩, hS.F ht⟩) hS.2.2 dX0_cell_13
  · have c1 : ¬ (L : Int) ≤ 0 := fun q => c1 (by
      have := (iI_le (a := (L : Int)) (b := 0) (by omega) (by omega)).mpr q
      rw [iI_nat] at this
      exact this)
    refine lv_aload_n hx hb dX0_cell_6 rfl (lv_at hl 0 rfl) ?_
    refine lv_iload_n hx hb dX0_cell_7 rfl (lv_at hl 1 rfl) ?_
    refine va_sld hx hb hX hbl hbA hS (iI_in (a := 0) (n := L) (by omega) (by omega) (by omega)) dX0_cell_8 ?_
    refine lv_goto (tgt := 13) hx hb dX0_cell_9 (by decide) ?_
    exact W.iret (v := xs (iI 0).toNatClampNeg) hx hb hr (fun t ht hW => ⟨⟨xs (iI 0).toNatClampNeg, (), rfl, by rw [if_pos (by omega), iI_clamp (by omega) (by omega)]; rfl, trivial⟩, hS.F ht⟩) hS.2.2 dX0_cell_13
end
end
section
/-! THE LAW: rows for its script, its switch, and calls of one of two objects -/
section
set_option maxRecDepth 100000
variable {X : Cx} {cc : ByteArray} {nL k : Nat} {own : String} {tys : List (ClassId × FieldType)} {ws : va_W} {lv : List (Option Value)} {pc : Nat} {st rest : List Value}
/-- the script: L ints at b, an old cell -/
def Sc (X : Cx) (b L : Nat) (xs : Nat → Int32) : Prop := match X with
  | (_, _, _, _, s, _, _, _, _, _, _, _, A, _, _) => va_X b L xs s s.heap ∧ b < s.heap.size ∧ ¬ A b
def xv (xs : Nat → Int32) (z : Int) : Int := (xs z.toNat).toInt
theorem xv_rng (xs : Nat → Int32) (z : Int) : -2147483648 ≤ xv xs z ∧ xv xs z ≤ 2147483647 := iI_rng _
theorem g_slen {b L : Nat} {xs : Nat → Int32} (hX : Ok X cc nL k own tys) (hC : Sc X b L xs) (hdg : decode cc pc = .ok (.arraylength, 1)) (kk : G X nL ws lv (pc + 1) (.int (iI (L : Int)) :: rest)) : G X nL ws lv pc (.ref b :: rest) := by
  obtain ⟨p, l, e, R, s, m, args, below, meth, c, Q, D, A, ce, sl⟩ := X
  intro H locs ls hP hD hS hl
  refine va_slen hX.1 hX.2.1 hC.1 hC.2.1 hC.2.2 hS hdg ?_
  have := kk H locs ls hP hD hS hl
  rw [iI_nat] at this
  exact this
theorem g_sld {b L : Nat} {xs : Nat → Int32} (hX : Ok X cc nL k own tys) (hC : Sc X b L xs) (hL : L ≤ 257) {z : Int} (hdg : decode cc pc = .ok (.iaload, 1)) (hz : 0 ≤ z ∧ z < L) (kk : G X nL ws lv (pc + 1) (.int (iI (xv xs z)) :: rest)) : G X nL ws lv pc (.int (iI z) :: .ref b :: rest) := by
  obtain ⟨p, l, e, R, s, m, args, below, meth, c, Q, D, A, ce, sl⟩ := X
  intro H locs ls hP hD hS hl
  refine va_sld hX.1 hX.2.1 hC.1 hC.2.1 hC.2.2 hS (iI_in (n := L) hz.1 hz.2 (by omega)) hdg ?_
  rw [iI_clamp hz.1 (by omega), iI_self (xs z.toNat)]
  exact kk H locs ls hP hD hS hl
theorem g_tabIn (hX : Ok X cc nL k own tys) {x : Int32} {dflt lo hi off : Int} {offs : Array Int} {len tgt : Nat} (hdg : decode cc pc = .ok (.tableswitch dflt lo hi offs, len)) (h1 : ¬ x.toInt < lo) (h2 : ¬ hi < x.toInt) (ho : offs[(x.toInt - lo).toNat]? = some off) (ht : (pc : Int) + off = (tgt : Int)) (kk : G X nL ws lv tgt rest) : G X nL ws lv pc (.int x :: rest) := by
  obtain ⟨p, l, e, R, s, m, args, below, meth, c, Q, D, A, ce, sl⟩ := X
  intro H locs ls hP hD hS hl
  exact lv_tableIn hX.1 hX.2.1 hdg h1 h2 ho ht (kk H locs ls hP hD hS hl)
theorem g_tabOut (hX : Ok X cc nL k own tys) {x : Int32} {dflt lo hi : Int} {offs : Array Int} {len tgt : Nat} (hdg : decode cc pc = .ok (.tableswitch dflt lo hi offs, len)) (h : x.toInt < lo ∨ hi < x.toInt) (ht : (pc : Int) + dflt = (tgt : Int)) (kk : G X nL ws lv tgt rest) : G X nL ws lv pc (.int x :: rest) := by
  obtain ⟨p, l, e, R, s, m, args, below, meth, c, Q, D, A, ce, sl⟩ := X
  intro H locs ls hP hD hS hl
  exact lv_tableOut hX.1 hX.2.1 hdg h ht (kk H locs ls hP hD hS hl)
/-- two answers that are the same -/
theorem g_same (hX : Ok X cc nL k own tys) {x : Int32} {off : Int} {tgt : Nat} (hdg : decode cc pc = .ok (.if_icmp .eq off, 3)) (ht : (pc : Int) + off = (tgt : Int)) (kk : G X nL ws lv tgt rest) : G X nL ws lv pc (.int x :: .int x :: rest) := by
  obtain ⟨p, l, e, R, s, m, args, below, meth, c, Q, D, A, ce, sl⟩ := X
  intro H locs ls hP hD hS hl
  exact lv_icmp_eq hX.1 hX.2.1 hdg ht (fun _ => kk H locs ls hP hD hS hl) (fun h => absurd rfl h)
theorem mask15 (z : Int) : ∃ j : Nat, j < 16 ∧ iI z &&& iI 15 = iI (j : Int) := by
  obtain ⟨j, h1, h2⟩ := pk_andE (iI z) (m := iI 15) 4 (by decide)
  exact ⟨j, h1, by rw [h2, iI_nat]⟩
theorem P_left {D : va_G} {cl : List vw_C} {w1 w2 : va_W} {H : Heap} (h : va_P D cl (w1 ++ w2) H) : va_P D cl w1 H := by
  intro k q hk
  refine h k q ?_
  rw [List.getElem?_append_left (List.getElem?_eq_some_iff.mp hk).1]
  exact hk
theorem K_sub {D : va_G} {cl : List vw_C} {t1 t2 : List (ClassId × FieldType)} {U : State} (h : va_K D cl t2 U) (hs : ∀ t ∈ t1, t ∈ t2) : va_K D cl t1 U := by
  refine ⟨h.1, fun k q hk => ?_⟩
  obtain ⟨i, hi⟩ := List.getElem?_of_mem (hs q (List.mem_of_getElem? hk))
  exact h.2 i q hi
set_option maxHeartbeats 1000000 in
/-- a call of the object whose world stands first; behind it that world stands last -/
theorem g_call2 {S : Type} {y : MethodName} {cc' : ByteArray} {nL' k' idx ci : Nat} {C : String} {rt : Option FieldType} {w1 w2 : va_W} {t1 : List (ClassId × FieldType)} {wf : S → va_W} {As : List Value} {b : Nat} {fs : List Value} {qc : vw_C} {post : Int → S → Prop}
    (hX : Ok X cc nL k own tys) (hM : Ct y cc' nL' rt k' t1 w1 wf (.ref b :: As) post) (hk : k' + 1 ≤ k) (hn' : nL' ≤ 11)
    (hG : GoodIn lw_all (wsV own idx C y (ws_ y cc' nL' rt)))
    (hd : y.cls = C ∧ y.cls ≠ "java/lang/invoke/MethodHandle" ∧ y.cls ≠ "java/lang/invoke/VarHandle" ∧ (parseMethodDescriptor y.desc).map (fun d => d.parameters.length) = some As.length)
    (hcl : vwCl[ci]? = some qc) (hqc : qc.1 = C) (hrecv : w1[0]? = some (b, .inr (ci, fs)))
    (hst : st = As.reverse ++ .ref b :: rest) (hroom : (rest.map fun v => v.category).sum ≤ 8) (hdg : decode cc pc = .ok (.invokevirtual idx, 3))
    (htys : ∀ t ∈ t1, t ∈ tys) (isC isR : List Nat) (hC : isC.map (fun i => (w1 ++ w2)[i]?) = w1.map some) (hR : isR.map (fun i => (w1 ++ w2)[i]?) = w2.map some) (hnC : va_nd isC = true) (hnR : va_nd isR = true) (hdis : ∀ i ∈ isR, i ∉ isC)
    (kk : ∀ (z : Int) (u : S), post z u → G X nL (w2 ++ wf u) lv (pc + 3) (.int (iI z) :: rest)) : G X nL (w1 ++ w2) lv pc st := by
  obtain ⟨p, l, e, R, s, m, args, below, meth, c, Q, D, A, ce, sl⟩ := X
  intro H locs ls hP hD hS hl
  subst hst
  subst hqc
  obtain ⟨hx, hb, hml, hown, hts, hK, hA, hf, hlo, hce, hsl⟩ := hX
  have hPc : va_P D vwCl w1 H := P_left hP
  have hDc := hD.sub (ws' := w1) isC hnC hC
  have hKc : va_K D vwCl t1 s := K_sub hK htys
  have hFc := va_free (wc := w1) hD hS hA isC hC
  refine va_calli (va_runV (C := qc.1) (As := As) (rest := rest) ⟨hx, hb, hml, hown, hts⟩ (hM l D H.size) (cwV As.length hts hG rfl rfl rfl hd ⟨by show k' + 1 ≤ R.frames; omega, by show 8 + (nL' + 11) + 30 * k' ≤ R.locals; omega⟩) ⟨fun a U g mk q => by obtain ⟨q0, q1, qP, qK, qD⟩ := q; exact ⟨q0, q1, qP, va_K.moved (u := U) (U := U.calling g mk a) (Vm.Alike.refl U.vm) qK, qD⟩, va_recv hK hPc hcl hrecv, fun U hU hW => ⟨rfl, by rw [hU], by rw [hU]; exact hPc, va_K.moved hW.alike hKc, hDc.weaken (fun _ _ _ _ => trivial)⟩⟩ rfl rfl hl.size rfl (lv_room hroom) hdg ⟨hce, hsl⟩) hS (fun q _ h => hFc q h) hFc (fun r u t H1 locs1 ht hvm hw hB hz1 hk1 hS1 => ?_)
  obtain ⟨z, rfl, hp⟩ := hw
  obtain ⟨hP1, hK1, hD1⟩ := hB
  rw [ht] at hP1
  obtain ⟨hP2, hD2⟩ := va_join (wr := w2) (w1 := wf u) hP hD isC isR hC hR hnR hdis hk1 hFc hP1 hD1
  exact kk z u hp H1 locs1 ls hP2 hD2 hS1 hl
end
end
section
/-! THE LAW'S LOOP -/
section
set_option maxRecDepth 100000
variable {X : Cx} {b L : Nat} {xs : Nat → Int32} {h h' : Nat} {q q' : Nat → Nat} {kA kA' : Nat → ClassId} {i : Int} {d f : DS} {P : Int → Bool}
set_option maxHeartbeats 4000000 in
theorem law_add (hX : Ok X cL_law 4 9 RX0 (TyX kA ++ TyY kA')) (hC : Sc X b L xs) (hL : L ≤ 257) (hi : 1 ≤ i ∧ i ≤ L - 4) (hR : Rl d f P) (K : ∀ (e g : DS) (P' : Int → Bool), Rl e g P' → G X 4 (WX h q kA e ++ WY h' q' kA' g) [some (.ref b), some (.ref h), some (.ref h'), some (.int (iI i))] 447 []) : G X 4 (WX h q kA d ++ WY h' q' kA' f) [some (.ref b), some (.ref h), some (.ref h'), some (.int (iI i))] 108 [] := by
  have hK := hR.1
  have hd := hR.1.1
  have hp := hR.1.2.1
  have hM := hR.2.1
  have r1 := xv_rng xs (i + 1)
  have r2 := xv_rng xs (i + 2)
  have r3 := xv_rng xs (i + 3)
  refine g_aload_n hX dL_law_108 rfl ?_
  refine g_aload_n hX dL_law_109 rfl ?_
  refine g_iload_n hX dL_law_110 rfl ?_
  refine g_iconst hX dL_law_111 ?_
  refine g_iadd hX dL_law_112 ?_
  refine g_sld hX hC hL dL_law_113 (by omega) ?_
  refine g_aload_n hX dL_law_114 rfl ?_
  refine g_iload_n hX dL_law_115 rfl ?_
  refine g_iconst hX dL_law_116 ?_
  refine g_iadd hX dL_law_117 ?_
  refine g_sld hX hC hL dL_law_118 (by omega) ?_
  refine g_aload_n hX dL_law_119 rfl ?_
  refine g_iload_n hX dL_law_120 rfl ?_
  refine g_iconst hX dL_law_121 ?_
  refine g_iadd hX dL_law_122 ?_
  refine g_sld hX hC hL dL_law_123 (by omega) ?_
  refine g_call2 hX (ct_add hd hp r1 r2 r3) (by decide) (by decide) LwX1_add (hdX1_add npX1_add) (ci := 0) rfl rfl rfl rfl (Nat.le_of_ble_eq_true rfl) dL_law_124 (fun t ht => List.mem_append_left _ ht) [0, 1, 2, 3, 4, 5, 6, 7, 8, 9, 10] [11, 12, 13, 14] rfl rfl (by decide) (by decide) (by decide) (fun z e hz => ?_)
  refine g_aload_n hX dL_law_127 rfl ?_
  refine g_aload_n hX dL_law_128 rfl ?_
  refine g_iload_n hX dL_law_129 rfl ?_
  refine g_iconst hX dL_law_130 ?_
  refine g_iadd hX dL_law_131 ?_
  refine g_sld hX hC hL dL_law_132 (by omega) ?_
  refine g_aload_n hX dL_law_133 rfl ?_
  refine g_iload_n hX dL_law_134 rfl ?_
  refine g_iconst hX dL_law_135 ?_
  refine g_iadd hX dL_law_136 ?_
  refine g_sld hX hC hL dL_law_137 (by omega) ?_
  refine g_aload_n hX dL_law_138 rfl ?_
  refine g_iload_n hX dL_law_139 rfl ?_
  refine g_iconst hX dL_law_140 ?_
  refine g_iadd hX dL_law_141 ?_
  refine g_sld hX hC hL dL_law_142 (by omega) ?_
  refine g_call2 hX (cm_add hM r1 r2 r3) (by decide) (by decide) LwX2_add (hdX2_add npX2_add) (ci := 1) rfl rfl rfl rfl (Nat.le_of_ble_eq_true rfl) dL_law_143 (fun t ht => List.mem_append_right _ ht) [0, 1, 2, 3] [4, 5, 6, 7, 8, 9, 10, 11, 12, 13, 14] rfl rfl (by decide) (by decide) (by decide) (fun z' g hz' => ?_)
  obtain ⟨hzz, P', hR'⟩ := e_add hR hz hz'
  subst hzz
  refine g_same (tgt := 447) hX dL_law_146 (by decide) ?_
  exact K e g P' hR'
set_option maxHeartbeats 4000000 in
theorem law_remove (hX : Ok X cL_law 4 9 RX0 (TyX kA ++ TyY kA')) (hC : Sc X b L xs) (hL : L ≤ 257) (hi : 1 ≤ i ∧ i ≤ L - 4) (hR : Rl d f P) (K : ∀ (e g : DS) (P' : Int → Bool), Rl e g P' → G X 4 (WX h q kA e ++ WY h' q' kA' g) [some (.ref b), some (.ref h), some (.ref h'), some (.int (iI i))] 447 []) : G X 4 (WX h q kA d ++ WY h' q' kA' f) [some (.ref b), some (.ref h), some (.ref h'), some (.int (iI i))] 151 [] := by
  have hK := hR.1
  have hd := hR.1.1
  have hp := hR.1.2.1
  have hM := hR.2.1
  have r1 := xv_rng xs (i + 1)
  refine g_aload_n hX dL_law_151 rfl ?_
  refine g_aload_n hX dL_law_152 rfl ?_
  refine g_iload_n hX dL_law_153 rfl ?_
  refine g_iconst hX dL_law_154 ?_
  refine g_iadd hX dL_law_155 ?_
  refine g_sld hX hC hL dL_law_156 (by omega) ?_
  refine g_call2 hX (ct_remove hp r1) (by decide) (by decide) LwX1_remove (hdX1_remove npX1_remove) (ci := 0) rfl rfl rfl rfl (Nat.le_of_ble_eq_true rfl) dL_law_157 (fun t ht => List.mem_append_left _ ht) [0, 1, 2, 3, 4, 5, 6, 7, 8, 9, 10] [11, 12, 13, 14] rfl rfl (by decide) (by decide) (by decide) (fun z e hz => ?_)
  refine g_aload_n hX dL_law_160 rfl ?_
  refine g_aload_n hX dL_law_161 rfl ?_
  refine g_iload_n hX dL_law_162 rfl ?_
  refine g_iconst hX dL_law_163 ?_
  refine g_iadd hX dL_law_164 ?_
  refine g_sld hX hC hL dL_law_165 (by omega) ?_
  refine g_call2 hX (cm_remove hM r1) (by decide) (by decide) LwX2_remove (hdX2_remove npX2_remove) (ci := 1) rfl rfl rfl rfl (Nat.le_of_ble_eq_true rfl) dL_law_166 (fun t ht => List.mem_append_right _ ht) [0, 1, 2, 3] [4, 5, 6, 7, 8, 9, 10, 11, 12, 13, 14] rfl rfl (by decide) (by decide) (by decide) (fun z' g hz' => ?_)
  obtain ⟨hzz, P', hR'⟩ := e_remove hR hz hz'
  subst hzz
  refine g_same (tgt := 447) hX dL_law_169 (by decide) ?_
  exact K e g P' hR'
set_option maxHeartbeats 4000000 in
theorem law_setTime (hX : Ok X cL_law 4 9 RX0 (TyX kA ++ TyY kA')) (hC : Sc X b L xs) (hL : L ≤ 257) (hi : 1 ≤ i ∧ i ≤ L - 4) (hR : Rl d f P) (K : ∀ (e g : DS) (P' : Int → Bool), Rl e g P' → G X 4 (WX h q kA e ++ WY h' q' kA' g) [some (.ref b), some (.ref h), some (.ref h'), some (.int (iI i))] 447 []) : G X 4 (WX h q kA d ++ WY h' q' kA' f) [some (.ref b), some (.ref h), some (.ref h'), some (.int (iI i))] 174 [] := by
  have hK := hR.1
  have hd := hR.1.1
  have hp := hR.1.2.1
  have hM := hR.2.1
  have r1 := xv_rng xs (i + 1)
  have r2 := xv_rng xs (i + 2)
  have r3 := xv_rng xs (i + 3)
  refine g_aload_n hX dL_law_174 rfl ?_
  refine g_aload_n hX dL_law_175 rfl ?_
  refine g_iload_n hX dL_law_176 rfl ?_
  refine g_iconst hX dL_law_177 ?_
  refine g_iadd hX dL_law_178 ?_
  refine g_sld hX hC hL dL_law_179 (by omega) ?_
  refine g_aload_n hX dL_law_180 rfl ?_
  refine g_iload_n hX dL_law_181 rfl ?_
  refine g_iconst hX dL_law_182 ?_
  refine g_iadd hX dL_law_183 ?_
  refine g_sld hX hC hL dL_law_184 (by omega) ?_
  refine g_aload_n hX dL_law_185 rfl ?_
  refine g_iload_n hX dL_law_186 rfl ?_
  refine g_iconst hX dL_law_187 ?_
  refine g_iadd hX dL_law_188 ?_
  refine g_sld hX hC hL dL_law_189 (by omega) ?_
  refine g_call2 hX (ct_setTime hd hp r1 r2 r3) (by decide) (by decide) LwX1_setTime (hdX1_setTime npX1_setTime) (ci := 0) rfl rfl rfl rfl (Nat.le_of_ble_eq_true rfl) dL_law_190 (fun t ht => List.mem_append_left _ ht) [0, 1, 2, 3, 4, 5, 6, 7, 8, 9, 10] [11, 12, 13, 14] rfl rfl (by decide) (by decide) (by decide) (fun z e hz => ?_)
  refine g_aload_n hX dL_law_193 rfl ?_
  refine g_aload_n hX dL_law_194 rfl ?_
  refine g_iload_n hX dL_law_195 rfl ?_
  refine g_iconst hX dL_law_196 ?_
  refine g_iadd hX dL_law_197 ?_
  refine g_sld hX hC hL dL_law_198 (by omega) ?_
  refine g_aload_n hX dL_law_199 rfl ?_
  refine g_iload_n hX dL_law_200 rfl ?_
  refine g_iconst hX dL_law_201 ?_
  refine g_iadd hX dL_law_202 ?_
  refine g_sld hX hC hL dL_law_203 (by omega) ?_
  refine g_aload_n hX dL_law_204 rfl ?_
  refine g_iload_n hX dL_law_205 rfl ?_
  refine g_iconst hX dL_law_206 ?_
  refine g_iadd hX dL_law_207 ?_
  refine g_sld hX hC hL dL_law_208 (by omega) ?_
  refine g_call2 hX (cm_setTime hM r1 r2 r3) (by decide) (by decide) LwX2_setTime (hdX2_setTime npX2_setTime) (ci := 1) rfl rfl rfl rfl (Nat.le_of_ble_eq_true rfl) dL_law_209 (fun t ht => List.mem_append_right _ ht) [0, 1, 2, 3] [4, 5, 6, 7, 8, 9, 10, 11, 12, 13, 14] rfl rfl (by decide) (by decide) (by decide) (fun z' g hz' => ?_)
  obtain ⟨hzz, P', hR'⟩ := e_setTime hR hz hz'
  subst hzz
  refine g_same (tgt := 447) hX dL_law_212 (by decide) ?_
  exact K e g P' hR'
set_option maxHeartbeats 4000000 in
theorem law_jobs (hX : Ok X cL_law 4 9 RX0 (TyX kA ++ TyY kA')) (hC : Sc X b L xs) (hL : L ≤ 257) (hi : 1 ≤ i ∧ i ≤ L - 4) (hR : Rl d f P) (K : ∀ (e g : DS) (P' : Int → Bool), Rl e g P' → G X 4 (WX h q kA e ++ WY h' q' kA' g) [some (.ref b), some (.ref h), some (.ref h'), some (.int (iI i))] 447 []) : G X 4 (WX h q kA d ++ WY h' q' kA' f) [some (.ref b), some (.ref h), some (.ref h'), some (.int (iI i))] 217 [] := by
  have hK := hR.1
  have hd := hR.1.1
  have hp := hR.1.2.1
  have hM := hR.2.1
  refine g_aload_n hX dL_law_217 rfl ?_
  refine g_call2 hX (ct_jobs ) (by decide) (by decide) LwX1_jobs (hdX1_jobs npX1_jobs) (ci := 0) rfl rfl rfl rfl (Nat.le_of_ble_eq_true rfl) dL_law_218 (fun t ht => List.mem_append_left _ ht) [0, 1, 2, 3, 4, 5, 6, 7, 8, 9, 10] [11, 12, 13, 14] rfl rfl (by decide) (by decide) (by decide) (fun z _ hz => ?_)
  refine g_aload_n hX dL_law_221 rfl ?_
  refine g_call2 hX (cm_jobs hM) (by decide) (by decide) LwX2_jobs (hdX2_jobs npX2_jobs) (ci := 1) rfl rfl rfl rfl (Nat.le_of_ble_eq_true rfl) dL_law_222 (fun t ht => List.mem_append_right _ ht) [0, 1, 2, 3] [4, 5, 6, 7, 8, 9, 10, 11, 12, 13, 14] rfl rfl (by decide) (by decide) (by decide) (fun z' _ hz' => ?_)
  have hzz := e_jobs hR hz hz'
  subst hzz
  refine g_same (tgt := 447) hX dL_law_225 (by decide) ?_
  exact K d f P hR
set_option maxHeartbeats 4000000 in
theorem law_time (hX : Ok X cL_law 4 9 RX0 (TyX kA ++ TyY kA')) (hC : Sc X b L xs) (hL : L ≤ 257) (hi : 1 ≤ i ∧ i ≤ L - 4) (hR : Rl d f P) (K : ∀ (e g : DS) (P' : Int → Bool), Rl e g P' → G X 4 (WX h q kA e ++ WY h' q' kA' g) [some (.ref b), some (.ref h), some (.ref h'), some (.int (iI i))] 447 []) : G X 4 (WX h q kA d ++ WY h' q' kA' f) [some (.ref b), some (.ref h), some (.ref h'), some (.int (iI i))] 230 [] := by
  have hK := hR.1
  have hd := hR.1.1
  have hp := hR.1.2.1
  have hM := hR.2.1
  have r1 := xv_rng xs (i + 1)
  have r2 := xv_rng xs (i + 2)
  refine g_aload_n hX dL_law_230 rfl ?_
  refine g_aload_n hX dL_law_231 rfl ?_
  refine g_iload_n hX dL_law_232 rfl ?_
  refine g_iconst hX dL_law_233 ?_
  refine g_iadd hX dL_law_234 ?_
  refine g_sld hX hC hL dL_law_235 (by omega) ?_
  refine g_aload_n hX dL_law_236 rfl ?_
  refine g_iload_n hX dL_law_237 rfl ?_
  refine g_iconst hX dL_law_238 ?_
  refine g_iadd hX dL_law_239 ?_
  refine g_sld hX hC hL dL_law_240 (by omega) ?_
  refine g_call2 hX (ct_time hd hp r1 r2) (by decide) (by decide) LwX1_time (hdX1_time npX1_time) (ci := 0) rfl rfl rfl rfl (Nat.le_of_ble_eq_true rfl) dL_law_241 (fun t ht => List.mem_append_left _ ht) [0, 1, 2, 3, 4, 5, 6, 7, 8, 9, 10] [11, 12, 13, 14] rfl rfl (by decide) (by decide) (by decide) (fun z _ hz => ?_)
  refine g_aload_n hX dL_law_244 rfl ?_
  refine g_aload_n hX dL_law_245 rfl ?_
  refine g_iload_n hX dL_law_246 rfl ?_
  refine g_iconst hX dL_law_247 ?_
  refine g_iadd hX dL_law_248 ?_
  refine g_sld hX hC hL dL_law_249 (by omega) ?_
  refine g_aload_n hX dL_law_250 rfl ?_
  refine g_iload_n hX dL_law_251 rfl ?_
  refine g_iconst hX dL_law_252 ?_
  refine g_iadd hX dL_law_253 ?_
  refine g_sld hX hC hL dL_law_254 (by omega) ?_
  refine g_call2 hX (cm_time hM r1 r2) (by decide) (by decide) LwX2_time (hdX2_time npX2_time) (ci := 1) rfl rfl rfl rfl (Nat.le_of_ble_eq_true rfl) dL_law_255 (fun t ht => List.mem_append_right _ ht) [0, 1, 2, 3] [4, 5, 6, 7, 8, 9, 10, 11, 12, 13, 14] rfl rfl (by decide) (by decide) (by decide) (fun z' _ hz' => ?_)
  have hzz := e_time hR hz hz'
  subst hzz
  refine g_same (tgt := 447) hX dL_law_258 (by decide) ?_
  exact K d f P hR
set_option maxHeartbeats 4000000 in
theorem law_least (hX : Ok X cL_law 4 9 RX0 (TyX kA ++ TyY kA')) (hC : Sc X b L xs) (hL : L ≤ 257) (hi : 1 ≤ i ∧ i ≤ L - 4) (hR : Rl d f P) (K : ∀ (e g : DS) (P' : Int → Bool), Rl e g P' → G X 4 (WX h q kA e ++ WY h' q' kA' g) [some (.ref b), some (.ref h), some (.ref h'), some (.int (iI i))] 447 []) : G X 4 (WX h q kA d ++ WY h' q' kA' f) [some (.ref b), some (.ref h), some (.ref h'), some (.int (iI i))] 263 [] := by
  have hK := hR.1
  have hd := hR.1.1
  have hp := hR.1.2.1
  have hM := hR.2.1
  refine g_aload_n hX dL_law_263 rfl ?_
  refine g_call2 hX (ct_least hK) (by decide) (by decide) LwX1_least (hdX1_least npX1_least) (ci := 0) rfl rfl rfl rfl (Nat.le_of_ble_eq_true rfl) dL_law_264 (fun t ht => List.mem_append_left _ ht) [0, 1, 2, 3, 4, 5, 6, 7, 8, 9, 10] [11, 12, 13, 14] rfl rfl (by decide) (by decide) (by decide) (fun z e hz => ?_)
  refine g_aload_n hX dL_law_267 rfl ?_
  refine g_call2 hX (cm_least hM) (by decide) (by decide) LwX2_least (hdX2_least npX2_least) (ci := 1) rfl rfl rfl rfl (Nat.le_of_ble_eq_true rfl) dL_law_268 (fun t ht => List.mem_append_right _ ht) [0, 1, 2, 3] [4, 5, 6, 7, 8, 9, 10, 11, 12, 13, 14] rfl rfl (by decide) (by decide) (by decide) (fun z' g hz' => ?_)
  obtain ⟨hzz, hR'⟩ := e_least hR hz hz'
  subst hzz
  refine g_same (tgt := 447) hX dL_law_271 (by decide) ?_
  exact K e g P hR'
set_option maxHeartbeats 4000000 in
theorem law_machineOf (hX : Ok X cL_law 4 9 RX0 (TyX kA ++ TyY kA')) (hC : Sc X b L xs) (hL : L ≤ 257) (hi : 1 ≤ i ∧ i ≤ L - 4) (hR : Rl d f P) (K : ∀ (e g : DS) (P' : Int → Bool), Rl e g P' → G X 4 (WX h q kA e ++ WY h' q' kA' g) [some (.ref b), some (.ref h), some (.ref h'), some (.int (iI i))] 447 []) : G X 4 (WX h q kA d ++ WY h' q' kA' f) [some (.ref b), some (.ref h), some (.ref h'), some (.int (iI i))] 276 [] := by
  have hK := hR.1
  have hd := hR.1.1
  have hp := hR.1.2.1
  have hM := hR.2.1
  have r1 := xv_rng xs (i + 1)
  refine g_aload_n hX dL_law_276 rfl ?_
  refine g_aload_n hX dL_law_277 rfl ?_
  refine g_iload_n hX dL_law_278 rfl ?_
  refine g_iconst hX dL_law_279 ?_
  refine g_iadd hX dL_law_280 ?_
  refine g_sld hX hC hL dL_law_281 (by omega) ?_
  refine g_call2 hX (ct_machineOf hK r1) (by decide) (by decide) LwX1_machineOf (hdX1_machineOf npX1_machineOf) (ci := 0) rfl rfl rfl rfl (Nat.le_of_ble_eq_true rfl) dL_law_282 (fun t ht => List.mem_append_left _ ht) [0, 1, 2, 3, 4, 5, 6, 7, 8, 9, 10] [11, 12, 13, 14] rfl rfl (by decide) (by decide) (by decide) (fun z e hz => ?_)
  refine g_aload_n hX dL_law_285 rfl ?_
  refine g_aload_n hX dL_law_286 rfl ?_
  refine g_iload_n hX dL_law_287 rfl ?_
  refine g_iconst hX dL_law_288 ?_
  refine g_iadd hX dL_law_289 ?_
  refine g_sld hX hC hL dL_law_290 (by omega) ?_
  refine g_call2 hX (cm_machineOf hM r1) (by decide) (by decide) LwX2_machineOf (hdX2_machineOf npX2_machineOf) (ci := 1) rfl rfl rfl rfl (Nat.le_of_ble_eq_true rfl) dL_law_291 (fun t ht => List.mem_append_right _ ht) [0, 1, 2, 3] [4, 5, 6, 7, 8, 9, 10, 11, 12, 13, 14] rfl rfl (by decide) (by decide) (by decide) (fun z' g hz' => ?_)
  obtain ⟨hzz, hR'⟩ := e_machineOf hR hz hz'
  subst hzz
  refine g_same (tgt := 447) hX dL_law_294 (by decide) ?_
  exact K e g P hR'
set_option maxHeartbeats 4000000 in
theorem law_finishOf (hX : Ok X cL_law 4 9 RX0 (TyX kA ++ TyY kA')) (hC : Sc X b L xs) (hL : L ≤ 257) (hi : 1 ≤ i ∧ i ≤ L - 4) (hR : Rl d f P) (K : ∀ (e g : DS) (P' : Int → Bool), Rl e g P' → G X 4 (WX h q kA e ++ WY h' q' kA' g) [some (.ref b), some (.ref h), some (.ref h'), some (.int (iI i))] 447 []) : G X 4 (WX h q kA d ++ WY h' q' kA' f) [some (.ref b), some (.ref h), some (.ref h'), some (.int (iI i))] 299 [] := by
  have hK := hR.1
  have hd := hR.1.1
  have hp := hR.1.2.1
  have hM := hR.2.1
  have r1 := xv_rng xs (i + 1)
  refine g_aload_n hX dL_law_299 rfl ?_
  refine g_aload_n hX dL_law_300 rfl ?_
  refine g_iload_n hX dL_law_301 rfl ?_
  refine g_iconst hX dL_law_302 ?_
  refine g_iadd hX dL_law_303 ?_
  refine g_sld hX hC hL dL_law_304 (by omega) ?_
  refine g_call2 hX (ct_finishOf hK r1) (by decide) (by decide) LwX1_finishOf (hdX1_finishOf npX1_finishOf) (ci := 0) rfl rfl rfl rfl (Nat.le_of_ble_eq_true rfl) dL_law_305 (fun t ht => List.mem_append_left _ ht) [0, 1, 2, 3, 4, 5, 6, 7, 8, 9, 10] [11, 12, 13, 14] rfl rfl (by decide) (by decide) (by decide) (fun z e hz => ?_)
  refine g_aload_n hX dL_law_308 rfl ?_
  refine g_aload_n hX dL_law_309 rfl ?_
  refine g_iload_n hX dL_law_310 rfl ?_
  refine g_iconst hX dL_law_311 ?_
  refine g_iadd hX dL_law_312 ?_
  refine g_sld hX hC hL dL_law_313 (by omega) ?_
  refine g_call2 hX (cm_finishOf hM r1) (by decide) (by decide) LwX2_finishOf (hdX2_finishOf npX2_finishOf) (ci := 1) rfl rfl rfl rfl (Nat.le_of_ble_eq_true rfl) dL_law_314 (fun t ht => List.mem_append_right _ ht) [0, 1, 2, 3] [4, 5, 6, 7, 8, 9, 10, 11, 12, 13, 14] rfl rfl (by decide) (by decide) (by decide) (fun z' g hz' => ?_)
  obtain ⟨hzz, hR'⟩ := e_finishOf hR hz hz'
  subst hzz
  refine g_same (tgt := 447) hX dL_law_317 (by decide) ?_
  exact K e g P hR'
set_option maxHeartbeats 4000000 in
theorem law_leastWith (hX : Ok X cL_law 4 9 RX0 (TyX kA ++ TyY kA')) (hC : Sc X b L xs) (hL : L ≤ 257) (hi : 1 ≤ i ∧ i ≤ L - 4) (hR : Rl d f P) (K : ∀ (e g : DS) (P' : Int → Bool), Rl e g P' → G X 4 (WX h q kA e ++ WY h' q' kA' g) [some (.ref b), some (.ref h), some (.ref h'), some (.int (iI i))] 447 []) : G X 4 (WX h q kA d ++ WY h' q' kA' f) [some (.ref b), some (.ref h), some (.ref h'), some (.int (iI i))] 322 [] := by
  have hK := hR.1
  have hd := hR.1.1
  have hp := hR.1.2.1
  have hM := hR.2.1
  have r1 := xv_rng xs (i + 1)
  have r2 := xv_rng xs (i + 2)
  refine g_aload_n hX dL_law_322 rfl ?_
  refine g_aload_n hX dL_law_323 rfl ?_
  refine g_iload_n hX dL_law_324 rfl ?_
  refine g_iconst hX dL_law_325 ?_
  refine g_iadd hX dL_law_326 ?_
  refine g_sld hX hC hL dL_law_327 (by omega) ?_
  refine g_aload_n hX dL_law_328 rfl ?_
  refine g_iload_n hX dL_law_329 rfl ?_
  refine g_iconst hX dL_law_330 ?_
  refine g_iadd hX dL_law_331 ?_
  refine g_sld hX hC hL dL_law_332 (by omega) ?_
  refine g_call2 hX (ct_leastWith hd hp r1 r2) (by decide) (by decide) LwX1_leastWith (hdX1_leastWith npX1_leastWith) (ci := 0) rfl rfl rfl rfl (Nat.le_of_ble_eq_true rfl) dL_law_333 (fun t ht => List.mem_append_left _ ht) [0, 1, 2, 3, 4, 5, 6, 7, 8, 9, 10] [11, 12, 13, 14] rfl rfl (by decide) (by decide) (by decide) (fun z e hz => ?_)
  refine g_aload_n hX dL_law_336 rfl ?_
  refine g_aload_n hX dL_law_337 rfl ?_
  refine g_iload_n hX dL_law_338 rfl ?_
  refine g_iconst hX dL_law_339 ?_
  refine g_iadd hX dL_law_340 ?_
  refine g_sld hX hC hL dL_law_341 (by omega) ?_
  refine g_aload_n hX dL_law_342 rfl ?_
  refine g_iload_n hX dL_law_343 rfl ?_
  refine g_iconst hX dL_law_344 ?_
  refine g_iadd hX dL_law_345 ?_
  refine g_sld hX hC hL dL_law_346 (by omega) ?_
  refine g_call2 hX (cm_leastWith hM r1 r2) (by decide) (by decide) LwX2_leastWith (hdX2_leastWith npX2_leastWith) (ci := 1) rfl rfl rfl rfl (Nat.le_of_ble_eq_true rfl) dL_law_347 (fun t ht => List.mem_append_right _ ht) [0, 1, 2, 3] [4, 5, 6, 7, 8, 9, 10, 11, 12, 13, 14] rfl rfl (by decide) (by decide) (by decide) (fun z' g hz' => ?_)
  obtain ⟨hzz, hR'⟩ := e_leastWith hR hz hz'
  subst hzz
  refine g_same (tgt := 447) hX dL_law_350 (by decide) ?_
  exact K e g P hR'
set_option maxHeartbeats 4000000 in
theorem law_leastWithout (hX : Ok X cL_law 4 9 RX0 (TyX kA ++ TyY kA')) (hC : Sc X b L xs) (hL : L ≤ 257) (hi : 1 ≤ i ∧ i ≤ L - 4) (hR : Rl d f P) (K : ∀ (e g : DS) (P' : Int → Bool), Rl e g P' → G X 4 (WX h q kA e ++ WY h' q' kA' g) [some (.ref b), some (.ref h), some (.ref h'), some (.int (iI i))] 447 []) : G X 4 (WX h q kA d ++ WY h' q' kA' f) [some (.ref b), some (.ref h), some (.ref h'), some (.int (iI i))] 355 [] := by
  have hK := hR.1
  have hd := hR.1.1
  have hp := hR.1.2.1
  have hM := hR.2.1
  have r1 := xv_rng xs (i + 1)
  refine g_aload_n hX dL_law_355 rfl ?_
  refine g_aload_n hX dL_law_356 rfl ?_
  refine g_iload_n hX dL_law_357 rfl ?_
  refine g_iconst hX dL_law_358 ?_
  refine g_iadd hX dL_law_359 ?_
  refine g_sld hX hC hL dL_law_360 (by omega) ?_
  refine g_call2 hX (ct_leastWithout hd hp r1) (by decide) (by decide) LwX1_leastWithout (hdX1_leastWithout npX1_leastWithout) (ci := 0) rfl rfl rfl rfl (Nat.le_of_ble_eq_true rfl) dL_law_361 (fun t ht => List.mem_append_left _ ht) [0, 1, 2, 3, 4, 5, 6, 7, 8, 9, 10] [11, 12, 13, 14] rfl rfl (by decide) (by decide) (by decide) (fun z e hz => ?_)
  refine g_aload_n hX dL_law_364 rfl ?_
  refine g_aload_n hX dL_law_365 rfl ?_
  refine g_iload_n hX dL_law_366 rfl ?_
  refine g_iconst hX dL_law_367 ?_
  refine g_iadd hX dL_law_368 ?_
  refine g_sld hX hC hL dL_law_369 (by omega) ?_
  refine g_call2 hX (cm_leastWithout hM r1) (by decide) (by decide) LwX2_leastWithout (hdX2_leastWithout npX2_leastWithout) (ci := 1) rfl rfl rfl rfl (Nat.le_of_ble_eq_true rfl) dL_law_370 (fun t ht => List.mem_append_right _ ht) [0, 1, 2, 3] [4, 5, 6, 7, 8, 9, 10, 11, 12, 13, 14] rfl rfl (by decide) (by decide) (by decide) (fun z' g hz' => ?_)
  obtain ⟨hzz, hR'⟩ := e_leastWithout hR hz hz'
  subst hzz
  refine g_same (tgt := 447) hX dL_law_373 (by decide) ?_
  exact K e g P hR'
set_option maxHeartbeats 4000000 in
theorem law_leastDoubled (hX : Ok X cL_law 4 9 RX0 (TyX kA ++ TyY kA')) (hC : Sc X b L xs) (hL : L ≤ 257) (hi : 1 ≤ i ∧ i ≤ L - 4) (hR : Rl d f P) (K : ∀ (e g : DS) (P' : Int → Bool), Rl e g P' → G X 4 (WX h q kA e ++ WY h' q' kA' g) [some (.ref b), some (.ref h), some (.ref h'), some (.int (iI i))] 447 []) : G X 4 (WX h q kA d ++ WY h' q' kA' f) [some (.ref b), some (.ref h), some (.ref h'), some (.int (iI i))] 378 [] := by
  have hK := hR.1
  have hd := hR.1.1
  have hp := hR.1.2.1
  have hM := hR.2.1
  have r1 := xv_rng xs (i + 1)
  refine g_aload_n hX dL_law_378 rfl ?_
  refine g_aload_n hX dL_law_379 rfl ?_
  refine g_iload_n hX dL_law_380 rfl ?_
  refine g_iconst hX dL_law_381 ?_
  refine g_iadd hX dL_law_382 ?_
  refine g_sld hX hC hL dL_law_383 (by omega) ?_
  refine g_call2 hX (ct_leastDoubled hd hp r1) (by decide) (by decide) LwX1_leastDoubled (hdX1_leastDoubled npX1_leastDoubled) (ci := 0) rfl rfl rfl rfl (Nat.le_of_ble_eq_true rfl) dL_law_384 (fun t ht => List.mem_append_left _ ht) [0, 1, 2, 3, 4, 5, 6, 7, 8, 9, 10] [11, 12, 13, 14] rfl rfl (by decide) (by decide) (by decide) (fun z e hz => ?_)
  refine g_aload_n hX dL_law_387 rfl ?_
  refine g_aload_n hX dL_law_388 rfl ?_
  refine g_iload_n hX dL_law_389 rfl ?_
  refine g_iconst hX dL_law_390 ?_
  refine g_iadd hX dL_law_391 ?_
  refine g_sld hX hC hL dL_law_392 (by omega) ?_
  refine g_call2 hX (cm_leastDoubled hM r1) (by decide) (by decide) LwX2_leastDoubled (hdX2_leastDoubled npX2_leastDoubled) (ci := 1) rfl rfl rfl rfl (Nat.le_of_ble_eq_true rfl) dL_law_393 (fun t ht => List.mem_append_right _ ht) [0, 1, 2, 3] [4, 5, 6, 7, 8, 9, 10, 11, 12, 13, 14] rfl rfl (by decide) (by decide) (by decide) (fun z' g hz' => ?_)
  obtain ⟨hzz, hR'⟩ := e_leastDoubled hR hz hz'
  subst hzz
  refine g_same (tgt := 447) hX dL_law_396 (by decide) ?_
  exact K e g P hR'
set_option maxHeartbeats 4000000 in
theorem law_leastIdle (hX : Ok X cL_law 4 9 RX0 (TyX kA ++ TyY kA')) (hC : Sc X b L xs) (hL : L ≤ 257) (hi : 1 ≤ i ∧ i ≤ L - 4) (hR : Rl d f P) (K : ∀ (e g : DS) (P' : Int → Bool), Rl e g P' → G X 4 (WX h q kA e ++ WY h' q' kA' g) [some (.ref b), some (.ref h), some (.ref h'), some (.int (iI i))] 447 []) : G X 4 (WX h q kA d ++ WY h' q' kA' f) [some (.ref b), some (.ref h), some (.ref h'), some (.int (iI i))] 401 [] := by
  have hK := hR.1
  have hd := hR.1.1
  have hp := hR.1.2.1
  have hM := hR.2.1
  have r1 := xv_rng xs (i + 1)
  refine g_aload_n hX dL_law_401 rfl ?_
  refine g_aload_n hX dL_law_402 rfl ?_
  refine g_iload_n hX dL_law_403 rfl ?_
  refine g_iconst hX dL_law_404 ?_
  refine g_iadd hX dL_law_405 ?_
  refine g_sld hX hC hL dL_law_406 (by omega) ?_
  refine g_call2 hX (ct_leastIdle hd hp r1) (by decide) (by decide) LwX1_leastIdle (hdX1_leastIdle npX1_leastIdle) (ci := 0) rfl rfl rfl rfl (Nat.le_of_ble_eq_true rfl) dL_law_407 (fun t ht => List.mem_append_left _ ht) [0, 1, 2, 3, 4, 5, 6, 7, 8, 9, 10] [11, 12, 13, 14] rfl rfl (by decide) (by decide) (by decide) (fun z e hz => ?_)
  refine g_aload_n hX dL_law_410 rfl ?_
  refine g_aload_n hX dL_law_411 rfl ?_
  refine g_iload_n hX dL_law_412 rfl ?_
  refine g_iconst hX dL_law_413 ?_
  refine g_iadd hX dL_law_414 ?_
  refine g_sld hX hC hL dL_law_415 (by omega) ?_
  refine g_call2 hX (cm_leastIdle hM r1) (by decide) (by decide) LwX2_leastIdle (hdX2_leastIdle npX2_leastIdle) (ci := 1) rfl rfl rfl rfl (Nat.le_of_ble_eq_true rfl) dL_law_416 (fun t ht => List.mem_append_right _ ht) [0, 1, 2, 3] [4, 5, 6, 7, 8, 9, 10, 11, 12, 13, 14] rfl rfl (by decide) (by decide) (by decide) (fun z' g hz' => ?_)
  obtain ⟨hzz, hR'⟩ := e_leastIdle hR hz hz'
  subst hzz
  refine g_same (tgt := 447) hX dL_law_419 (by decide) ?_
  exact K e g P hR'
set_option maxHeartbeats 4000000 in
theorem law_mostJobs (hX : Ok X cL_law 4 9 RX0 (TyX kA ++ TyY kA')) (hC : Sc X b L xs) (hL : L ≤ 257) (hi : 1 ≤ i ∧ i ≤ L - 4) (hR : Rl d f P) (K : ∀ (e g : DS) (P' : Int → Bool), Rl e g P' → G X 4 (WX h q kA e ++ WY h' q' kA' g) [some (.ref b), some (.ref h), some (.ref h'), some (.int (iI i))] 447 []) : G X 4 (WX h q kA d ++ WY h' q' kA' f) [some (.ref b), some (.ref h), some (.ref h'), some (.int (iI i))] 424 [] := by
  have hK := hR.1
  have hd := hR.1.1
  have hp := hR.1.2.1
  have hM := hR.2.1
  have r1 := xv_rng xs (i + 1)
  refine g_aload_n hX dL_law_424 rfl ?_
  refine g_aload_n hX dL_law_425 rfl ?_
  refine g_iload_n hX dL_law_426 rfl ?_
  refine g_iconst hX dL_law_427 ?_
  refine g_iadd hX dL_law_428 ?_
  refine g_sld hX hC hL dL_law_429 (by omega) ?_
  refine g_call2 hX (ct_mostJobs hd hp r1) (by decide) (by decide) LwX1_mostJobs (hdX1_mostJobs npX1_mostJobs) (ci := 0) rfl rfl rfl rfl (Nat.le_of_ble_eq_true rfl) dL_law_430 (fun t ht => List.mem_append_left _ ht) [0, 1, 2, 3, 4, 5, 6, 7, 8, 9, 10] [11, 12, 13, 14] rfl rfl (by decide) (by decide) (by decide) (fun z e hz => ?_)
  refine g_aload_n hX dL_law_433 rfl ?_
  refine g_aload_n hX dL_law_434 rfl ?_
  refine g_iload_n hX dL_law_435 rfl ?_
  refine g_iconst hX dL_law_436 ?_
  refine g_iadd hX dL_law_437 ?_
  refine g_sld hX hC hL dL_law_438 (by omega) ?_
  refine g_call2 hX (cm_mostJobs hM r1) (by decide) (by decide) LwX2_mostJobs (hdX2_mostJobs npX2_mostJobs) (ci := 1) rfl rfl rfl rfl (Nat.le_of_ble_eq_true rfl) dL_law_439 (fun t ht => List.mem_append_right _ ht) [0, 1, 2, 3] [4, 5, 6, 7, 8, 9, 10, 11, 12, 13, 14] rfl rfl (by decide) (by decide) (by decide) (fun z' g hz' => ?_)
  obtain ⟨hzz, hR'⟩ := e_mostJobs hR hz hz'
  subst hzz
  refine g_same (tgt := 447) hX dL_law_442 (by decide) ?_
  exact K e g P hR'
set_option maxHeartbeats 4000000 in
/-- THE LAW'S LOOP: at its head desk and model hold the same -/
theorem law_loop (hX : Ok X cL_law 4 9 RX0 (TyX kA ++ TyY kA')) (hC : Sc X b L xs) (hL : L ≤ 257) (hEnd : ∀ (ws : va_W) (lv : List (Option Value)), G X 4 ws lv 454 [.int (iI 1)]) :
    ∀ (n : Nat) (i : Int) (d f : DS) (P : Int → Bool), 1 ≤ i → i ≤ L + 1 → (L : Int) + 1 - i < n → Rl d f P → G X 4 (WX h q kA d ++ WY h' q' kA' f) [some (.ref b), some (.ref h), some (.ref h'), some (.int (iI i))] 28 [] := by
  intro n
  induction n with
  | zero => intro i d f P h0 h1 h2; omega
  | succ n ih =>
    intro i d f P h0 h1 h2 hR
    refine g_iload_n hX dL_law_28 rfl ?_
    refine g_aload_n hX dL_law_29 rfl ?_
    refine g_slen hX hC dL_law_30 ?_
    refine g_iconst hX dL_law_31 ?_
    refine g_isub hX dL_law_32 ?_
    refine g_icmp_gt (tgt := 453) hX dL_law_33 (by decide) (by omega) (by omega) (fun c_33 => ?_) (fun c_33 => ?_)
    · refine g_iconst hX dL_law_453 ?_
      exact hEnd _ _
    · have hi : 1 ≤ i ∧ i ≤ L - 4 := ⟨h0, by omega⟩
      have K : ∀ (e g : DS) (P' : Int → Bool), Rl e g P' → G X 4 (WX h q kA e ++ WY h' q' kA' g) [some (.ref b), some (.ref h), some (.ref h'), some (.int (iI i))] 447 [] := by
        intro e g P' hR'
        refine g_iinc hX dL_law_447 rfl (by decide) ?_
        refine g_goto (tgt := 28) hX dL_law_450 (by decide) ?_
        exact ih (i + 4) e g P' (by omega) (by omega) (by omega) hR'
      refine g_aload_n hX dL_law_36 rfl ?_
      refine g_iload_n hX dL_law_37 rfl ?_
      refine g_sld hX hC hL dL_law_38 (by omega) ?_
      refine g_bipush hX dL_law_39 (by decide) ?_
      refine g_iand hX dL_law_41 ?_
      obtain ⟨j, hj, ej⟩ := mask15 (xv xs i)
      refine g_int ej ?_
      have hc : j = 0 ∨ j = 1 ∨ j = 2 ∨ j = 3 ∨ j = 4 ∨ j = 5 ∨ j = 6 ∨ j = 7 ∨ j = 8 ∨ j = 9 ∨ j = 10 ∨ j = 11 ∨ j = 12 ∨ 13 ≤ j := by omega
      rcases hc with e | e | e | e | e | e | e | e | e | e | e | e | e | e
      · subst e
        refine g_tabIn (off := 66) (tgt := 108) hX dL_law_42 (by decide) (by decide) (by decide) (by decide) ?_
        exact law_add hX hC hL hi hR K
      · subst e
        refine g_tabIn (off := 109) (tgt := 151) hX dL_law_42 (by decide) (by decide) (by decide) (by decide) ?_
        exact law_remove hX hC hL hi hR K
      · subst e
        refine g_tabIn (off := 132) (tgt := 174) hX dL_law_42 (by decide) (by decide) (by decide) (by decide) ?_
        exact law_setTime hX hC hL hi hR K
      · subst e
        refine g_tabIn (off := 175) (tgt := 217) hX dL_law_42 (by decide) (by decide) (by decide) (by decide) ?_
        exact law_jobs hX hC hL hi hR K
      · subst e
        refine g_tabIn (off := 188) (tgt := 230) hX dL_law_42 (by decide) (by decide) (by decide) (by decide) ?_
        exact law_time hX hC hL hi hR K
      · subst e
        refine g_tabIn (off := 221) (tgt := 263) hX dL_law_42 (by decide) (by decide) (by decide) (by decide) ?_
        exact law_least hX hC hL hi hR K
      · subst e
        refine g_tabIn (off := 234) (tgt := 276) hX dL_law_42 (by decide) (by decide) (by decide) (by decide) ?_
        exact law_machineOf hX hC hL hi hR K
      · subst e
        refine g_tabIn (off := 257) (tgt := 299) hX dL_law_42 (by decide) (by decide) (by decide) (by decide) ?_
        exact law_finishOf hX hC hL hi hR K
      · subst e
        refine g_tabIn (off := 280) (tgt := 322) hX dL_law_42 (by decide) (by decide) (by decide) (by decide) ?_
        exact law_leastWith hX hC hL hi hR K
      · subst e
        refine g_tabIn (off := 313) (tgt := 355) hX dL_law_42 (by decide) (by decide) (by decide) (by decide) ?_
        exact law_leastWithout hX hC hL hi hR K
      · subst e
        refine g_tabIn (off := 336) (tgt := 378) hX dL_law_42 (by decide) (by decide) (by decide) (by decide) ?_
        exact law_leastDoubled hX hC hL hi hR K
      · subst e
        refine g_tabIn (off := 359) (tgt := 401) hX dL_law_42 (by decide) (by decide) (by decide) (by decide) ?_
        exact law_leastIdle hX hC hL hi hR K
      · subst e
        refine g_tabIn (off := 382) (tgt := 424) hX dL_law_42 (by decide) (by decide) (by decide) (by decide) ?_
        exact law_mostJobs hX hC hL hi hR K
      · refine g_tabOut (tgt := 447) hX dL_law_42 (Or.inr (by rw [iI_toInt (by omega)]; omega)) (by decide) ?_
        exact K d f P hR
end
end
section
section
/-! THE CLAIM OUT OF ONE WALK OF THE LAW'S BODY. Your part is whole_start (and what it stands on); all else here is the same for every law, but numbers. -/
def R_law : String := "FlowTimeDeskLaw"
def lw_P (b : Addr) (xs : List Int32) (args : Array Value) (s : State) : Prop := args = #[.ref b] ∧ s.IntsAt b xs ∧ xs.length ≤ 257 ∧ (Jvm.Cond.and given_1 narrow_1).before args s = true
def lw_Q (_ : Array Value) (s : State) (o : Outcome) (t : State) : Prop := o = .returned (some (.int 1)) ∧ Framed s o t [] 600000 7290000
def lw_Z (below : List Frame) (a : Array Value) (s : State) : State → Prop := fun t => ∃ o, t.status = .running ∧ Ended t below o ∧ lw_Q a s o t
/-- the law's own end, with 1 on the stack, nothing written that was there before, its room as the claim has it -/
theorem lw_ret {p : Program} {l : Launch} {e : Env} {s : State} {m : MethodId} {below : List Frame} {meth : Method} {c : Code} {b : Nat} (hx : p.tables.exec = Jvm.exec) (hb : c.code = code) (hr : meth.sig.returnType = ret) (hlocks : meth.locks = false) {pc : Nat} {H : Heap} {ls : Array Slot} (hdg : decode code pc = .ok (.ireturn, 1)) : W p l e room_1 s m #[Value.ref b] below meth c H [] 600000 7290000 (lw_Z below #[Value.ref b] s) (F0 m pc ls [.int 1]) := by
  intro T hT X
  obtain ⟨fs, hret, hrun, hended, hW, hframe⟩ := X.leave (v := some (.int 1)) (hlocks := hlocks) (fun h => by rw [hr] at h; cases h)
  have hmeth' : T.vm.method? m = some meth := X.method'
  refine ⟨T.setFrames fs, ?_, .returned (some (.int 1)), hrun, hended, rfl, ⟨_, rfl⟩, hW, hframe⟩
  jvm_step X.here [X.here.top, hx, hb, hdg, hmeth', hr, ret, narrow_b1]
  (try refine ⟨rfl, ?_⟩); (try refine ⟨rfl, ?_⟩)
  first | (intro acts; rw [hret _ acts rfl rfl rfl]) | rw [hret _ _ rfl rfl rfl]
  exact Steps.refl _
/-- what holds at the law's entry: the machine, the code, the tables' words (any of lw_tbl by 'hts w (by decide +kernel)'), the script of L ints xs at the cell b, what the Statement gives of the start (any of its parts by flat_of_before) -/
def lw_At (p : Program) (s : State) (m : MethodId) (meth : Method) (c : Code) (b L : Nat) (xs : Nat → Int32) : Prop :=
  p.tables.exec = Jvm.exec ∧ c.code = code ∧ meth.sig.returnType = ret ∧ c.maxLocals = 4 ∧ s.vm.findClass R_law = some m.cls ∧ (∀ w ∈ lw_tbl, w.before #[Value.ref b] s = true) ∧ va_X b L xs s s.heap ∧ b < s.heap.size ∧ meth.locks = false ∧ (Jvm.Cond.and given_1 narrow_1).before #[Value.ref b] s = true
theorem dz0_rel (v : Int) : Rl (dz0 v) (dz0 v) (fun _ => false) := by
  have hc : 1 ≤ clp v ∧ clp v ≤ 3 := by
    unfold clp
    split
    · omega
    · split <;> omega
  refine ⟨⟨⟨hc, fun z _ _ => ?_⟩, rfl, fun j _ _ h => absurd h Bool.false_ne_true, Or.inl rfl⟩, ⟨hc, fun j _ _ => rfl, fun z _ _ => ?_⟩, rfl, fun j m _ _ _ _ => rfl, fun j m _ _ _ _ => rfl⟩
  · show (0 : Int) ≤ 0 ∧ (0 : Int) ≤ 15
    omega
  · show (0 : Int) ≤ 0 ∧ (0 : Int) ≤ 15
    omega
theorem law_gl {ls : Array Slot} {b h h' : Nat} {x : Int32} (hl : lv_has ls 4 [(3, .int x), (2, .ref h'), (1, .ref h), (0, .ref b)]) : gl ls 4 [some (.ref b), some (.ref h), some (.ref h'), some (.int x)] := by
  refine ⟨_, hl, fun q hq => ?_, fun i v hv => ?_⟩
  · simp only [List.mem_cons, List.not_mem_nil, or_false] at hq
    rcases hq with e | e | e | e <;> rw [e] <;> rfl
  · match i, hv with
    | 0, hv => simp at hv; subst hv; simp
    | 1, hv => simp at hv; subst hv; simp
    | 2, hv => simp at hv; subst hv; simp
    | 3, hv => simp at hv; subst hv; simp
    | i + 4, hv => simp at hv
set_option maxHeartbeats 8000000 in
set_option maxRecDepth 100000 in
/-- THE LAW, from its entry -/
theorem whole_start {p : Program} {e : Env} {s : State} {m : MethodId} {below : List Frame} {meth : Method} {c : Code} (l : Launch) {b L : Nat} {xs : Nat → Int32} (hL : L ≤ 257) (C0 : lw_At p s m meth c b L xs) : W p l e room_1 s m #[Value.ref b] below meth c s.heap [] 0 0 (lw_Z below #[Value.ref b] s) (entryFrame m ([Value.ref b] : List Value).toArray 4) := by
  obtain ⟨hx, hb, hr, hml, hown, hts0, hX, hbl, hlocks, hgv⟩ := id C0
  have hown : s.vm.findClass RX0 = some m.cls := hown
  have hb : c.code = cL_law := hb
  have hts : ∀ w ∈ lw_all, w.before #[Value.ref b] s = true := fun w h => hts0 w (lw_all_tbl h)
  have hA : ∀ q : Nat, s.heap.size ≤ q → (fun q : Nat => s.heap.size ≤ q) q := fun _ h => h
  have hbA : ¬ (fun q : Nat => s.heap.size ≤ q) b := Nat.not_le.mpr hbl
  obtain ⟨c0, iS0, hKn0⟩ := u_known (C := RX1) (T := TX1) (N := 18) (n := 18) hts in_X1 (hts _ q24)
  obtain ⟨c1, iS1, hKn1⟩ := u_known (C := RX2) (T := TX2) (N := 7) (n := 7) hts in_X2 (hts _ q198)
  obtain ⟨D, hKc⟩ : ∃ (D : va_G), ∀ (k : Nat) (q : vw_C), vwCl[k]? = some q → u_Kn s q.1 q.2.1 q.2.2 (D.1 k) (D.2 k) := by
    refine ⟨(fun k => if k = 0 then c0 else c1, fun k => if k = 0 then iS0 else iS1), ?_⟩
    intro k q hq
    match k, hq with
    | 0, hq => cases hq; exact hKn0
    | 1, hq => cases hq; exact hKn1
    | k + 2, hq => simp [vwCl] at hq
  have hS : va_S (fun q : Nat => s.heap.size ≤ q) s.heap s.heap [] := va_S.rf
  have hK : va_K D vwCl [] s := ⟨hKc, fun k q h => by simp at h⟩
  have hP : va_P D vwCl [] s.heap := fun k q h => by simp at h
  have hD : va_D (fun q : Nat => s.heap.size ≤ q) [] := ⟨fun i j p q h => by simp at h, fun k q h => by simp at h⟩
  have hl := lv_entry ([.ref b]) (n := 4) (Nat.le_of_ble_eq_true rfl)
  rw [lg_entry_eq]
  generalize (lg_sl ([.ref b]) ++ List.replicate (4 - (lg_sl ([.ref b])).length) Slot.unset).toArray = ls at hl ⊢
  have hl : lv_has ls 4 [(0, .ref b)] := hl
  refine va_new (ci := 0) (fs := [.int 0, .int 0, .null, .null, .int 0, .int 0, .int 0, .int 0, .null, .null, .null, .null, .null, .null, .null, .int 0, .int 0, .null]) (C := RX1) (T := TX1) (N := 18) hx hb hts in_X1 tyX1 tyX1_ok hown (hts _ q23) (hts _ q24) (hts _ q21) hK hP hD hS hA rfl (fun j hj => by rcases (show j = 0 ∨ j = 1 ∨ j = 2 ∨ j = 3 ∨ j = 4 ∨ j = 5 ∨ j = 6 ∨ j = 7 ∨ j = 8 ∨ j = 9 ∨ j = 10 ∨ j = 11 ∨ j = 12 ∨ j = 13 ∨ j = 14 ∨ j = 15 ∨ j = 16 ∨ j = 17 by omega) with rfl | rfl | rfl | rfl | rfl | rfl | rfl | rfl | rfl | rfl | rfl | rfl | rfl | rfl | rfl | rfl | rfl | rfl <;> rfl) (Nat.le_of_ble_eq_true rfl) (Nat.le_of_ble_eq_true rfl) dL_law_0 (fun h H hP hD hS => ?_)
  have hP : va_P D vwCl (X1f0 h) H := hP
  have hD : va_D (fun q : Nat => s.heap.size ≤ q) (X1f0 h) := hD
  refine lv_dup hx hb dL_law_3 rfl ?_
  refine lv_aload_n hx hb dL_law_4 rfl (lv_at hl 0 rfl) ?_
  refine lv_iconst (v := iI 0) hx hb dL_law_5 rfl ?_
  have hXc : va_X b L xs s H := hX.kept (hS.2.1 b hbl hbA)
  refine va_calli (va_runS (As := [.ref b, .int (iI 0)]) (rest := [.ref h, .ref h]) ⟨hx, hb, hml, hown, hts⟩ (c_cell l b L xs hL H.size) (va_cwS 2 hts LwX0_cell rfl rfl rfl (hdX0_cell (A := [.ref b, .int (iI 0)]) npX0_cell) ⟨Nat.le_of_ble_eq_true rfl, Nat.le_of_ble_eq_true rfl⟩) ⟨fun a U g mk q => by obtain ⟨q0, q1, qX, qb⟩ := q; exact ⟨q0, q1, va_X.moved (u := U) (U := U.calling g mk a) (Vm.Alike.refl U.vm) qX, qb⟩, fun U hU hW => ⟨rfl, by rw [hU], by rw [hU]; exact va_X.moved hW.alike hXc, by rw [hU]; exact Nat.lt_of_lt_of_le hbl hS.1⟩⟩ rfl rfl hl.1 rfl (lv_room (Nat.le_of_ble_eq_true rfl)) dL_law_6 ⟨Nat.le_of_ble_eq_true rfl, Nat.le_of_ble_eq_true rfl⟩) hS (fun q _ h => Nat.le_trans hS.1 h) (fun q h => Nat.le_trans hS.1 h) (fun r1 _ t H1 locs ht hvm hr1 _ hz1 hk1 hS1 => ?_)
  have hP1 : va_P D vwCl (X1f0 h) H1 := fun k q hq => by
    have hlt := (hP k q hq).lt
    exact (hP k q hq).kept (hk1 q.1 hlt (Nat.not_le.mpr hlt))
  generalize H1 = H at hP1 hS1 ⊢
  have hP := hP1
  have hS := hS1
  obtain ⟨v, hv, hvr⟩ : ∃ v : Int, r1 = iI v ∧ (-2147483648 ≤ v ∧ v ≤ 2147483647) := ⟨r1.toInt, iI_self r1, iI_rng r1⟩
  rw [hv]
  have hFc := va_free (wc := X1f0 h) hD hS hA [0] rfl
  refine va_callv (va_runI (As := [.int (iI v)]) (rest := [.ref h]) ⟨hx, hb, hml, hown, hts⟩ (cX1_ini hvr l D h H.size) (cwI 1 hts (lw_meth q27) rfl rfl rfl (hts _ q21) (hts _ q25) (hts _ q26) rfl ⟨by decide +kernel, by decide +kernel, npX1_init⟩ ⟨Nat.le_of_ble_eq_true rfl, Nat.le_of_ble_eq_true rfl⟩) ⟨fun a U g mk q => by obtain ⟨q0, q1, qP, qK, qD⟩ := q; exact ⟨q0, q1, qP, va_K.moved (u := U) (U := U.calling g mk a) (Vm.Alike.refl U.vm) qK, qD⟩, fun U hU hW => ⟨rfl, by rw [hU], by rw [hU]; exact hP, va_K.moved hW.alike hK, hD.weaken (fun _ _ _ _ => trivial)⟩⟩ rfl rfl hl.1 rfl (lv_room (Nat.le_of_ble_eq_true rfl)) dL_law_9 ⟨Nat.le_of_ble_eq_true rfl, Nat.le_of_ble_eq_true rfl⟩) hS (fun q _ h => hFc q h) hFc (fun u t H1 locs ht hvm hw hB hz1 hk1 hS => ?_)
  obtain ⟨q, kA⟩ := u
  obtain ⟨hP1, hK1, hD1⟩ := hB
  rw [ht] at hP1
  have hK : va_K D vwCl (TyX kA) s := va_K.moved hvm.symm hK1
  have hP : va_P D vwCl (WX h q kA (dz0 v)) H1 := hP1
  have hD : va_D (fun q : Nat => s.heap.size ≤ q) (WX h q kA (dz0 v)) := hD1.weaken (fun _ q _ h => hFc q.1 h)
  generalize H1 = H at hP hS ⊢
  refine lv_astore_n (lv' := [(1, .ref h), (0, .ref b)]) hx hb dL_law_12 rfl hl (by decide) rfl (fun ls hl => ?_)
  refine va_new (ci := 1) (fs := [.int 0, .null, .null, .null, .int 0, .int 0, .int 0]) (C := RX2) (T := TX2) (N := 7) hx hb hts in_X2 tyX2 tyX2_ok hown (hts _ q197) (hts _ q198) (hts _ q22) hK hP hD hS hA rfl (fun j hj => by rcases (show j = 0 ∨ j = 1 ∨ j = 2 ∨ j = 3 ∨ j = 4 ∨ j = 5 ∨ j = 6 by omega) with rfl | rfl | rfl | rfl | rfl | rfl | rfl <;> rfl) (Nat.le_of_ble_eq_true rfl) (Nat.le_of_ble_eq_true rfl) dL_law_13 (fun h' H hP hD hS => ?_)
  have hP : va_P D vwCl (WX h q kA (dz0 v) ++ X2f0 h') H := hP
  have hD : va_D (fun q : Nat => s.heap.size ≤ q) (WX h q kA (dz0 v) ++ X2f0 h') := hD
  refine lv_dup hx hb dL_law_16 rfl ?_
  refine lv_aload_n hx hb dL_law_17 rfl (lv_at hl 1 rfl) ?_
  refine lv_iconst (v := iI 0) hx hb dL_law_18 rfl ?_
  have hXc : va_X b L xs s H := hX.kept (hS.2.1 b hbl hbA)
  refine va_calli (va_runS (As := [.ref b, .int (iI 0)]) (rest := [.ref h', .ref h']) ⟨hx, hb, hml, hown, hts⟩ (c_cell l b L xs hL H.size) (va_cwS 2 hts LwX0_cell rfl rfl rfl (hdX0_cell (A := [.ref b, .int (iI 0)]) npX0_cell) ⟨Nat.le_of_ble_eq_true rfl, Nat.le_of_ble_eq_true rfl⟩) ⟨fun a U g mk q => by obtain ⟨q0, q1, qX, qb⟩ := q; exact ⟨q0, q1, va_X.moved (u := U) (U := U.calling g mk a) (Vm.Alike.refl U.vm) qX, qb⟩, fun U hU hW => ⟨rfl, by rw [hU], by rw [hU]; exact va_X.moved hW.alike hXc, by rw [hU]; exact Nat.lt_of_lt_of_le hbl hS.1⟩⟩ rfl rfl hl.1 rfl (lv_room (Nat.le_of_ble_eq_true rfl)) dL_law_19 ⟨Nat.le_of_ble_eq_true rfl, Nat.le_of_ble_eq_true rfl⟩) hS (fun q _ h => Nat.le_trans hS.1 h) (fun q h => Nat.le_trans hS.1 h) (fun r2 _ t H1 locs ht hvm hr2 _ hz1 hk1 hS1 => ?_)
  have hP1 : va_P D vwCl (WX h q kA (dz0 v) ++ X2f0 h') H1 := fun k q hq => by
    have hlt := (hP k q hq).lt
    exact (hP k q hq).kept (hk1 q.1 hlt (Nat.not_le.mpr hlt))
  generalize H1 = H at hP1 hS1 ⊢
  have hP := hP1
  have hS := hS1
  have hv2 : r2 = iI v := by rw [hr2, ← hr1, hv]
  rw [hv2]
  have hPc := hP.sub (ws' := X2f0 h') [11] rfl
  have hDc := hD.sub (ws' := X2f0 h') [11] (by decide) rfl
  have hKc := hK.sub (tys' := []) [] rfl
  have hFc := va_free (wc := X2f0 h') hD hS hA [11] rfl
  refine va_callv (va_runI (As := [.int (iI v)]) (rest := [.ref h']) ⟨hx, hb, hml, hown, hts⟩ (cX2_ini hvr l D h' H.size) (cwI 1 hts (lw_meth q201) rfl rfl rfl (hts _ q22) (hts _ q199) (hts _ q200) rfl ⟨by decide +kernel, by decide +kernel, npX2_init⟩ ⟨Nat.le_of_ble_eq_true rfl, Nat.le_of_ble_eq_true rfl⟩) ⟨fun a U g mk q => by obtain ⟨q0, q1, qP, qK, qD⟩ := q; exact ⟨q0, q1, qP, va_K.moved (u := U) (U := U.calling g mk a) (Vm.Alike.refl U.vm) qK, qD⟩, fun U hU hW => ⟨rfl, by rw [hU], by rw [hU]; exact hPc, va_K.moved hW.alike hKc, hDc.weaken (fun _ _ _ _ => trivial)⟩⟩ rfl rfl hl.1 rfl (lv_room (Nat.le_of_ble_eq_true rfl)) dL_law_22 ⟨Nat.le_of_ble_eq_true rfl, Nat.le_of_ble_eq_true rfl⟩) hS (fun q _ h => hFc q h) hFc (fun u t H1 locs ht hvm hw hB hz1 hk1 hS => ?_)
  obtain ⟨q', kA'⟩ := u
  obtain ⟨hP1, hK1, hD1⟩ := hB
  rw [ht] at hP1
  have hK : va_K D vwCl (TyX kA ++ TyY kA') s := hK.app (va_K.moved hvm.symm hK1)
  obtain ⟨hP, hD⟩ := va_join (wr := WX h q kA (dz0 v)) (w1 := WY h' q' kA' (dz0 v)) hP hD [11] [0, 1, 2, 3, 4, 5, 6, 7, 8, 9, 10] rfl rfl (by decide) (by decide) hk1 hFc hP1 hD1
  generalize H1 = H at hP hS ⊢
  refine lv_astore_n (lv' := [(2, .ref h'), (1, .ref h), (0, .ref b)]) hx hb dL_law_25 rfl hl (by decide) rfl (fun ls hl => ?_)
  refine lv_iconst (v := iI 1) hx hb dL_law_26 rfl ?_
  refine lv_istore_n (lv' := [(3, .int (iI 1)), (2, .ref h'), (1, .ref h), (0, .ref b)]) hx hb dL_law_27 rfl hl (by decide) rfl (fun ls hl => ?_)
  refine W.widen (k := 15) (n := 212) (Nat.le_of_ble_eq_true rfl) (Nat.le_of_ble_eq_true rfl) ?_
  refine law_loop (X := (p, l, e, room_1, s, m, #[Value.ref b], below, meth, c, lw_Z below #[Value.ref b] s, D, (fun q : Nat => s.heap.size ≤ q), 15, 212)) (b := b) (L := L) (xs := xs) ⟨hx, hb, hml, hown, hts, hK, hA, Nat.le_of_ble_eq_true rfl, Nat.le_of_ble_eq_true rfl, Nat.le_of_ble_eq_true rfl, Nat.le_of_ble_eq_true rfl⟩ ⟨hX, hbl, hbA⟩ hL (fun ws lv => ?_) (L + 2) 1 (dz0 v) (dz0 v) (fun _ => false) (by omega) (by omega) (by omega) (dz0_rel v) H _ ls hP hD hS (law_gl hl)
  intro H2 locs2 ls2 hP2 hD2 hS2 hl2
  rw [iI_1]
  refine va_forget (fun q hq => hS2.2.2 q hq) ?_
  refine W.widen (k := 600000) (n := 7290000) (Nat.le_of_ble_eq_true rfl) (Nat.le_of_ble_eq_true rfl) ?_
  exact lw_ret hx hb hr hlocks dL_law_454
end
end
section
section
set_option maxHeartbeats 4000000 in
theorem lw_walk (l : Launch) (b : Addr) (xs : List Int32) : MetFree l x (headSpec (Jvm.Cond.code x code maxLocals ret :: tables_1) room_1) (lw_P b xs) (fun _ _ _ _ _ => True) lw_Q := by
  refine MetFree.of_bodyS (code := code) (maxLocals := maxLocals) (ret := ret) (by decide) ?_ ?_
  · intro args s m h hn
    obtain ⟨meth, c, h1, h2, h3, h4, h5, h6, -, -⟩ := Cond.code_spec hn (atoms_spec (ws := Jvm.Cond.code x code maxLocals ret :: tables_1) h _ List.mem_cons_self)
    exact ⟨meth, c, h1, h2, h3, h4, h5, h6⟩
  · intro p e s m args below meth c s₁ B hml0 hP _
    obtain ⟨rfl, hx, hbd, hgv⟩ := hP
    obtain ⟨scr, harrAt, hlist, hof, hsmall⟩ := hx
    obtain ⟨hcb, hkn, -, -⟩ := State.arrayAt?_spec harrAt
    have hown : s.vm.findClass R_law = some m.cls := findClass_of_methodNamed B.named
    have hts0 : ∀ c ∈ (Jvm.Cond.code x code maxLocals ret :: tables_1), c.before #[Value.ref b] s = true := atoms_spec (ws := Jvm.Cond.code x code maxLocals ret :: tables_1) B.pre
    have hts : ∀ w ∈ lw_tbl, w.before #[Value.ref b] s = true := k2_hts_sels lw_privs (fun w hw => hts0 w (List.mem_cons_of_mem _ hw)) lw_privs_ok
    have hml : c.maxLocals = 4 := B.maxLocals_eq (hts0 _ List.mem_cons_self)
    have X₀ : Stand p l e room_1 s m #[Value.ref b] below meth c s₁ [] 0 0 := Stand.of_body B
    have hh0 : s₁.heap = s.heap := by rw [B.state]; rfl
    have hsz : scr.slots.size = xs.length := by rw [← Array.length_toList, hlist, List.length_map]
    have hval : ∀ j : Nat, j < xs.length → scr.slots[j]? = some (.int (xs.getD j 0)) := fun j hj => by
      rw [← Array.getElem?_toList, hlist]
      simp [hj]
    have hbl : b < s.heap.size := (Array.getElem?_eq_some_iff.mp hcb).1
    have hX : va_X b xs.length (fun j => xs.getD j 0) s s.heap := ⟨scr, hcb, hof, hkn, hsz, hval⟩
    have K : W p l e room_1 s m #[Value.ref b] below meth c s₁.heap [] 0 0 (lw_Z below #[Value.ref b] s) (entryFrame m ([Value.ref b] : List Value).toArray 4) := by
      rw [hh0]
      exact whole_start l hbd ⟨B.exec, B.bytes, B.returns, hml, hown, hts, hX, hbl, B.notSynchronized, hgv⟩
    obtain ⟨t, a1, o, b1, b2, b3⟩ := K s₁ rfl X₀
    exact ⟨t, o, a1, b1, b2, b3⟩
theorem lw_pre_spec {args : Array Value} {s : State} (h : (Jvm.Cond.and given_1 narrow_1).before args s = true) (hr : rest_1_c.before args s = true) : ∃ (b : Addr) (xs : List Int32), lw_P b xs args s := by
  have hs := flat_of_before _ h
  have hq := flat_of_before _ hr
  have hc : (Cond.count 1).before args s = true := hs _ (by decide +kernel)
  have harr : (Cond.arrayOf (.arg 0) .int).before args s = true := hs _ (by decide +kernel)
  have hle : (Cond.le (.length (.arg 0)) (.int 257)).before args s = true := hs _ (by decide +kernel)
  have hlen : (Cond.isInt (.length (.arg 0))).before args s = true := hq _ (by decide +kernel)
  have hall : (Cond.all (.arg 0) (.isInt (.elem (.arg 0) (.index 0)))).before args s = true := hq _ (by decide +kernel)
  obtain ⟨b, xs, hb, hx⟩ := State.ints_of_pre rfl harr hlen hall
  have hsm : xs.length < 2 ^ 31 := hx.choose_spec.2.2.2
  have hev : (Term.length (.arg 0)).eval args s none [] s = some (.int xs.length.toInt32) := hx.length_eval hb
  have hv := Cond.le_ints hev (show (Term.int 257).eval args s none [] s = some (.int 257) from rfl)
  have hd : xs.length.toInt32 ≤ 257 := by
    simpa [Cond.before, Cond.holds, hv] using hle
  have hN : xs.length ≤ 257 := (Int32.ofNat_le_ofNat hsm (by decide)).mp (show Int32.ofNat xs.length ≤ Int32.ofNat 257 from hd)
  exact ⟨b, xs, Cond.one_arg hc (show args[0]? = some (.ref b) from hb), hx, hN, h⟩
theorem lw_comes (l : Launch) : Comes l x (Jvm.Cond.code x code maxLocals ret :: tables_1) room_1 (fun tb e args s => Calls_1 tb e args s ∧ rest_1 tb e args s ∧ Pre_1 tb e args s)
    (fun _ _ args s o t => lw_Q args s o t) := by
  intro p e ha hc hk s m args below hf hfit hheap happ hpre
  obtain ⟨b, xs, hP⟩ := lw_pre_spec hpre.2.2 hpre.2.1
  obtain ⟨k, o, h1, h2, h3, hQ⟩ := lw_walk l b xs p e ha hc hk s m args below hf ((Spec.applies_iff_loose hf).mp happ).1 hP trivial
  exact ⟨k, o, h1, h2, h3, hQ⟩
theorem lw_frame {s t : State} {o : Outcome} {args : Array Value} (h : Framed s o t [] 600000 7290000) :
    Framed s o t (fieldLocs frame_1_writes args s ++ arrayLocs frame_1_arrays args s ++ staticLocs frame_1_statics s) 600000 7290000 := h
theorem lw_limb (L : Cond) (hL : ∀ (args : Array Value) (s t : State), L.after args s (.returned (some (.int 1))) t = true) :
    ArmFor flags0 classFile x code maxLocals ret World_1 tables_1 room_1 Calls_1 rest_1 Pre_1
      (fun tb e a s o t => postC L tb e a s o t ∧ Framed s o t (fieldLocs frame_1_writes a s ++ arrayLocs frame_1_arrays a s ++ staticLocs frame_1_statics s) 600000 7290000) := by
  intro l _ _ _ p e ha hc hk s m args below hf hfit hheap happ hpre
  obtain ⟨k, o, h1, h2, h3, rfl, hF⟩ := lw_comes l p e ha hc hk s m args below hf hfit hheap happ hpre
  exact ⟨k, _, h1, h2, h3, hL args s _, lw_frame hF⟩
theorem i_vc : Claimed_1_1 ∧ Claimed_1_2 := ⟨lw_limb limb_1_1 (fun args s t => by simp [limb_1_1, Cond.after, Cond.holds, Cond.value]), lw_limb limb_1_2 (fun args s t => Cond.after_iff.mpr (by
  first | (rw [show limb_1_2 = Cond.eq .result (.int 1) from rfl, Cond.eq_ints (x := 1) (y := 1) rfl rfl]; simp; done) | (simp [limb_1_2, Cond.value, Term.eval]; done)))⟩
end
end
