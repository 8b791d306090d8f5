section
-- ===== PART A: goes FIRST, ahead of the names: the tables' words, and 'selects' of the private methods out of them =====
/-- a private method of a class that the tables say can be made, by its rows of tables_1 -/
def lw_okq (q : MethodName × Nat) : Prop := (q.1.cls ≠ "java/lang/invoke/MethodHandle" ∧ q.1.cls ≠ "java/lang/invoke/VarHandle") ∧ Cond.instantiable q.1.cls q.2 ∈ tables_1 ∧ Cond.privateMethod q.1 ∈ tables_1 ∧ Cond.instanceMethod q.1 ∈ tables_1
set_option maxRecDepth 100000
theorem lw_t1 {w : Cond} (h : w ∈ tables_1_1) : w ∈ tables_1 := List.mem_append_left _ h
theorem lw_t2 {w : Cond} (h : w ∈ tables_1_2) : w ∈ tables_1 := List.mem_append_right _ h
theorem lw_p0 : lw_okq (⟨"ReplayFlow", "begin", "(I)V"⟩, 22) := ⟨⟨by decide +kernel, by decide +kernel⟩, lw_t1 (List.mem_of_getElem? (i := 4) rfl), lw_t1 (List.mem_of_getElem? (i := 92) rfl), lw_t1 (List.mem_of_getElem? (i := 93) rfl)⟩
theorem lw_p1 : lw_okq (⟨"ReplayFlow", "carryOn", "(I)V"⟩, 22) := ⟨⟨by decide +kernel, by decide +kernel⟩, lw_t1 (List.mem_of_getElem? (i := 4) rfl), lw_t1 (List.mem_of_getElem? (i := 96) rfl), lw_t1 (List.mem_of_getElem? (i := 97) rfl)⟩
theorem lw_p2 : lw_okq (⟨"ReplayFlow", "goTo", "(II)V"⟩, 22) := ⟨⟨by decide +kernel, by decide +kernel⟩, lw_t1 (List.mem_of_getElem? (i := 4) rfl), lw_t1 (List.mem_of_getElem? (i := 100) rfl), lw_t1 (List.mem_of_getElem? (i := 101) rfl)⟩
theorem lw_p3 : lw_okq (⟨"ReplayFlow", "finish", "(II)V"⟩, 22) := ⟨⟨by decide +kernel, by decide +kernel⟩, lw_t1 (List.mem_of_getElem? (i := 4) rfl), lw_t1 (List.mem_of_getElem? (i := 104) rfl), lw_t1 (List.mem_of_getElem? (i := 105) rfl)⟩
theorem lw_p4 : lw_okq (⟨"ReplayFlow", "plain", "(II)V"⟩, 22) := ⟨⟨by decide +kernel, by decide +kernel⟩, lw_t1 (List.mem_of_getElem? (i := 4) rfl), lw_t1 (List.mem_of_getElem? (i := 108) rfl), lw_t1 (List.mem_of_getElem? (i := 109) rfl)⟩
theorem lw_p5 : lw_okq (⟨"ReplayFlow", "await", "(II)V"⟩, 22) := ⟨⟨by decide +kernel, by decide +kernel⟩, lw_t1 (List.mem_of_getElem? (i := 4) rfl), lw_t1 (List.mem_of_getElem? (i := 112) rfl), lw_t1 (List.mem_of_getElem? (i := 113) rfl)⟩
theorem lw_p6 : lw_okq (⟨"ReplayFlow", "takeSignal", "(II)V"⟩, 22) := ⟨⟨by decide +kernel, by decide +kernel⟩, lw_t1 (List.mem_of_getElem? (i := 4) rfl), lw_t1 (List.mem_of_getElem? (i := 116) rfl), lw_t1 (List.mem_of_getElem? (i := 117) rfl)⟩
theorem lw_p7 : lw_okq (⟨"ReplayFlow", "addEvent", "(II)V"⟩, 22) := ⟨⟨by decide +kernel, by decide +kernel⟩, lw_t1 (List.mem_of_getElem? (i := 4) rfl), lw_t1 (List.mem_of_getElem? (i := 120) rfl), lw_t1 (List.mem_of_getElem? (i := 121) rfl)⟩
theorem lw_p8 : lw_okq (⟨"ReplayFlow", "meet", "(II)V"⟩, 22) := ⟨⟨by decide +kernel, by decide +kernel⟩, lw_t1 (List.mem_of_getElem? (i := 4) rfl), lw_t1 (List.mem_of_getElem? (i := 124) rfl), lw_t1 (List.mem_of_getElem? (i := 125) rfl)⟩
theorem lw_p9 : lw_okq (⟨"ReplayFlow", "fallAsleep", "(I)V"⟩, 22) := ⟨⟨by decide +kernel, by decide +kernel⟩, lw_t1 (List.mem_of_getElem? (i := 4) rfl), lw_t1 (List.mem_of_getElem? (i := 128) rfl), lw_t1 (List.mem_of_getElem? (i := 129) rfl)⟩
theorem lw_p10 : lw_okq (⟨"ReplayFlow", "stateOf", "(I)I"⟩, 22) := ⟨⟨by decide +kernel, by decide +kernel⟩, lw_t1 (List.mem_of_getElem? (i := 4) rfl), lw_t1 (List.mem_of_getElem? (i := 136) rfl), lw_t1 (List.mem_of_getElem? (i := 137) rfl)⟩
theorem lw_p11 : lw_okq (⟨"ReplayFlow", "remember", "(I)V"⟩, 22) := ⟨⟨by decide +kernel, by decide +kernel⟩, lw_t1 (List.mem_of_getElem? (i := 4) rfl), lw_t1 (List.mem_of_getElem? (i := 140) rfl), lw_t1 (List.mem_of_getElem? (i := 141) rfl)⟩
theorem lw_p12 : lw_okq (⟨"ReplayFlowModel", "isRun", "(I)Z"⟩, 17) := ⟨⟨by decide +kernel, by decide +kernel⟩, lw_t1 (List.mem_of_getElem? (i := 184) rfl), lw_t2 (List.mem_of_getElem? (i := 10) rfl), lw_t2 (List.mem_of_getElem? (i := 11) rfl)⟩
theorem lw_p13 : lw_okq (⟨"ReplayFlowModel", "goOn", "(I)V"⟩, 17) := ⟨⟨by decide +kernel, by decide +kernel⟩, lw_t1 (List.mem_of_getElem? (i := 184) rfl), lw_t2 (List.mem_of_getElem? (i := 14) rfl), lw_t2 (List.mem_of_getElem? (i := 15) rfl)⟩
theorem lw_p14 : lw_okq (⟨"ReplayFlowModel", "isWait", "(I)Z"⟩, 17) := ⟨⟨by decide +kernel, by decide +kernel⟩, lw_t1 (List.mem_of_getElem? (i := 184) rfl), lw_t2 (List.mem_of_getElem? (i := 18) rfl), lw_t2 (List.mem_of_getElem? (i := 19) rfl)⟩
theorem lw_p15 : lw_okq (⟨"ReplayFlowModel", "end", "(II)V"⟩, 17) := ⟨⟨by decide +kernel, by decide +kernel⟩, lw_t1 (List.mem_of_getElem? (i := 184) rfl), lw_t2 (List.mem_of_getElem? (i := 22) rfl), lw_t2 (List.mem_of_getElem? (i := 23) rfl)⟩
def lw_privs_1 : List (MethodName × Nat) := [(⟨"ReplayFlow", "begin", "(I)V"⟩, 22), (⟨"ReplayFlow", "carryOn", "(I)V"⟩, 22), (⟨"ReplayFlow", "goTo", "(II)V"⟩, 22), (⟨"ReplayFlow", "finish", "(II)V"⟩, 22), (⟨"ReplayFlow", "plain", "(II)V"⟩, 22), (⟨"ReplayFlow", "await", "(II)V"⟩, 22), (⟨"ReplayFlow", "takeSignal", "(II)V"⟩, 22), (⟨"ReplayFlow", "addEvent", "(II)V"⟩, 22), (⟨"ReplayFlow", "meet", "(II)V"⟩, 22), (⟨"ReplayFlow", "fallAsleep", "(I)V"⟩, 22), (⟨"ReplayFlow", "stateOf", "(I)I"⟩, 22), (⟨"ReplayFlow", "remember", "(I)V"⟩, 22), (⟨"ReplayFlowModel", "isRun", "(I)Z"⟩, 17), (⟨"ReplayFlowModel", "goOn", "(I)V"⟩, 17), (⟨"ReplayFlowModel", "isWait", "(I)Z"⟩, 17), (⟨"ReplayFlowModel", "end", "(II)V"⟩, 17)]
theorem lw_r1 : ∀ q ∈ lw_privs_1, lw_okq q := List.forall_mem_cons.mpr ⟨lw_p0, List.forall_mem_cons.mpr ⟨lw_p1, List.forall_mem_cons.mpr ⟨lw_p2, List.forall_mem_cons.mpr ⟨lw_p3, List.forall_mem_cons.mpr ⟨lw_p4, List.forall_mem_cons.mpr ⟨lw_p5, List.forall_mem_cons.mpr ⟨lw_p6, List.forall_mem_cons.mpr ⟨lw_p7, List.forall_mem_cons.mpr ⟨lw_p8, List.forall_mem_cons.mpr ⟨lw_p9, List.forall_mem_cons.mpr ⟨lw_p10, List.forall_mem_cons.mpr ⟨lw_p11, List.forall_mem_cons.mpr ⟨lw_p12, List.forall_mem_cons.mpr ⟨lw_p13, List.forall_mem_cons.mpr ⟨lw_p14, List.forall_mem_cons.mpr ⟨lw_p15, fun _ h => absurd h List.not_mem_nil⟩⟩⟩⟩⟩⟩⟩⟩⟩⟩⟩⟩⟩⟩⟩⟩
theorem lw_p16 : lw_okq (⟨"ReplayFlowModel", "waits", "(I)Z"⟩, 17) := ⟨⟨by decide +kernel, by decide +kernel⟩, lw_t1 (List.mem_of_getElem? (i := 184) rfl), lw_t2 (List.mem_of_getElem? (i := 26) rfl), lw_t2 (List.mem_of_getElem? (i := 27) rfl)⟩
theorem lw_p17 : lw_okq (⟨"ReplayFlowModel", "firstSignal", "(II)I"⟩, 17) := ⟨⟨by decide +kernel, by decide +kernel⟩, lw_t1 (List.mem_of_getElem? (i := 184) rfl), lw_t2 (List.mem_of_getElem? (i := 30) rfl), lw_t2 (List.mem_of_getElem? (i := 31) rfl)⟩
theorem lw_p18 : lw_okq (⟨"ReplayFlowModel", "pastWait", "(IZI)V"⟩, 17) := ⟨⟨by decide +kernel, by decide +kernel⟩, lw_t1 (List.mem_of_getElem? (i := 184) rfl), lw_t2 (List.mem_of_getElem? (i := 34) rfl), lw_t2 (List.mem_of_getElem? (i := 35) rfl)⟩
theorem lw_p19 : lw_okq (⟨"ReplayFlowModel", "plain", "(I)V"⟩, 17) := ⟨⟨by decide +kernel, by decide +kernel⟩, lw_t1 (List.mem_of_getElem? (i := 184) rfl), lw_t2 (List.mem_of_getElem? (i := 38) rfl), lw_t2 (List.mem_of_getElem? (i := 39) rfl)⟩
def lw_privs_2 : List (MethodName × Nat) := [(⟨"ReplayFlowModel", "waits", "(I)Z"⟩, 17), (⟨"ReplayFlowModel", "firstSignal", "(II)I"⟩, 17), (⟨"ReplayFlowModel", "pastWait", "(IZI)V"⟩, 17), (⟨"ReplayFlowModel", "plain", "(I)V"⟩, 17)]
theorem lw_r2 : ∀ q ∈ lw_privs_2, lw_okq q := List.forall_mem_cons.mpr ⟨lw_p16, List.forall_mem_cons.mpr ⟨lw_p17, List.forall_mem_cons.mpr ⟨lw_p18, List.forall_mem_cons.mpr ⟨lw_p19, fun _ h => absurd h List.not_mem_nil⟩⟩⟩⟩
def lw_privs : List (MethodName × Nat) := lw_privs_1 ++ (lw_privs_2)
def lw_tbl : List Cond := k2_sels lw_privs ++ tables_1
theorem lw_privs_ok : ∀ q ∈ lw_privs, lw_okq q := by
  show ∀ q ∈ lw_privs_1 ++ (lw_privs_2), lw_okq q
  exact List.forall_mem_append.mpr ⟨lw_r1, lw_r2⟩
-- ===== ONE list of words for every method: the tables' words that hold all through a run =====
def lw_all : List Cond := lw_tbl.filter goodWord
/-- a word of the tables by its place: claim/WORDS.tsv -/
theorem lw_w {w : Cond} (i : Nat) (h : lw_tbl[i]? = some w) (g : goodWord w = true) : w ∈ lw_all := List.mem_filter.mpr ⟨List.mem_of_getElem? h, g⟩
theorem lw_all_tbl {w : Cond} (h : w ∈ lw_all) : w ∈ lw_tbl := (List.mem_filter.mp h).1
theorem lw_self : GoodIn lw_all lw_all := fun w h => ⟨h, good_of_word (List.mem_filter.mp h).2⟩
/-- a class's field words, by their places -/
theorem lw_in (ws : List Cond) (ps : List Nat) (hp : ws = ps.filterMap (fun i => lw_tbl[i]?)) (hg : ws.all goodWord = true) : ∀ w ∈ ws, w ∈ lw_all := by
  intro w h
  have h1 := List.all_eq_true.mp hg w h
  rw [hp] at h
  obtain ⟨i, -, hi⟩ := List.mem_filterMap.mp h
  exact lw_w i hi h1
/-- the words of a contract for the method y with code b, L locals, answer r -/
abbrev ws_ (y : MethodName) (b : ByteArray) (L : Nat) (r : Option FieldType) : List Cond := Cond.code y b L r :: lw_all
theorem lw_meth {y : MethodName} {b : ByteArray} {L : Nat} {r : Option FieldType} (h : Cond.code y b L r ∈ lw_all) : GoodIn lw_all (ws_ y b L r) := by
  intro w hw
  rcases List.mem_cons.mp hw with e | e
  · rw [e]
    exact lw_self _ h
  · exact lw_self _ e
theorem lw_app {a c : List Cond} (ha : ∀ w ∈ a, w ∈ lw_all) (hc : GoodIn lw_all c) : GoodIn lw_all (a ++ c) := by
  intro w hw
  rcases List.mem_append.mp hw with e | e
  · exact lw_self w (ha w e)
  · exact hc w e
/-- what a call through an object asks: cwV n hts (lw_V ..) -/
theorem lw_V {own : String} {idx : Nat} {C : String} {y : MethodName} {b : ByteArray} {L : Nat} {r : Option FieldType} (h1 : Cond.methodLink own idx y ∈ lw_all) (h2 : Cond.instanceMethod y ∈ lw_all) (h3 : Cond.selects C y y ∈ lw_all) (h4 : Cond.initialized C ∈ lw_all) (h5 : Cond.code y b L r ∈ lw_all) : GoodIn lw_all (wsV own idx C y (ws_ y b L r)) := by
  refine lw_app ?_ (lw_meth h5)
  intro w hw
  simp only [List.mem_cons, List.not_mem_nil, or_false] at hw
  rcases hw with e | e | e | e
  · rw [e]; exact h1
  · rw [e]; exact h2
  · rw [e]; exact h3
  · rw [e]; exact h4
/-- what a static call asks: va_cwS n hts (lw_S ..) -/
theorem lw_S {own : String} {idx : Nat} {y : MethodName} {b : ByteArray} {L : Nat} {r : Option FieldType} (h1 : Cond.methodLink own idx y ∈ lw_all) (h2 : Cond.static y ∈ lw_all) (h3 : Cond.initialized y.cls ∈ lw_all) (h4 : Cond.code y b L r ∈ lw_all) : GoodIn lw_all (va_wsS own idx y (ws_ y b L r)) := by
  refine lw_app ?_ (lw_meth h4)
  intro w hw
  simp only [List.mem_cons, List.not_mem_nil, or_false] at hw
  rcases hw with e | e | e
  · rw [e]; exact h1
  · rw [e]; exact h2
  · rw [e]; exact h3
/-- the words of a contract for a method WITH HANDLERS (hh: its table) -/
abbrev wsW_ (y : MethodName) (b : ByteArray) (L : Nat) (r : Option FieldType) (hh : List (Nat × Nat × Nat × Nat)) : List Cond := Cond.codeWith y b L r hh :: lw_all
theorem lw_methW {y : MethodName} {b : ByteArray} {L : Nat} {r : Option FieldType} {hh : List (Nat × Nat × Nat × Nat)} (h : Cond.codeWith y b L r hh ∈ lw_all) : GoodIn lw_all (wsW_ y b L r hh) := by
  intro w hw
  rcases List.mem_cons.mp hw with e | e
  · rw [e]
    exact lw_self _ h
  · exact lw_self _ e
/-- any list of words by their places (lw_in), good -/
theorem lw_good {ws : List Cond} (h : ∀ w ∈ ws, w ∈ lw_all) : GoodIn lw_all ws := fun w hw => lw_self w (h w hw)
/-- what a call of a method with handlers asks: vx_cwVW n hts (lw_VW ..), vx_cwSW n hts (lw_SW ..) -/
theorem lw_VW {own : String} {idx : Nat} {C : String} {y : MethodName} {b : ByteArray} {L : Nat} {r : Option FieldType} {hh : List (Nat × Nat × Nat × Nat)} (h1 : Cond.methodLink own idx y ∈ lw_all) (h2 : Cond.instanceMethod y ∈ lw_all) (h3 : Cond.selects C y y ∈ lw_all) (h4 : Cond.initialized C ∈ lw_all) (h5 : Cond.codeWith y b L r hh ∈ lw_all) : GoodIn lw_all (wsV own idx C y (wsW_ y b L r hh)) := by
  refine lw_app ?_ (lw_methW h5)
  intro w hw
  simp only [List.mem_cons, List.not_mem_nil, or_false] at hw
  rcases hw with e | e | e | e
  · rw [e]; exact h1
  · rw [e]; exact h2
  · rw [e]; exact h3
  · rw [e]; exact h4
theorem lw_SW {own : String} {idx : Nat} {y : MethodName} {b : ByteArray} {L : Nat} {r : Option FieldType} {hh : List (Nat × Nat × Nat × Nat)} (h1 : Cond.methodLink own idx y ∈ lw_all) (h2 : Cond.static y ∈ lw_all) (h3 : Cond.initialized y.cls ∈ lw_all) (h4 : Cond.codeWith y b L r hh ∈ lw_all) : GoodIn lw_all (va_wsS own idx y (wsW_ y b L r hh)) := by
  refine lw_app ?_ (lw_methW h4)
  intro w hw
  simp only [List.mem_cons, List.not_mem_nil, or_false] at hw
  rcases hw with e | e | e
  · rw [e]; exact h1
  · rw [e]; exact h2
  · rw [e]; exact h3
/-- a word by its place in its run of the tables -/
theorem lw_at {r : List Cond} (hr : ∀ w ∈ r, w ∈ lw_tbl) {w : Cond} (i : Nat) (h : r[i]? = some w) : w ∈ lw_tbl := hr w (List.mem_of_getElem? h)
theorem lw_g {w : Cond} (h : w ∈ lw_tbl) (g : goodWord w = true) : w ∈ lw_all := List.mem_filter.mpr ⟨h, g⟩
theorem lw_ms : ∀ w ∈ k2_sels lw_privs, w ∈ lw_tbl := fun w h => show w ∈ k2_sels lw_privs ++ tables_1 from List.mem_append_left _ h
theorem lw_m1 : ∀ w ∈ tables_1_1, w ∈ lw_tbl := fun w h => show w ∈ k2_sels lw_privs ++ tables_1 from List.mem_append_right (k2_sels lw_privs) (show w ∈ tables_1 from List.mem_append_left _ h)
theorem lw_m2 : ∀ w ∈ tables_1_2, w ∈ lw_tbl := fun w h => show w ∈ k2_sels lw_privs ++ tables_1 from List.mem_append_right (k2_sels lw_privs) (show w ∈ tables_1 from List.mem_append_right _ h)
theorem qs0 : (Cond.selects "ReplayFlow" ⟨"ReplayFlow", "begin", "(I)V"⟩ ⟨"ReplayFlow", "begin", "(I)V"⟩) ∈ lw_all := lw_g (lw_at lw_ms 0 rfl) rfl
theorem qs1 : (Cond.selects "ReplayFlow" ⟨"ReplayFlow", "carryOn", "(I)V"⟩ ⟨"ReplayFlow", "carryOn", "(I)V"⟩) ∈ lw_all := lw_g (lw_at lw_ms 1 rfl) rfl
theorem qs2 : (Cond.selects "ReplayFlow" ⟨"ReplayFlow", "goTo", "(II)V"⟩ ⟨"ReplayFlow", "goTo", "(II)V"⟩) ∈ lw_all := lw_g (lw_at lw_ms 2 rfl) rfl
theorem qs3 : (Cond.selects "ReplayFlow" ⟨"ReplayFlow", "finish", "(II)V"⟩ ⟨"ReplayFlow", "finish", "(II)V"⟩) ∈ lw_all := lw_g (lw_at lw_ms 3 rfl) rfl
theorem qs4 : (Cond.selects "ReplayFlow" ⟨"ReplayFlow", "plain", "(II)V"⟩ ⟨"ReplayFlow", "plain", "(II)V"⟩) ∈ lw_all := lw_g (lw_at lw_ms 4 rfl) rfl
theorem qs5 : (Cond.selects "ReplayFlow" ⟨"ReplayFlow", "await", "(II)V"⟩ ⟨"ReplayFlow", "await", "(II)V"⟩) ∈ lw_all := lw_g (lw_at lw_ms 5 rfl) rfl
theorem qs6 : (Cond.selects "ReplayFlow" ⟨"ReplayFlow", "takeSignal", "(II)V"⟩ ⟨"ReplayFlow", "takeSignal", "(II)V"⟩) ∈ lw_all := lw_g (lw_at lw_ms 6 rfl) rfl
theorem qs7 : (Cond.selects "ReplayFlow" ⟨"ReplayFlow", "addEvent", "(II)V"⟩ ⟨"ReplayFlow", "addEvent", "(II)V"⟩) ∈ lw_all := lw_g (lw_at lw_ms 7 rfl) rfl
theorem qs8 : (Cond.selects "ReplayFlow" ⟨"ReplayFlow", "meet", "(II)V"⟩ ⟨"ReplayFlow", "meet", "(II)V"⟩) ∈ lw_all := lw_g (lw_at lw_ms 8 rfl) rfl
theorem qs9 : (Cond.selects "ReplayFlow" ⟨"ReplayFlow", "fallAsleep", "(I)V"⟩ ⟨"ReplayFlow", "fallAsleep", "(I)V"⟩) ∈ lw_all := lw_g (lw_at lw_ms 9 rfl) rfl
theorem qs10 : (Cond.selects "ReplayFlow" ⟨"ReplayFlow", "stateOf", "(I)I"⟩ ⟨"ReplayFlow", "stateOf", "(I)I"⟩) ∈ lw_all := lw_g (lw_at lw_ms 10 rfl) rfl
theorem qs11 : (Cond.selects "ReplayFlow" ⟨"ReplayFlow", "remember", "(I)V"⟩ ⟨"ReplayFlow", "remember", "(I)V"⟩) ∈ lw_all := lw_g (lw_at lw_ms 11 rfl) rfl
theorem qs12 : (Cond.selects "ReplayFlowModel" ⟨"ReplayFlowModel", "isRun", "(I)Z"⟩ ⟨"ReplayFlowModel", "isRun", "(I)Z"⟩) ∈ lw_all := lw_g (lw_at lw_ms 12 rfl) rfl
theorem qs13 : (Cond.selects "ReplayFlowModel" ⟨"ReplayFlowModel", "goOn", "(I)V"⟩ ⟨"ReplayFlowModel", "goOn", "(I)V"⟩) ∈ lw_all := lw_g (lw_at lw_ms 13 rfl) rfl
theorem qs14 : (Cond.selects "ReplayFlowModel" ⟨"ReplayFlowModel", "isWait", "(I)Z"⟩ ⟨"ReplayFlowModel", "isWait", "(I)Z"⟩) ∈ lw_all := lw_g (lw_at lw_ms 14 rfl) rfl
theorem qs15 : (Cond.selects "ReplayFlowModel" ⟨"ReplayFlowModel", "end", "(II)V"⟩ ⟨"ReplayFlowModel", "end", "(II)V"⟩) ∈ lw_all := lw_g (lw_at lw_ms 15 rfl) rfl
theorem qs16 : (Cond.selects "ReplayFlowModel" ⟨"ReplayFlowModel", "waits", "(I)Z"⟩ ⟨"ReplayFlowModel", "waits", "(I)Z"⟩) ∈ lw_all := lw_g (lw_at lw_ms 16 rfl) rfl
theorem qs17 : (Cond.selects "ReplayFlowModel" ⟨"ReplayFlowModel", "firstSignal", "(II)I"⟩ ⟨"ReplayFlowModel", "firstSignal", "(II)I"⟩) ∈ lw_all := lw_g (lw_at lw_ms 17 rfl) rfl
theorem qs18 : (Cond.selects "ReplayFlowModel" ⟨"ReplayFlowModel", "pastWait", "(IZI)V"⟩ ⟨"ReplayFlowModel", "pastWait", "(IZI)V"⟩) ∈ lw_all := lw_g (lw_at lw_ms 18 rfl) rfl
theorem qs19 : (Cond.selects "ReplayFlowModel" ⟨"ReplayFlowModel", "plain", "(I)V"⟩ ⟨"ReplayFlowModel", "plain", "(I)V"⟩) ∈ lw_all := lw_g (lw_at lw_ms 19 rfl) rfl
end
section
theorem q98 : (Jvm.Cond.arrayClass Jvm.ClassFile.FieldType.int) ∈ lw_all := lw_g (lw_at lw_m1 78 rfl) rfl
set_option maxRecDepth 100000
theorem q99 : (Jvm.Cond.arrayClass Jvm.ClassFile.FieldType.boolean) ∈ lw_all := lw_g (lw_at lw_m1 79 rfl) rfl
theorem q20 : (Jvm.Cond.initialized "ReplayFlowLaw") ∈ lw_all := lw_g (lw_at lw_m1 0 rfl) rfl
set_option maxRecDepth 100000
theorem q23 : (Jvm.Cond.classLink "ReplayFlowLaw" (7 : Nat) "ReplayFlow") ∈ lw_all := lw_g (lw_at lw_m1 3 rfl) rfl
theorem q25 : (Jvm.Cond.methodLink "ReplayFlowLaw" (9 : Nat) ({ cls := "ReplayFlow", name := "<init>", desc := "()V" } : Jvm.MethodName)) ∈ lw_all := lw_g (lw_at lw_m1 5 rfl) rfl
theorem q100 : (Jvm.Cond.methodLink "ReplayFlowLaw" (13 : Nat) ({ cls := "ReplayFlow", name := "emit", desc := "(III)I" } : Jvm.MethodName)) ∈ lw_all := lw_g (lw_at lw_m1 80 rfl) rfl
theorem q104 : (Jvm.Cond.methodLink "ReplayFlowLaw" (18 : Nat) ({ cls := "ReplayFlow", name := "start", desc := "(II)I" } : Jvm.MethodName)) ∈ lw_all := lw_g (lw_at lw_m1 84 rfl) rfl
theorem q151 : (Jvm.Cond.methodLink "ReplayFlowLaw" (23 : Nat) ({ cls := "ReplayFlow", name := "answer", desc := "(II)I" } : Jvm.MethodName)) ∈ lw_all := lw_g (lw_at lw_m1 131 rfl) rfl
theorem q163 : (Jvm.Cond.methodLink "ReplayFlowLaw" (27 : Nat) ({ cls := "ReplayFlow", name := "signal", desc := "(III)I" } : Jvm.MethodName)) ∈ lw_all := lw_g (lw_at lw_m1 143 rfl) rfl
theorem q167 : (Jvm.Cond.methodLink "ReplayFlowLaw" (31 : Nat) ({ cls := "ReplayFlow", name := "pass", desc := "(I)I" } : Jvm.MethodName)) ∈ lw_all := lw_g (lw_at lw_m1 147 rfl) rfl
theorem q171 : (Jvm.Cond.methodLink "ReplayFlowLaw" (36 : Nat) ({ cls := "ReplayFlow", name := "forget", desc := "(I)I" } : Jvm.MethodName)) ∈ lw_all := lw_g (lw_at lw_m1 151 rfl) rfl
theorem q175 : (Jvm.Cond.methodLink "ReplayFlowLaw" (40 : Nat) ({ cls := "ReplayFlow", name := "clear", desc := "()V" } : Jvm.MethodName)) ∈ lw_all := lw_g (lw_at lw_m1 155 rfl) rfl
theorem q179 : (Jvm.Cond.methodLink "ReplayFlowLaw" (44 : Nat) ({ cls := "ReplayFlow", name := "state", desc := "(I)I" } : Jvm.MethodName)) ∈ lw_all := lw_g (lw_at lw_m1 159 rfl) rfl
theorem q183 : (Jvm.Cond.methodLink "ReplayFlowLaw" (48 : Nat) ({ cls := "ReplayFlow", name := "register", desc := "(II)I" } : Jvm.MethodName)) ∈ lw_all := lw_g (lw_at lw_m1 163 rfl) rfl
theorem q187 : (Jvm.Cond.methodLink "ReplayFlowLaw" (52 : Nat) ({ cls := "ReplayFlow", name := "activity", desc := "(I)I" } : Jvm.MethodName)) ∈ lw_all := lw_g (lw_at lw_m1 167 rfl) rfl
theorem q191 : (Jvm.Cond.methodLink "ReplayFlowLaw" (56 : Nat) ({ cls := "ReplayFlow", name := "result", desc := "(I)I" } : Jvm.MethodName)) ∈ lw_all := lw_g (lw_at lw_m1 171 rfl) rfl
theorem q195 : (Jvm.Cond.methodLink "ReplayFlowLaw" (60 : Nat) ({ cls := "ReplayFlow", name := "untaken", desc := "(I)I" } : Jvm.MethodName)) ∈ lw_all := lw_g (lw_at lw_m1 175 rfl) rfl
theorem q199 : (Jvm.Cond.methodLink "ReplayFlowLaw" (64 : Nat) ({ cls := "ReplayFlow", name := "time", desc := "()I" } : Jvm.MethodName)) ∈ lw_all := lw_g (lw_at lw_m1 179 rfl) rfl
theorem q203 : (Jvm.Cond.classLink "ReplayFlowLaw" (10 : Nat) "ReplayFlowModel") ∈ lw_all := lw_g (lw_at lw_m1 183 rfl) rfl
theorem q205 : (Jvm.Cond.methodLink "ReplayFlowLaw" (12 : Nat) ({ cls := "ReplayFlowModel", name := "<init>", desc := "()V" } : Jvm.MethodName)) ∈ lw_all := lw_g (lw_at lw_m1 185 rfl) rfl
theorem q261 : (Jvm.Cond.methodLink "ReplayFlowLaw" (17 : Nat) ({ cls := "ReplayFlowModel", name := "emit", desc := "(III)I" } : Jvm.MethodName)) ∈ lw_all := lw_g (lw_at lw_m2 1 rfl) rfl
theorem q265 : (Jvm.Cond.methodLink "ReplayFlowLaw" (22 : Nat) ({ cls := "ReplayFlowModel", name := "start", desc := "(II)I" } : Jvm.MethodName)) ∈ lw_all := lw_g (lw_at lw_m2 5 rfl) rfl
theorem q301 : (Jvm.Cond.methodLink "ReplayFlowLaw" (26 : Nat) ({ cls := "ReplayFlowModel", name := "answer", desc := "(II)I" } : Jvm.MethodName)) ∈ lw_all := lw_g (lw_at lw_m2 41 rfl) rfl
theorem q305 : (Jvm.Cond.methodLink "ReplayFlowLaw" (30 : Nat) ({ cls := "ReplayFlowModel", name := "signal", desc := "(III)I" } : Jvm.MethodName)) ∈ lw_all := lw_g (lw_at lw_m2 45 rfl) rfl
theorem q309 : (Jvm.Cond.methodLink "ReplayFlowLaw" (35 : Nat) ({ cls := "ReplayFlowModel", name := "pass", desc := "(I)I" } : Jvm.MethodName)) ∈ lw_all := lw_g (lw_at lw_m2 49 rfl) rfl
theorem q313 : (Jvm.Cond.methodLink "ReplayFlowLaw" (39 : Nat) ({ cls := "ReplayFlowModel", name := "forget", desc := "(I)I" } : Jvm.MethodName)) ∈ lw_all := lw_g (lw_at lw_m2 53 rfl) rfl
theorem q317 : (Jvm.Cond.methodLink "ReplayFlowLaw" (43 : Nat) ({ cls := "ReplayFlowModel", name := "clear", desc := "()V" } : Jvm.MethodName)) ∈ lw_all := lw_g (lw_at lw_m2 57 rfl) rfl
theorem q321 : (Jvm.Cond.methodLink "ReplayFlowLaw" (47 : Nat) ({ cls := "ReplayFlowModel", name := "state", desc := "(I)I" } : Jvm.MethodName)) ∈ lw_all := lw_g (lw_at lw_m2 61 rfl) rfl
theorem q325 : (Jvm.Cond.methodLink "ReplayFlowLaw" (51 : Nat) ({ cls := "ReplayFlowModel", name := "register", desc := "(II)I" } : Jvm.MethodName)) ∈ lw_all := lw_g (lw_at lw_m2 65 rfl) rfl
theorem q329 : (Jvm.Cond.methodLink "ReplayFlowLaw" (55 : Nat) ({ cls := "ReplayFlowModel", name := "activity", desc := "(I)I" } : Jvm.MethodName)) ∈ lw_all := lw_g (lw_at lw_m2 69 rfl) rfl
theorem q333 : (Jvm.Cond.methodLink "ReplayFlowLaw" (59 : Nat) ({ cls := "ReplayFlowModel", name := "result", desc := "(I)I" } : Jvm.MethodName)) ∈ lw_all := lw_g (lw_at lw_m2 73 rfl) rfl
theorem q337 : (Jvm.Cond.methodLink "ReplayFlowLaw" (63 : Nat) ({ cls := "ReplayFlowModel", name := "untaken", desc := "(I)I" } : Jvm.MethodName)) ∈ lw_all := lw_g (lw_at lw_m2 77 rfl) rfl
theorem q341 : (Jvm.Cond.methodLink "ReplayFlowLaw" (68 : Nat) ({ cls := "ReplayFlowModel", name := "time", desc := "()I" } : Jvm.MethodName)) ∈ lw_all := lw_g (lw_at lw_m2 81 rfl) rfl
/-! java/lang/Object -/
set_option maxRecDepth 100000
def RJ0 : String := "java/lang/Object"
abbrev cJ0_init : ByteArray := object_method_1_code
def yJ0_init : MethodName := ⟨RJ0, "<init>", "()V"⟩
theorem dJ0_init_0 : decode cJ0_init 0 = .ok (.return_, 1) := by decide +kernel
theorem q29 : (Jvm.Cond.instanceMethod ({ cls := "java/lang/Object", name := "<init>", desc := "()V" } : Jvm.MethodName)) ∈ lw_all := lw_g (lw_at lw_m1 9 rfl) rfl
theorem q30 : (Jvm.Cond.code ({ cls := "java/lang/Object", name := "<init>", desc := "()V" } : Jvm.MethodName) object_method_1_code (1 : Nat) (Option.none : Option Jvm.ClassFile.FieldType)) ∈ lw_all := lw_g (lw_at lw_m1 10 rfl) rfl
/-! ReplayFlow -/
set_option maxRecDepth 100000
def RX0 : String := "ReplayFlow"
def TX0 : u_T := fun k => match k with
  | 0 => ("ReplayFlow", "length", "I", false)
  | 1 => ("ReplayFlow", "op", "[I", true)
  | 2 => ("ReplayFlow", "first", "[I", true)
  | 3 => ("ReplayFlow", "second", "[I", true)
  | 4 => ("ReplayFlow", "locked", "Z", false)
  | 5 => ("ReplayFlow", "now", "I", false)
  | 6 => ("ReplayFlow", "started", "[Z", true)
  | 7 => ("ReplayFlow", "argument", "[I", true)
  | 8 => ("ReplayFlow", "events", "[I", true)
  | 9 => ("ReplayFlow", "event", "[I", true)
  | 10 => ("ReplayFlow", "signals", "[I", true)
  | 11 => ("ReplayFlow", "channelOf", "[I", true)
  | 12 => ("ReplayFlow", "valueOf", "[I", true)
  | 13 => ("ReplayFlow", "taken", "[Z", true)
  | 14 => ("ReplayFlow", "wakesAt", "[I", true)
  | 15 => ("ReplayFlow", "known", "[Z", true)
  | 16 => ("ReplayFlow", "registers", "[I", true)
  | 17 => ("ReplayFlow", "place", "[I", true)
  | 18 => ("ReplayFlow", "states", "[I", true)
  | 19 => ("ReplayFlow", "results", "[I", true)
  | 20 => ("ReplayFlow", "met", "[I", true)
  | _ => ("ReplayFlow", "inARow", "[I", true)
def tyX0 : Nat → FieldType := fun k => match k with
  | 0 => .int
  | 1 => .array .int
  | 2 => .array .int
  | 3 => .array .int
  | 4 => .boolean
  | 5 => .int
  | 6 => .array .boolean
  | 7 => .array .int
  | 8 => .array .int
  | 9 => .array .int
  | 10 => .array .int
  | 11 => .array .int
  | 12 => .array .int
  | 13 => .array .boolean
  | 14 => .array .int
  | 15 => .array .boolean
  | 16 => .array .int
  | 17 => .array .int
  | 18 => .array .int
  | 19 => .array .int
  | 20 => .array .int
  | _ => .array .int
abbrev wsX00 : List Cond := u_ws RX0 TX0 22
set_option maxRecDepth 100000 in
theorem nmX0 : ∀ a, a < 22 → ∀ b, b < 22 → a ≠ b → (TX0 a).2.1 ≠ (TX0 b).2.1 := by decide +kernel
set_option maxRecDepth 100000 in
theorem tyX0_ok : ∀ k, k < 22 → parseFieldDescriptor (TX0 k).2.2.1 = some (tyX0 k) := by decide +kernel
abbrev cX0_init : ByteArray := prog_1_method_1_code
def yX0_init : MethodName := ⟨RX0, "<init>", "()V"⟩
theorem dX0_init_0 : decode cX0_init 0 = .ok (.aload_n 0, 1) := by decide +kernel
theorem dX0_init_1 : decode cX0_init 1 = .ok (.invokespecial 1, 3) := by decide +kernel
theorem dX0_init_4 : decode cX0_init 4 = .ok (.aload_n 0, 1) := by decide +kernel
theorem dX0_init_5 : decode cX0_init 5 = .ok (.bipush 16, 2) := by decide +kernel
theorem dX0_init_7 : decode cX0_init 7 = .ok (.newarray .int, 2) := by decide +kernel
theorem dX0_init_9 : decode cX0_init 9 = .ok (.putfield 7, 3) := by decide +kernel
theorem dX0_init_12 : decode cX0_init 12 = .ok (.aload_n 0, 1) := by decide +kernel
theorem dX0_init_13 : decode cX0_init 13 = .ok (.bipush 16, 2) := by decide +kernel
theorem dX0_init_15 : decode cX0_init 15 = .ok (.newarray .int, 2) := by decide +kernel
theorem dX0_init_17 : decode cX0_init 17 = .ok (.putfield 13, 3) := by decide +kernel
theorem dX0_init_20 : decode cX0_init 20 = .ok (.aload_n 0, 1) := by decide +kernel
theorem dX0_init_21 : decode cX0_init 21 = .ok (.bipush 16, 2) := by decide +kernel
theorem dX0_init_23 : decode cX0_init 23 = .ok (.newarray .int, 2) := by decide +kernel
theorem dX0_init_25 : decode cX0_init 25 = .ok (.putfield 16, 3) := by decide +kernel
theorem dX0_init_28 : decode cX0_init 28 = .ok (.aload_n 0, 1) := by decide +kernel
theorem dX0_init_29 : decode cX0_init 29 = .ok (.iconst 3, 1) := by decide +kernel
theorem dX0_init_30 : decode cX0_init 30 = .ok (.newarray .boolean, 2) := by decide +kernel
theorem dX0_init_32 : decode cX0_init 32 = .ok (.putfield 19, 3) := by decide +kernel
theorem dX0_init_35 : decode cX0_init 35 = .ok (.aload_n 0, 1) := by decide +kernel
theorem dX0_init_36 : decode cX0_init 36 = .ok (.iconst 3, 1) := by decide +kernel
theorem dX0_init_37 : decode cX0_init 37 = .ok (.newarray .int, 2) := by decide +kernel
theorem dX0_init_39 : decode cX0_init 39 = .ok (.putfield 23, 3) := by decide +kernel
theorem dX0_init_42 : decode cX0_init 42 = .ok (.aload_n 0, 1) := by decide +kernel
theorem dX0_init_43 : decode cX0_init 43 = .ok (.iconst 3, 1) := by decide +kernel
theorem dX0_init_44 : decode cX0_init 44 = .ok (.newarray .int, 2) := by decide +kernel
theorem dX0_init_46 : decode cX0_init 46 = .ok (.putfield 26, 3) := by decide +kernel
theorem dX0_init_49 : decode cX0_init 49 = .ok (.aload_n 0, 1) := by decide +kernel
theorem dX0_init_50 : decode cX0_init 50 = .ok (.bipush 120, 2) := by decide +kernel
theorem dX0_init_52 : decode cX0_init 52 = .ok (.newarray .int, 2) := by decide +kernel
theorem dX0_init_54 : decode cX0_init 54 = .ok (.putfield 29, 3) := by decide +kernel
theorem dX0_init_57 : decode cX0_init 57 = .ok (.aload_n 0, 1) := by decide +kernel
theorem dX0_init_58 : decode cX0_init 58 = .ok (.iconst 3, 1) := by decide +kernel
theorem dX0_init_59 : decode cX0_init 59 = .ok (.newarray .int, 2) := by decide +kernel
theorem dX0_init_61 : decode cX0_init 61 = .ok (.putfield 32, 3) := by decide +kernel
theorem dX0_init_64 : decode cX0_init 64 = .ok (.aload_n 0, 1) := by decide +kernel
theorem dX0_init_65 : decode cX0_init 65 = .ok (.bipush 72, 2) := by decide +kernel
theorem dX0_init_67 : decode cX0_init 67 = .ok (.newarray .int, 2) := by decide +kernel
theorem dX0_init_69 : decode cX0_init 69 = .ok (.putfield 35, 3) := by decide +kernel
theorem dX0_init_72 : decode cX0_init 72 = .ok (.aload_n 0, 1) := by decide +kernel
theorem dX0_init_73 : decode cX0_init 73 = .ok (.bipush 72, 2) := by decide +kernel
theorem dX0_init_75 : decode cX0_init 75 = .ok (.newarray .int, 2) := by decide +kernel
theorem dX0_init_77 : decode cX0_init 77 = .ok (.putfield 38, 3) := by decide +kernel
theorem dX0_init_80 : decode cX0_init 80 = .ok (.aload_n 0, 1) := by decide +kernel
theorem dX0_init_81 : decode cX0_init 81 = .ok (.bipush 72, 2) := by decide +kernel
theorem dX0_init_83 : decode cX0_init 83 = .ok (.newarray .boolean, 2) := by decide +kernel
theorem dX0_init_85 : decode cX0_init 85 = .ok (.putfield 41, 3) := by decide +kernel
theorem dX0_init_88 : decode cX0_init 88 = .ok (.aload_n 0, 1) := by decide +kernel
theorem dX0_init_89 : decode cX0_init 89 = .ok (.iconst 3, 1) := by decide +kernel
theorem dX0_init_90 : decode cX0_init 90 = .ok (.newarray .int, 2) := by decide +kernel
theorem dX0_init_92 : decode cX0_init 92 = .ok (.putfield 44, 3) := by decide +kernel
theorem dX0_init_95 : decode cX0_init 95 = .ok (.aload_n 0, 1) := by decide +kernel
theorem dX0_init_96 : decode cX0_init 96 = .ok (.iconst 3, 1) := by decide +kernel
theorem dX0_init_97 : decode cX0_init 97 = .ok (.newarray .boolean, 2) := by decide +kernel
theorem dX0_init_99 : decode cX0_init 99 = .ok (.putfield 47, 3) := by decide +kernel
theorem dX0_init_102 : decode cX0_init 102 = .ok (.aload_n 0, 1) := by decide +kernel
theorem dX0_init_103 : decode cX0_init 103 = .ok (.bipush 12, 2) := by decide +kernel
theorem dX0_init_105 : decode cX0_init 105 = .ok (.newarray .int, 2) := by decide +kernel
theorem dX0_init_107 : decode cX0_init 107 = .ok (.putfield 50, 3) := by decide +kernel
theorem dX0_init_110 : decode cX0_init 110 = .ok (.aload_n 0, 1) := by decide +kernel
theorem dX0_init_111 : decode cX0_init 111 = .ok (.iconst 3, 1) := by decide +kernel
theorem dX0_init_112 : decode cX0_init 112 = .ok (.newarray .int, 2) := by decide +kernel
theorem dX0_init_114 : decode cX0_init 114 = .ok (.putfield 53, 3) := by decide +kernel
theorem dX0_init_117 : decode cX0_init 117 = .ok (.aload_n 0, 1) := by decide +kernel
theorem dX0_init_118 : decode cX0_init 118 = .ok (.iconst 3, 1) := by decide +kernel
theorem dX0_init_119 : decode cX0_init 119 = .ok (.newarray .int, 2) := by decide +kernel
theorem dX0_init_121 : decode cX0_init 121 = .ok (.putfield 56, 3) := by decide +kernel
theorem dX0_init_124 : decode cX0_init 124 = .ok (.aload_n 0, 1) := by decide +kernel
theorem dX0_init_125 : decode cX0_init 125 = .ok (.iconst 3, 1) := by decide +kernel
theorem dX0_init_126 : decode cX0_init 126 = .ok (.newarray .int, 2) := by decide +kernel
theorem dX0_init_128 : decode cX0_init 128 = .ok (.putfield 59, 3) := by decide +kernel
theorem dX0_init_131 : decode cX0_init 131 = .ok (.aload_n 0, 1) := by decide +kernel
theorem dX0_init_132 : decode cX0_init 132 = .ok (.iconst 3, 1) := by decide +kernel
theorem dX0_init_133 : decode cX0_init 133 = .ok (.newarray .int, 2) := by decide +kernel
theorem dX0_init_135 : decode cX0_init 135 = .ok (.putfield 62, 3) := by decide +kernel
theorem dX0_init_138 : decode cX0_init 138 = .ok (.aload_n 0, 1) := by decide +kernel
theorem dX0_init_139 : decode cX0_init 139 = .ok (.iconst 3, 1) := by decide +kernel
theorem dX0_init_140 : decode cX0_init 140 = .ok (.newarray .int, 2) := by decide +kernel
theorem dX0_init_142 : decode cX0_init 142 = .ok (.putfield 65, 3) := by decide +kernel
theorem dX0_init_145 : decode cX0_init 145 = .ok (.aload_n 0, 1) := by decide +kernel
theorem dX0_init_146 : decode cX0_init 146 = .ok (.iconst 0, 1) := by decide +kernel
theorem dX0_init_147 : decode cX0_init 147 = .ok (.putfield 68, 3) := by decide +kernel
theorem dX0_init_150 : decode cX0_init 150 = .ok (.return_, 1) := by decide +kernel
abbrev cX0_emit : ByteArray := prog_1_method_3_code
def yX0_emit : MethodName := ⟨RX0, "emit", "(III)I"⟩
theorem dX0_emit_0 : decode cX0_emit 0 = .ok (.iload_n 1, 1) := by decide +kernel
theorem dX0_emit_1 : decode cX0_emit 1 = .ok (.ifCond .lt 9, 3) := by decide +kernel
theorem dX0_emit_4 : decode cX0_emit 4 = .ok (.iload_n 1, 1) := by decide +kernel
theorem dX0_emit_5 : decode cX0_emit 5 = .ok (.bipush 8, 2) := by decide +kernel
theorem dX0_emit_7 : decode cX0_emit 7 = .ok (.if_icmp .le 5, 3) := by decide +kernel
theorem dX0_emit_10 : decode cX0_emit 10 = .ok (.iconst (-1), 1) := by decide +kernel
theorem dX0_emit_11 : decode cX0_emit 11 = .ok (.ireturn, 1) := by decide +kernel
theorem dX0_emit_12 : decode cX0_emit 12 = .ok (.aload_n 0, 1) := by decide +kernel
theorem dX0_emit_13 : decode cX0_emit 13 = .ok (.getfield 72, 3) := by decide +kernel
theorem dX0_emit_16 : decode cX0_emit 16 = .ok (.bipush 16, 2) := by decide +kernel
theorem dX0_emit_18 : decode cX0_emit 18 = .ok (.if_icmp .lt 6, 3) := by decide +kernel
theorem dX0_emit_21 : decode cX0_emit 21 = .ok (.bipush (-2), 2) := by decide +kernel
theorem dX0_emit_23 : decode cX0_emit 23 = .ok (.ireturn, 1) := by decide +kernel
theorem dX0_emit_24 : decode cX0_emit 24 = .ok (.aload_n 0, 1) := by decide +kernel
theorem dX0_emit_25 : decode cX0_emit 25 = .ok (.getfield 75, 3) := by decide +kernel
theorem dX0_emit_28 : decode cX0_emit 28 = .ok (.ifCond .eq 6, 3) := by decide +kernel
theorem dX0_emit_31 : decode cX0_emit 31 = .ok (.bipush (-5), 2) := by decide +kernel
theorem dX0_emit_33 : decode cX0_emit 33 = .ok (.ireturn, 1) := by decide +kernel
theorem dX0_emit_34 : decode cX0_emit 34 = .ok (.aload_n 0, 1) := by decide +kernel
theorem dX0_emit_35 : decode cX0_emit 35 = .ok (.getfield 72, 3) := by decide +kernel
theorem dX0_emit_38 : decode cX0_emit 38 = .ok (.istore 4, 2) := by decide +kernel
theorem dX0_emit_40 : decode cX0_emit 40 = .ok (.aload_n 0, 1) := by decide +kernel
theorem dX0_emit_41 : decode cX0_emit 41 = .ok (.getfield 7, 3) := by decide +kernel
theorem dX0_emit_44 : decode cX0_emit 44 = .ok (.iload 4, 2) := by decide +kernel
theorem dX0_emit_46 : decode cX0_emit 46 = .ok (.iload_n 1, 1) := by decide +kernel
theorem dX0_emit_47 : decode cX0_emit 47 = .ok (.iastore, 1) := by decide +kernel
theorem dX0_emit_48 : decode cX0_emit 48 = .ok (.aload_n 0, 1) := by decide +kernel
theorem dX0_emit_49 : decode cX0_emit 49 = .ok (.getfield 13, 3) := by decide +kernel
theorem dX0_emit_52 : decode cX0_emit 52 = .ok (.iload 4, 2) := by decide +kernel
theorem dX0_emit_54 : decode cX0_emit 54 = .ok (.iload_n 2, 1) := by decide +kernel
theorem dX0_emit_55 : decode cX0_emit 55 = .ok (.iastore, 1) := by decide +kernel
theorem dX0_emit_56 : decode cX0_emit 56 = .ok (.aload_n 0, 1) := by decide +kernel
theorem dX0_emit_57 : decode cX0_emit 57 = .ok (.getfield 16, 3) := by decide +kernel
theorem dX0_emit_60 : decode cX0_emit 60 = .ok (.iload 4, 2) := by decide +kernel
theorem dX0_emit_62 : decode cX0_emit 62 = .ok (.iload_n 3, 1) := by decide +kernel
theorem dX0_emit_63 : decode cX0_emit 63 = .ok (.iastore, 1) := by decide +kernel
theorem dX0_emit_64 : decode cX0_emit 64 = .ok (.aload_n 0, 1) := by decide +kernel
theorem dX0_emit_65 : decode cX0_emit 65 = .ok (.dup, 1) := by decide +kernel
theorem dX0_emit_66 : decode cX0_emit 66 = .ok (.getfield 72, 3) := by decide +kernel
theorem dX0_emit_69 : decode cX0_emit 69 = .ok (.iconst 1, 1) := by decide +kernel
theorem dX0_emit_70 : decode cX0_emit 70 = .ok (.iadd, 1) := by decide +kernel
theorem dX0_emit_71 : decode cX0_emit 71 = .ok (.putfield 72, 3) := by decide +kernel
theorem dX0_emit_74 : decode cX0_emit 74 = .ok (.iload 4, 2) := by decide +kernel
theorem dX0_emit_76 : decode cX0_emit 76 = .ok (.ireturn, 1) := by decide +kernel
abbrev cX0_start : ByteArray := prog_1_method_16_code
def yX0_start : MethodName := ⟨RX0, "start", "(II)I"⟩
theorem dX0_start_0 : decode cX0_start 0 = .ok (.iload_n 1, 1) := by decide +kernel
theorem dX0_start_1 : decode cX0_start 1 = .ok (.invokestatic 114, 3) := by decide +kernel
theorem dX0_start_4 : decode cX0_start 4 = .ok (.ifCond .eq 6, 3) := by decide +kernel
theorem dX0_start_7 : decode cX0_start 7 = .ok (.bipush (-3), 2) := by decide +kernel
theorem dX0_start_9 : decode cX0_start 9 = .ok (.ireturn, 1) := by decide +kernel
theorem dX0_start_10 : decode cX0_start 10 = .ok (.aload_n 0, 1) := by decide +kernel
theorem dX0_start_11 : decode cX0_start 11 = .ok (.getfield 19, 3) := by decide +kernel
theorem dX0_start_14 : decode cX0_start 14 = .ok (.iload_n 1, 1) := by decide +kernel
theorem dX0_start_15 : decode cX0_start 15 = .ok (.baload, 1) := by decide +kernel
theorem dX0_start_16 : decode cX0_start 16 = .ok (.ifCond .eq 6, 3) := by decide +kernel
theorem dX0_start_19 : decode cX0_start 19 = .ok (.bipush (-5), 2) := by decide +kernel
theorem dX0_start_21 : decode cX0_start 21 = .ok (.ireturn, 1) := by decide +kernel
theorem dX0_start_22 : decode cX0_start 22 = .ok (.aload_n 0, 1) := by decide +kernel
theorem dX0_start_23 : decode cX0_start 23 = .ok (.iconst 1, 1) := by decide +kernel
theorem dX0_start_24 : decode cX0_start 24 = .ok (.putfield 75, 3) := by decide +kernel
theorem dX0_start_27 : decode cX0_start 27 = .ok (.aload_n 0, 1) := by decide +kernel
theorem dX0_start_28 : decode cX0_start 28 = .ok (.getfield 19, 3) := by decide +kernel
theorem dX0_start_31 : decode cX0_start 31 = .ok (.iload_n 1, 1) := by decide +kernel
theorem dX0_start_32 : decode cX0_start 32 = .ok (.iconst 1, 1) := by decide +kernel
theorem dX0_start_33 : decode cX0_start 33 = .ok (.bastore, 1) := by decide +kernel
theorem dX0_start_34 : decode cX0_start 34 = .ok (.aload_n 0, 1) := by decide +kernel
theorem dX0_start_35 : decode cX0_start 35 = .ok (.getfield 23, 3) := by decide +kernel
theorem dX0_start_38 : decode cX0_start 38 = .ok (.iload_n 1, 1) := by decide +kernel
theorem dX0_start_39 : decode cX0_start 39 = .ok (.iload_n 2, 1) := by decide +kernel
theorem dX0_start_40 : decode cX0_start 40 = .ok (.iastore, 1) := by decide +kernel
theorem dX0_start_41 : decode cX0_start 41 = .ok (.aload_n 0, 1) := by decide +kernel
theorem dX0_start_42 : decode cX0_start 42 = .ok (.getfield 26, 3) := by decide +kernel
theorem dX0_start_45 : decode cX0_start 45 = .ok (.iload_n 1, 1) := by decide +kernel
theorem dX0_start_46 : decode cX0_start 46 = .ok (.iconst 0, 1) := by decide +kernel
theorem dX0_start_47 : decode cX0_start 47 = .ok (.iastore, 1) := by decide +kernel
theorem dX0_start_48 : decode cX0_start 48 = .ok (.aload_n 0, 1) := by decide +kernel
theorem dX0_start_49 : decode cX0_start 49 = .ok (.getfield 32, 3) := by decide +kernel
theorem dX0_start_52 : decode cX0_start 52 = .ok (.iload_n 1, 1) := by decide +kernel
theorem dX0_start_53 : decode cX0_start 53 = .ok (.iconst 0, 1) := by decide +kernel
theorem dX0_start_54 : decode cX0_start 54 = .ok (.iastore, 1) := by decide +kernel
theorem dX0_start_55 : decode cX0_start 55 = .ok (.aload_n 0, 1) := by decide +kernel
theorem dX0_start_56 : decode cX0_start 56 = .ok (.getfield 44, 3) := by decide +kernel
theorem dX0_start_59 : decode cX0_start 59 = .ok (.iload_n 1, 1) := by decide +kernel
theorem dX0_start_60 : decode cX0_start 60 = .ok (.iconst 0, 1) := by decide +kernel
theorem dX0_start_61 : decode cX0_start 61 = .ok (.iastore, 1) := by decide +kernel
theorem dX0_start_62 : decode cX0_start 62 = .ok (.aload_n 0, 1) := by decide +kernel
theorem dX0_start_63 : decode cX0_start 63 = .ok (.iload_n 1, 1) := by decide +kernel
theorem dX0_start_64 : decode cX0_start 64 = .ok (.invokevirtual 108, 3) := by decide +kernel
theorem dX0_start_67 : decode cX0_start 67 = .ok (.aload_n 0, 1) := by decide +kernel
theorem dX0_start_68 : decode cX0_start 68 = .ok (.getfield 56, 3) := by decide +kernel
theorem dX0_start_71 : decode cX0_start 71 = .ok (.iload_n 1, 1) := by decide +kernel
theorem dX0_start_72 : decode cX0_start 72 = .ok (.iaload, 1) := by decide +kernel
theorem dX0_start_73 : decode cX0_start 73 = .ok (.ireturn, 1) := by decide +kernel
abbrev cX0_badRun : ByteArray := prog_1_method_2_code
def yX0_badRun : MethodName := ⟨RX0, "badRun", "(I)Z"⟩
theorem dX0_badRun_0 : decode cX0_badRun 0 = .ok (.iload_n 0, 1) := by decide +kernel
theorem dX0_badRun_1 : decode cX0_badRun 1 = .ok (.ifCond .lt 8, 3) := by decide +kernel
theorem dX0_badRun_4 : decode cX0_badRun 4 = .ok (.iload_n 0, 1) := by decide +kernel
theorem dX0_badRun_5 : decode cX0_badRun 5 = .ok (.iconst 3, 1) := by decide +kernel
theorem dX0_badRun_6 : decode cX0_badRun 6 = .ok (.if_icmp .lt 7, 3) := by decide +kernel
theorem dX0_badRun_9 : decode cX0_badRun 9 = .ok (.iconst 1, 1) := by decide +kernel
theorem dX0_badRun_10 : decode cX0_badRun 10 = .ok (.goto 4, 3) := by decide +kernel
theorem dX0_badRun_13 : decode cX0_badRun 13 = .ok (.iconst 0, 1) := by decide +kernel
theorem dX0_badRun_14 : decode cX0_badRun 14 = .ok (.ireturn, 1) := by decide +kernel
abbrev cX0_begin : ByteArray := prog_1_method_13_code
def yX0_begin : MethodName := ⟨RX0, "begin", "(I)V"⟩
theorem dX0_begin_0 : decode cX0_begin 0 = .ok (.aload_n 0, 1) := by decide +kernel
theorem dX0_begin_1 : decode cX0_begin 1 = .ok (.getfield 47, 3) := by decide +kernel
theorem dX0_begin_4 : decode cX0_begin 4 = .ok (.iload_n 1, 1) := by decide +kernel
theorem dX0_begin_5 : decode cX0_begin 5 = .ok (.iconst 1, 1) := by decide +kernel
theorem dX0_begin_6 : decode cX0_begin 6 = .ok (.bastore, 1) := by decide +kernel
theorem dX0_begin_7 : decode cX0_begin 7 = .ok (.iconst 0, 1) := by decide +kernel
theorem dX0_begin_8 : decode cX0_begin 8 = .ok (.istore_n 2, 1) := by decide +kernel
theorem dX0_begin_9 : decode cX0_begin 9 = .ok (.iload_n 2, 1) := by decide +kernel
theorem dX0_begin_10 : decode cX0_begin 10 = .ok (.iconst 4, 1) := by decide +kernel
theorem dX0_begin_11 : decode cX0_begin 11 = .ok (.if_icmp .ge 20, 3) := by decide +kernel
theorem dX0_begin_14 : decode cX0_begin 14 = .ok (.aload_n 0, 1) := by decide +kernel
theorem dX0_begin_15 : decode cX0_begin 15 = .ok (.getfield 50, 3) := by decide +kernel
theorem dX0_begin_18 : decode cX0_begin 18 = .ok (.iload_n 1, 1) := by decide +kernel
theorem dX0_begin_19 : decode cX0_begin 19 = .ok (.iconst 4, 1) := by decide +kernel
theorem dX0_begin_20 : decode cX0_begin 20 = .ok (.imul, 1) := by decide +kernel
theorem dX0_begin_21 : decode cX0_begin 21 = .ok (.iload_n 2, 1) := by decide +kernel
theorem dX0_begin_22 : decode cX0_begin 22 = .ok (.iadd, 1) := by decide +kernel
theorem dX0_begin_23 : decode cX0_begin 23 = .ok (.iconst 0, 1) := by decide +kernel
theorem dX0_begin_24 : decode cX0_begin 24 = .ok (.iastore, 1) := by decide +kernel
theorem dX0_begin_25 : decode cX0_begin 25 = .ok (.iinc 2 1, 3) := by decide +kernel
theorem dX0_begin_28 : decode cX0_begin 28 = .ok (.goto (-19), 3) := by decide +kernel
theorem dX0_begin_31 : decode cX0_begin 31 = .ok (.aload_n 0, 1) := by decide +kernel
theorem dX0_begin_32 : decode cX0_begin 32 = .ok (.getfield 50, 3) := by decide +kernel
theorem dX0_begin_35 : decode cX0_begin 35 = .ok (.iload_n 1, 1) := by decide +kernel
theorem dX0_begin_36 : decode cX0_begin 36 = .ok (.iconst 4, 1) := by decide +kernel
theorem dX0_begin_37 : decode cX0_begin 37 = .ok (.imul, 1) := by decide +kernel
theorem dX0_begin_38 : decode cX0_begin 38 = .ok (.aload_n 0, 1) := by decide +kernel
theorem dX0_begin_39 : decode cX0_begin 39 = .ok (.getfield 23, 3) := by decide +kernel
theorem dX0_begin_42 : decode cX0_begin 42 = .ok (.iload_n 1, 1) := by decide +kernel
theorem dX0_begin_43 : decode cX0_begin 43 = .ok (.iaload, 1) := by decide +kernel
theorem dX0_begin_44 : decode cX0_begin 44 = .ok (.iastore, 1) := by decide +kernel
theorem dX0_begin_45 : decode cX0_begin 45 = .ok (.aload_n 0, 1) := by decide +kernel
theorem dX0_begin_46 : decode cX0_begin 46 = .ok (.getfield 53, 3) := by decide +kernel
theorem dX0_begin_49 : decode cX0_begin 49 = .ok (.iload_n 1, 1) := by decide +kernel
theorem dX0_begin_50 : decode cX0_begin 50 = .ok (.iconst 0, 1) := by decide +kernel
theorem dX0_begin_51 : decode cX0_begin 51 = .ok (.iastore, 1) := by decide +kernel
theorem dX0_begin_52 : decode cX0_begin 52 = .ok (.aload_n 0, 1) := by decide +kernel
theorem dX0_begin_53 : decode cX0_begin 53 = .ok (.getfield 59, 3) := by decide +kernel
theorem dX0_begin_56 : decode cX0_begin 56 = .ok (.iload_n 1, 1) := by decide +kernel
theorem dX0_begin_57 : decode cX0_begin 57 = .ok (.iconst 0, 1) := by decide +kernel
theorem dX0_begin_58 : decode cX0_begin 58 = .ok (.iastore, 1) := by decide +kernel
theorem dX0_begin_59 : decode cX0_begin 59 = .ok (.aload_n 0, 1) := by decide +kernel
theorem dX0_begin_60 : decode cX0_begin 60 = .ok (.getfield 62, 3) := by decide +kernel
theorem dX0_begin_63 : decode cX0_begin 63 = .ok (.iload_n 1, 1) := by decide +kernel
theorem dX0_begin_64 : decode cX0_begin 64 = .ok (.iconst 0, 1) := by decide +kernel
theorem dX0_begin_65 : decode cX0_begin 65 = .ok (.iastore, 1) := by decide +kernel
theorem dX0_begin_66 : decode cX0_begin 66 = .ok (.aload_n 0, 1) := by decide +kernel
theorem dX0_begin_67 : decode cX0_begin 67 = .ok (.getfield 65, 3) := by decide +kernel
theorem dX0_begin_70 : decode cX0_begin 70 = .ok (.iload_n 1, 1) := by decide +kernel
theorem dX0_begin_71 : decode cX0_begin 71 = .ok (.iconst 0, 1) := by decide +kernel
theorem dX0_begin_72 : decode cX0_begin 72 = .ok (.iastore, 1) := by decide +kernel
theorem dX0_begin_73 : decode cX0_begin 73 = .ok (.aload_n 0, 1) := by decide +kernel
theorem dX0_begin_74 : decode cX0_begin 74 = .ok (.iload_n 1, 1) := by decide +kernel
theorem dX0_begin_75 : decode cX0_begin 75 = .ok (.invokevirtual 105, 3) := by decide +kernel
theorem dX0_begin_78 : decode cX0_begin 78 = .ok (.return_, 1) := by decide +kernel
abbrev cX0_carryOn : ByteArray := prog_1_method_6_code
def yX0_carryOn : MethodName := ⟨RX0, "carryOn", "(I)V"⟩
theorem dX0_carryOn_0 : decode cX0_carryOn 0 = .ok (.aload_n 0, 1) := by decide +kernel
theorem dX0_carryOn_1 : decode cX0_carryOn 1 = .ok (.getfield 56, 3) := by decide +kernel
theorem dX0_carryOn_4 : decode cX0_carryOn 4 = .ok (.iload_n 1, 1) := by decide +kernel
theorem dX0_carryOn_5 : decode cX0_carryOn 5 = .ok (.iconst 5, 1) := by decide +kernel
theorem dX0_carryOn_6 : decode cX0_carryOn 6 = .ok (.iastore, 1) := by decide +kernel
theorem dX0_carryOn_7 : decode cX0_carryOn 7 = .ok (.aload_n 0, 1) := by decide +kernel
theorem dX0_carryOn_8 : decode cX0_carryOn 8 = .ok (.iload_n 1, 1) := by decide +kernel
theorem dX0_carryOn_9 : decode cX0_carryOn 9 = .ok (.aload_n 0, 1) := by decide +kernel
theorem dX0_carryOn_10 : decode cX0_carryOn 10 = .ok (.getfield 53, 3) := by decide +kernel
theorem dX0_carryOn_13 : decode cX0_carryOn 13 = .ok (.iload_n 1, 1) := by decide +kernel
theorem dX0_carryOn_14 : decode cX0_carryOn 14 = .ok (.iaload, 1) := by decide +kernel
theorem dX0_carryOn_15 : decode cX0_carryOn 15 = .ok (.invokevirtual 83, 3) := by decide +kernel
theorem dX0_carryOn_18 : decode cX0_carryOn 18 = .ok (.iconst 0, 1) := by decide +kernel
theorem dX0_carryOn_19 : decode cX0_carryOn 19 = .ok (.istore_n 2, 1) := by decide +kernel
theorem dX0_carryOn_20 : decode cX0_carryOn 20 = .ok (.iload_n 2, 1) := by decide +kernel
theorem dX0_carryOn_21 : decode cX0_carryOn 21 = .ok (.sipush 2600, 3) := by decide +kernel
theorem dX0_carryOn_24 : decode cX0_carryOn 24 = .ok (.if_icmp .ge 87, 3) := by decide +kernel
theorem dX0_carryOn_27 : decode cX0_carryOn 27 = .ok (.aload_n 0, 1) := by decide +kernel
theorem dX0_carryOn_28 : decode cX0_carryOn 28 = .ok (.getfield 56, 3) := by decide +kernel
theorem dX0_carryOn_31 : decode cX0_carryOn 31 = .ok (.iload_n 1, 1) := by decide +kernel
theorem dX0_carryOn_32 : decode cX0_carryOn 32 = .ok (.iaload, 1) := by decide +kernel
theorem dX0_carryOn_33 : decode cX0_carryOn 33 = .ok (.iconst 5, 1) := by decide +kernel
theorem dX0_carryOn_34 : decode cX0_carryOn 34 = .ok (.if_icmp .ne 77, 3) := by decide +kernel
theorem dX0_carryOn_37 : decode cX0_carryOn 37 = .ok (.aload_n 0, 1) := by decide +kernel
theorem dX0_carryOn_38 : decode cX0_carryOn 38 = .ok (.getfield 7, 3) := by decide +kernel
theorem dX0_carryOn_41 : decode cX0_carryOn 41 = .ok (.aload_n 0, 1) := by decide +kernel
theorem dX0_carryOn_42 : decode cX0_carryOn 42 = .ok (.getfield 53, 3) := by decide +kernel
theorem dX0_carryOn_45 : decode cX0_carryOn 45 = .ok (.iload_n 1, 1) := by decide +kernel
theorem dX0_carryOn_46 : decode cX0_carryOn 46 = .ok (.iaload, 1) := by decide +kernel
theorem dX0_carryOn_47 : decode cX0_carryOn 47 = .ok (.iaload, 1) := by decide +kernel
theorem dX0_carryOn_48 : decode cX0_carryOn 48 = .ok (.istore_n 3, 1) := by decide +kernel
theorem dX0_carryOn_49 : decode cX0_carryOn 49 = .ok (.iload_n 3, 1) := by decide +kernel
theorem dX0_carryOn_50 : decode cX0_carryOn 50 = .ok (.iconst 4, 1) := by decide +kernel
theorem dX0_carryOn_51 : decode cX0_carryOn 51 = .ok (.if_icmp .gt 12, 3) := by decide +kernel
theorem dX0_carryOn_54 : decode cX0_carryOn 54 = .ok (.aload_n 0, 1) := by decide +kernel
theorem dX0_carryOn_55 : decode cX0_carryOn 55 = .ok (.iload_n 1, 1) := by decide +kernel
theorem dX0_carryOn_56 : decode cX0_carryOn 56 = .ok (.iload_n 3, 1) := by decide +kernel
theorem dX0_carryOn_57 : decode cX0_carryOn 57 = .ok (.invokevirtual 86, 3) := by decide +kernel
theorem dX0_carryOn_60 : decode cX0_carryOn 60 = .ok (.goto 45, 3) := by decide +kernel
theorem dX0_carryOn_63 : decode cX0_carryOn 63 = .ok (.iload_n 3, 1) := by decide +kernel
theorem dX0_carryOn_64 : decode cX0_carryOn 64 = .ok (.bipush 7, 2) := by decide +kernel
theorem dX0_carryOn_66 : decode cX0_carryOn 66 = .ok (.if_icmp .gt 12, 3) := by decide +kernel
theorem dX0_carryOn_69 : decode cX0_carryOn 69 = .ok (.aload_n 0, 1) := by decide +kernel
theorem dX0_carryOn_70 : decode cX0_carryOn 70 = .ok (.iload_n 1, 1) := by decide +kernel
theorem dX0_carryOn_71 : decode cX0_carryOn 71 = .ok (.iload_n 3, 1) := by decide +kernel
theorem dX0_carryOn_72 : decode cX0_carryOn 72 = .ok (.invokevirtual 89, 3) := by decide +kernel
theorem dX0_carryOn_75 : decode cX0_carryOn 75 = .ok (.goto 30, 3) := by decide +kernel
theorem dX0_carryOn_78 : decode cX0_carryOn 78 = .ok (.aload_n 0, 1) := by decide +kernel
theorem dX0_carryOn_79 : decode cX0_carryOn 79 = .ok (.iload_n 1, 1) := by decide +kernel
theorem dX0_carryOn_80 : decode cX0_carryOn 80 = .ok (.aload_n 0, 1) := by decide +kernel
theorem dX0_carryOn_81 : decode cX0_carryOn 81 = .ok (.getfield 50, 3) := by decide +kernel
theorem dX0_carryOn_84 : decode cX0_carryOn 84 = .ok (.iload_n 1, 1) := by decide +kernel
theorem dX0_carryOn_85 : decode cX0_carryOn 85 = .ok (.iconst 4, 1) := by decide +kernel
theorem dX0_carryOn_86 : decode cX0_carryOn 86 = .ok (.imul, 1) := by decide +kernel
theorem dX0_carryOn_87 : decode cX0_carryOn 87 = .ok (.aload_n 0, 1) := by decide +kernel
theorem dX0_carryOn_88 : decode cX0_carryOn 88 = .ok (.getfield 13, 3) := by decide +kernel
theorem dX0_carryOn_91 : decode cX0_carryOn 91 = .ok (.aload_n 0, 1) := by decide +kernel
theorem dX0_carryOn_92 : decode cX0_carryOn 92 = .ok (.getfield 53, 3) := by decide +kernel
theorem dX0_carryOn_95 : decode cX0_carryOn 95 = .ok (.iload_n 1, 1) := by decide +kernel
theorem dX0_carryOn_96 : decode cX0_carryOn 96 = .ok (.iaload, 1) := by decide +kernel
theorem dX0_carryOn_97 : decode cX0_carryOn 97 = .ok (.iaload, 1) := by decide +kernel
theorem dX0_carryOn_98 : decode cX0_carryOn 98 = .ok (.iconst 3, 1) := by decide +kernel
theorem dX0_carryOn_99 : decode cX0_carryOn 99 = .ok (.iand, 1) := by decide +kernel
theorem dX0_carryOn_100 : decode cX0_carryOn 100 = .ok (.iadd, 1) := by decide +kernel
theorem dX0_carryOn_101 : decode cX0_carryOn 101 = .ok (.iaload, 1) := by decide +kernel
theorem dX0_carryOn_102 : decode cX0_carryOn 102 = .ok (.invokevirtual 79, 3) := by decide +kernel
theorem dX0_carryOn_105 : decode cX0_carryOn 105 = .ok (.iinc 2 1, 3) := by decide +kernel
theorem dX0_carryOn_108 : decode cX0_carryOn 108 = .ok (.goto (-88), 3) := by decide +kernel
theorem dX0_carryOn_111 : decode cX0_carryOn 111 = .ok (.return_, 1) := by decide +kernel
abbrev cX0_goTo : ByteArray := prog_1_method_5_code
def yX0_goTo : MethodName := ⟨RX0, "goTo", "(II)V"⟩
theorem dX0_goTo_0 : decode cX0_goTo 0 = .ok (.aload_n 0, 1) := by decide +kernel
theorem dX0_goTo_1 : decode cX0_goTo 1 = .ok (.getfield 53, 3) := by decide +kernel
theorem dX0_goTo_4 : decode cX0_goTo 4 = .ok (.iload_n 1, 1) := by decide +kernel
theorem dX0_goTo_5 : decode cX0_goTo 5 = .ok (.iload_n 2, 1) := by decide +kernel
theorem dX0_goTo_6 : decode cX0_goTo 6 = .ok (.iastore, 1) := by decide +kernel
theorem dX0_goTo_7 : decode cX0_goTo 7 = .ok (.iload_n 2, 1) := by decide +kernel
theorem dX0_goTo_8 : decode cX0_goTo 8 = .ok (.ifCond .lt 11, 3) := by decide +kernel
theorem dX0_goTo_11 : decode cX0_goTo 11 = .ok (.iload_n 2, 1) := by decide +kernel
theorem dX0_goTo_12 : decode cX0_goTo 12 = .ok (.aload_n 0, 1) := by decide +kernel
theorem dX0_goTo_13 : decode cX0_goTo 13 = .ok (.getfield 72, 3) := by decide +kernel
theorem dX0_goTo_16 : decode cX0_goTo 16 = .ok (.if_icmp .lt 9, 3) := by decide +kernel
theorem dX0_goTo_19 : decode cX0_goTo 19 = .ok (.aload_n 0, 1) := by decide +kernel
theorem dX0_goTo_20 : decode cX0_goTo 20 = .ok (.iload_n 1, 1) := by decide +kernel
theorem dX0_goTo_21 : decode cX0_goTo 21 = .ok (.iconst 0, 1) := by decide +kernel
theorem dX0_goTo_22 : decode cX0_goTo 22 = .ok (.invokevirtual 79, 3) := by decide +kernel
theorem dX0_goTo_25 : decode cX0_goTo 25 = .ok (.return_, 1) := by decide +kernel
abbrev cX0_finish : ByteArray := prog_1_method_4_code
def yX0_finish : MethodName := ⟨RX0, "finish", "(II)V"⟩
theorem dX0_finish_0 : decode cX0_finish 0 = .ok (.aload_n 0, 1) := by decide +kernel
theorem dX0_finish_1 : decode cX0_finish 1 = .ok (.getfield 56, 3) := by decide +kernel
theorem dX0_finish_4 : decode cX0_finish 4 = .ok (.iload_n 1, 1) := by decide +kernel
theorem dX0_finish_5 : decode cX0_finish 5 = .ok (.iconst 4, 1) := by decide +kernel
theorem dX0_finish_6 : decode cX0_finish 6 = .ok (.iastore, 1) := by decide +kernel
theorem dX0_finish_7 : decode cX0_finish 7 = .ok (.aload_n 0, 1) := by decide +kernel
theorem dX0_finish_8 : decode cX0_finish 8 = .ok (.getfield 59, 3) := by decide +kernel
theorem dX0_finish_11 : decode cX0_finish 11 = .ok (.iload_n 1, 1) := by decide +kernel
theorem dX0_finish_12 : decode cX0_finish 12 = .ok (.iload_n 2, 1) := by decide +kernel
theorem dX0_finish_13 : decode cX0_finish 13 = .ok (.iastore, 1) := by decide +kernel
theorem dX0_finish_14 : decode cX0_finish 14 = .ok (.return_, 1) := by decide +kernel
abbrev cX0_plain : ByteArray := prog_1_method_7_code
def yX0_plain : MethodName := ⟨RX0, "plain", "(II)V"⟩
theorem dX0_plain_0 : decode cX0_plain 0 = .ok (.aload_n 0, 1) := by decide +kernel
theorem dX0_plain_1 : decode cX0_plain 1 = .ok (.getfield 53, 3) := by decide +kernel
theorem dX0_plain_4 : decode cX0_plain 4 = .ok (.iload_n 1, 1) := by decide +kernel
theorem dX0_plain_5 : decode cX0_plain 5 = .ok (.iaload, 1) := by decide +kernel
theorem dX0_plain_6 : decode cX0_plain 6 = .ok (.istore_n 3, 1) := by decide +kernel
theorem dX0_plain_7 : decode cX0_plain 7 = .ok (.iload_n 1, 1) := by decide +kernel
theorem dX0_plain_8 : decode cX0_plain 8 = .ok (.iconst 4, 1) := by decide +kernel
theorem dX0_plain_9 : decode cX0_plain 9 = .ok (.imul, 1) := by decide +kernel
theorem dX0_plain_10 : decode cX0_plain 10 = .ok (.aload_n 0, 1) := by decide +kernel
theorem dX0_plain_11 : decode cX0_plain 11 = .ok (.getfield 13, 3) := by decide +kernel
theorem dX0_plain_14 : decode cX0_plain 14 = .ok (.iload_n 3, 1) := by decide +kernel
theorem dX0_plain_15 : decode cX0_plain 15 = .ok (.iaload, 1) := by decide +kernel
theorem dX0_plain_16 : decode cX0_plain 16 = .ok (.iconst 3, 1) := by decide +kernel
theorem dX0_plain_17 : decode cX0_plain 17 = .ok (.iand, 1) := by decide +kernel
theorem dX0_plain_18 : decode cX0_plain 18 = .ok (.iadd, 1) := by decide +kernel
theorem dX0_plain_19 : decode cX0_plain 19 = .ok (.istore 4, 2) := by decide +kernel
theorem dX0_plain_21 : decode cX0_plain 21 = .ok (.iload_n 1, 1) := by decide +kernel
theorem dX0_plain_22 : decode cX0_plain 22 = .ok (.iconst 4, 1) := by decide +kernel
theorem dX0_plain_23 : decode cX0_plain 23 = .ok (.imul, 1) := by decide +kernel
theorem dX0_plain_24 : decode cX0_plain 24 = .ok (.aload_n 0, 1) := by decide +kernel
theorem dX0_plain_25 : decode cX0_plain 25 = .ok (.getfield 16, 3) := by decide +kernel
theorem dX0_plain_28 : decode cX0_plain 28 = .ok (.iload_n 3, 1) := by decide +kernel
theorem dX0_plain_29 : decode cX0_plain 29 = .ok (.iaload, 1) := by decide +kernel
theorem dX0_plain_30 : decode cX0_plain 30 = .ok (.iconst 3, 1) := by decide +kernel
theorem dX0_plain_31 : decode cX0_plain 31 = .ok (.iand, 1) := by decide +kernel
theorem dX0_plain_32 : decode cX0_plain 32 = .ok (.iadd, 1) := by decide +kernel
theorem dX0_plain_33 : decode cX0_plain 33 = .ok (.istore 5, 2) := by decide +kernel
theorem dX0_plain_35 : decode cX0_plain 35 = .ok (.iload_n 3, 1) := by decide +kernel
theorem dX0_plain_36 : decode cX0_plain 36 = .ok (.iconst 1, 1) := by decide +kernel
theorem dX0_plain_37 : decode cX0_plain 37 = .ok (.iadd, 1) := by decide +kernel
theorem dX0_plain_38 : decode cX0_plain 38 = .ok (.istore 6, 2) := by decide +kernel
theorem dX0_plain_40 : decode cX0_plain 40 = .ok (.iload_n 2, 1) := by decide +kernel
theorem dX0_plain_41 : decode cX0_plain 41 = .ok (.tableswitch 108 0 3 #[31, 47, 72, 97], 31) := by decide +kernel
theorem dX0_plain_72 : decode cX0_plain 72 = .ok (.aload_n 0, 1) := by decide +kernel
theorem dX0_plain_73 : decode cX0_plain 73 = .ok (.getfield 50, 3) := by decide +kernel
theorem dX0_plain_76 : decode cX0_plain 76 = .ok (.iload 4, 2) := by decide +kernel
theorem dX0_plain_78 : decode cX0_plain 78 = .ok (.aload_n 0, 1) := by decide +kernel
theorem dX0_plain_79 : decode cX0_plain 79 = .ok (.getfield 16, 3) := by decide +kernel
theorem dX0_plain_82 : decode cX0_plain 82 = .ok (.iload_n 3, 1) := by decide +kernel
theorem dX0_plain_83 : decode cX0_plain 83 = .ok (.iaload, 1) := by decide +kernel
theorem dX0_plain_84 : decode cX0_plain 84 = .ok (.iastore, 1) := by decide +kernel
theorem dX0_plain_85 : decode cX0_plain 85 = .ok (.goto 82, 3) := by decide +kernel
theorem dX0_plain_88 : decode cX0_plain 88 = .ok (.aload_n 0, 1) := by decide +kernel
theorem dX0_plain_89 : decode cX0_plain 89 = .ok (.getfield 50, 3) := by decide +kernel
theorem dX0_plain_92 : decode cX0_plain 92 = .ok (.iload 4, 2) := by decide +kernel
theorem dX0_plain_94 : decode cX0_plain 94 = .ok (.aload_n 0, 1) := by decide +kernel
theorem dX0_plain_95 : decode cX0_plain 95 = .ok (.getfield 50, 3) := by decide +kernel
theorem dX0_plain_98 : decode cX0_plain 98 = .ok (.iload 4, 2) := by decide +kernel
theorem dX0_plain_100 : decode cX0_plain 100 = .ok (.iaload, 1) := by decide +kernel
theorem dX0_plain_101 : decode cX0_plain 101 = .ok (.aload_n 0, 1) := by decide +kernel
theorem dX0_plain_102 : decode cX0_plain 102 = .ok (.getfield 50, 3) := by decide +kernel
theorem dX0_plain_105 : decode cX0_plain 105 = .ok (.iload 5, 2) := by decide +kernel
theorem dX0_plain_107 : decode cX0_plain 107 = .ok (.iaload, 1) := by decide +kernel
theorem dX0_plain_108 : decode cX0_plain 108 = .ok (.iadd, 1) := by decide +kernel
theorem dX0_plain_109 : decode cX0_plain 109 = .ok (.iastore, 1) := by decide +kernel
theorem dX0_plain_110 : decode cX0_plain 110 = .ok (.goto 57, 3) := by decide +kernel
theorem dX0_plain_113 : decode cX0_plain 113 = .ok (.aload_n 0, 1) := by decide +kernel
theorem dX0_plain_114 : decode cX0_plain 114 = .ok (.getfield 50, 3) := by decide +kernel
theorem dX0_plain_117 : decode cX0_plain 117 = .ok (.iload 4, 2) := by decide +kernel
theorem dX0_plain_119 : decode cX0_plain 119 = .ok (.aload_n 0, 1) := by decide +kernel
theorem dX0_plain_120 : decode cX0_plain 120 = .ok (.getfield 50, 3) := by decide +kernel
theorem dX0_plain_123 : decode cX0_plain 123 = .ok (.iload 4, 2) := by decide +kernel
theorem dX0_plain_125 : decode cX0_plain 125 = .ok (.iaload, 1) := by decide +kernel
theorem dX0_plain_126 : decode cX0_plain 126 = .ok (.aload_n 0, 1) := by decide +kernel
theorem dX0_plain_127 : decode cX0_plain 127 = .ok (.getfield 50, 3) := by decide +kernel
theorem dX0_plain_130 : decode cX0_plain 130 = .ok (.iload 5, 2) := by decide +kernel
theorem dX0_plain_132 : decode cX0_plain 132 = .ok (.iaload, 1) := by decide +kernel
theorem dX0_plain_133 : decode cX0_plain 133 = .ok (.isub, 1) := by decide +kernel
theorem dX0_plain_134 : decode cX0_plain 134 = .ok (.iastore, 1) := by decide +kernel
theorem dX0_plain_135 : decode cX0_plain 135 = .ok (.goto 32, 3) := by decide +kernel
theorem dX0_plain_138 : decode cX0_plain 138 = .ok (.aload_n 0, 1) := by decide +kernel
theorem dX0_plain_139 : decode cX0_plain 139 = .ok (.getfield 16, 3) := by decide +kernel
theorem dX0_plain_142 : decode cX0_plain 142 = .ok (.iload_n 3, 1) := by decide +kernel
theorem dX0_plain_143 : decode cX0_plain 143 = .ok (.iaload, 1) := by decide +kernel
theorem dX0_plain_144 : decode cX0_plain 144 = .ok (.istore 6, 2) := by decide +kernel
theorem dX0_plain_146 : decode cX0_plain 146 = .ok (.goto 21, 3) := by decide +kernel
theorem dX0_plain_149 : decode cX0_plain 149 = .ok (.aload_n 0, 1) := by decide +kernel
theorem dX0_plain_150 : decode cX0_plain 150 = .ok (.getfield 50, 3) := by decide +kernel
theorem dX0_plain_153 : decode cX0_plain 153 = .ok (.iload 4, 2) := by decide +kernel
theorem dX0_plain_155 : decode cX0_plain 155 = .ok (.iaload, 1) := by decide +kernel
theorem dX0_plain_156 : decode cX0_plain 156 = .ok (.ifCond .le 11, 3) := by decide +kernel
theorem dX0_plain_159 : decode cX0_plain 159 = .ok (.aload_n 0, 1) := by decide +kernel
theorem dX0_plain_160 : decode cX0_plain 160 = .ok (.getfield 16, 3) := by decide +kernel
theorem dX0_plain_163 : decode cX0_plain 163 = .ok (.iload_n 3, 1) := by decide +kernel
theorem dX0_plain_164 : decode cX0_plain 164 = .ok (.iaload, 1) := by decide +kernel
theorem dX0_plain_165 : decode cX0_plain 165 = .ok (.istore 6, 2) := by decide +kernel
theorem dX0_plain_167 : decode cX0_plain 167 = .ok (.aload_n 0, 1) := by decide +kernel
theorem dX0_plain_168 : decode cX0_plain 168 = .ok (.iload_n 1, 1) := by decide +kernel
theorem dX0_plain_169 : decode cX0_plain 169 = .ok (.iload 6, 2) := by decide +kernel
theorem dX0_plain_171 : decode cX0_plain 171 = .ok (.invokevirtual 83, 3) := by decide +kernel
theorem dX0_plain_174 : decode cX0_plain 174 = .ok (.aload_n 0, 1) := by decide +kernel
theorem dX0_plain_175 : decode cX0_plain 175 = .ok (.getfield 65, 3) := by decide +kernel
theorem dX0_plain_178 : decode cX0_plain 178 = .ok (.iload_n 1, 1) := by decide +kernel
theorem dX0_plain_179 : decode cX0_plain 179 = .ok (.dup2, 1) := by decide +kernel
theorem dX0_plain_180 : decode cX0_plain 180 = .ok (.iaload, 1) := by decide +kernel
theorem dX0_plain_181 : decode cX0_plain 181 = .ok (.iconst 1, 1) := by decide +kernel
theorem dX0_plain_182 : decode cX0_plain 182 = .ok (.iadd, 1) := by decide +kernel
theorem dX0_plain_183 : decode cX0_plain 183 = .ok (.iastore, 1) := by decide +kernel
theorem dX0_plain_184 : decode cX0_plain 184 = .ok (.aload_n 0, 1) := by decide +kernel
theorem dX0_plain_185 : decode cX0_plain 185 = .ok (.getfield 65, 3) := by decide +kernel
theorem dX0_plain_188 : decode cX0_plain 188 = .ok (.iload_n 1, 1) := by decide +kernel
theorem dX0_plain_189 : decode cX0_plain 189 = .ok (.iaload, 1) := by decide +kernel
theorem dX0_plain_190 : decode cX0_plain 190 = .ok (.bipush 60, 2) := by decide +kernel
theorem dX0_plain_192 : decode cX0_plain 192 = .ok (.if_icmp .lt 9, 3) := by decide +kernel
theorem dX0_plain_195 : decode cX0_plain 195 = .ok (.aload_n 0, 1) := by decide +kernel
theorem dX0_plain_196 : decode cX0_plain 196 = .ok (.iload_n 1, 1) := by decide +kernel
theorem dX0_plain_197 : decode cX0_plain 197 = .ok (.iconst 0, 1) := by decide +kernel
theorem dX0_plain_198 : decode cX0_plain 198 = .ok (.invokevirtual 79, 3) := by decide +kernel
theorem dX0_plain_201 : decode cX0_plain 201 = .ok (.return_, 1) := by decide +kernel
abbrev cX0_await : ByteArray := prog_1_method_8_code
def yX0_await : MethodName := ⟨RX0, "await", "(II)V"⟩
theorem dX0_await_0 : decode cX0_await 0 = .ok (.aload_n 0, 1) := by decide +kernel
theorem dX0_await_1 : decode cX0_await 1 = .ok (.getfield 62, 3) := by decide +kernel
theorem dX0_await_4 : decode cX0_await 4 = .ok (.iload_n 1, 1) := by decide +kernel
theorem dX0_await_5 : decode cX0_await 5 = .ok (.iaload, 1) := by decide +kernel
theorem dX0_await_6 : decode cX0_await 6 = .ok (.bipush 40, 2) := by decide +kernel
theorem dX0_await_8 : decode cX0_await 8 = .ok (.if_icmp .lt 10, 3) := by decide +kernel
theorem dX0_await_11 : decode cX0_await 11 = .ok (.aload_n 0, 1) := by decide +kernel
theorem dX0_await_12 : decode cX0_await 12 = .ok (.iload_n 1, 1) := by decide +kernel
theorem dX0_await_13 : decode cX0_await 13 = .ok (.iconst 0, 1) := by decide +kernel
theorem dX0_await_14 : decode cX0_await 14 = .ok (.invokevirtual 79, 3) := by decide +kernel
theorem dX0_await_17 : decode cX0_await 17 = .ok (.return_, 1) := by decide +kernel
theorem dX0_await_18 : decode cX0_await 18 = .ok (.aload_n 0, 1) := by decide +kernel
theorem dX0_await_19 : decode cX0_await 19 = .ok (.getfield 62, 3) := by decide +kernel
theorem dX0_await_22 : decode cX0_await 22 = .ok (.iload_n 1, 1) := by decide +kernel
theorem dX0_await_23 : decode cX0_await 23 = .ok (.iaload, 1) := by decide +kernel
theorem dX0_await_24 : decode cX0_await 24 = .ok (.aload_n 0, 1) := by decide +kernel
theorem dX0_await_25 : decode cX0_await 25 = .ok (.getfield 26, 3) := by decide +kernel
theorem dX0_await_28 : decode cX0_await 28 = .ok (.iload_n 1, 1) := by decide +kernel
theorem dX0_await_29 : decode cX0_await 29 = .ok (.iaload, 1) := by decide +kernel
theorem dX0_await_30 : decode cX0_await 30 = .ok (.if_icmp .ne 27, 3) := by decide +kernel
theorem dX0_await_33 : decode cX0_await 33 = .ok (.iload_n 2, 1) := by decide +kernel
theorem dX0_await_34 : decode cX0_await 34 = .ok (.bipush 7, 2) := by decide +kernel
theorem dX0_await_36 : decode cX0_await 36 = .ok (.if_icmp .ne 21, 3) := by decide +kernel
theorem dX0_await_39 : decode cX0_await 39 = .ok (.aload_n 0, 1) := by decide +kernel
theorem dX0_await_40 : decode cX0_await 40 = .ok (.iload_n 1, 1) := by decide +kernel
theorem dX0_await_41 : decode cX0_await 41 = .ok (.aload_n 0, 1) := by decide +kernel
theorem dX0_await_42 : decode cX0_await 42 = .ok (.getfield 16, 3) := by decide +kernel
theorem dX0_await_45 : decode cX0_await 45 = .ok (.aload_n 0, 1) := by decide +kernel
theorem dX0_await_46 : decode cX0_await 46 = .ok (.getfield 53, 3) := by decide +kernel
theorem dX0_await_49 : decode cX0_await 49 = .ok (.iload_n 1, 1) := by decide +kernel
theorem dX0_await_50 : decode cX0_await 50 = .ok (.iaload, 1) := by decide +kernel
theorem dX0_await_51 : decode cX0_await 51 = .ok (.iaload, 1) := by decide +kernel
theorem dX0_await_52 : decode cX0_await 52 = .ok (.iconst 1, 1) := by decide +kernel
theorem dX0_await_53 : decode cX0_await 53 = .ok (.iand, 1) := by decide +kernel
theorem dX0_await_54 : decode cX0_await 54 = .ok (.invokevirtual 92, 3) := by decide +kernel
theorem dX0_await_57 : decode cX0_await 57 = .ok (.aload_n 0, 1) := by decide +kernel
theorem dX0_await_58 : decode cX0_await 58 = .ok (.getfield 62, 3) := by decide +kernel
theorem dX0_await_61 : decode cX0_await 61 = .ok (.iload_n 1, 1) := by decide +kernel
theorem dX0_await_62 : decode cX0_await 62 = .ok (.iaload, 1) := by decide +kernel
theorem dX0_await_63 : decode cX0_await 63 = .ok (.aload_n 0, 1) := by decide +kernel
theorem dX0_await_64 : decode cX0_await 64 = .ok (.getfield 26, 3) := by decide +kernel
theorem dX0_await_67 : decode cX0_await 67 = .ok (.iload_n 1, 1) := by decide +kernel
theorem dX0_await_68 : decode cX0_await 68 = .ok (.iaload, 1) := by decide +kernel
theorem dX0_await_69 : decode cX0_await 69 = .ok (.if_icmp .ge 10, 3) := by decide +kernel
theorem dX0_await_72 : decode cX0_await 72 = .ok (.aload_n 0, 1) := by decide +kernel
theorem dX0_await_73 : decode cX0_await 73 = .ok (.iload_n 1, 1) := by decide +kernel
theorem dX0_await_74 : decode cX0_await 74 = .ok (.iload_n 2, 1) := by decide +kernel
theorem dX0_await_75 : decode cX0_await 75 = .ok (.invokevirtual 95, 3) := by decide +kernel
theorem dX0_await_78 : decode cX0_await 78 = .ok (.return_, 1) := by decide +kernel
theorem dX0_await_79 : decode cX0_await 79 = .ok (.iload_n 2, 1) := by decide +kernel
theorem dX0_await_80 : decode cX0_await 80 = .ok (.iconst 5, 1) := by decide +kernel
theorem dX0_await_81 : decode cX0_await 81 = .ok (.if_icmp .ne 13, 3) := by decide +kernel
theorem dX0_await_84 : decode cX0_await 84 = .ok (.aload_n 0, 1) := by decide +kernel
theorem dX0_await_85 : decode cX0_await 85 = .ok (.getfield 56, 3) := by decide +kernel
theorem dX0_await_88 : decode cX0_await 88 = .ok (.iload_n 1, 1) := by decide +kernel
theorem dX0_await_89 : decode cX0_await 89 = .ok (.iconst 1, 1) := by decide +kernel
theorem dX0_await_90 : decode cX0_await 90 = .ok (.iastore, 1) := by decide +kernel
theorem dX0_await_91 : decode cX0_await 91 = .ok (.goto 24, 3) := by decide +kernel
theorem dX0_await_94 : decode cX0_await 94 = .ok (.iload_n 2, 1) := by decide +kernel
theorem dX0_await_95 : decode cX0_await 95 = .ok (.bipush 6, 2) := by decide +kernel
theorem dX0_await_97 : decode cX0_await 97 = .ok (.if_icmp .ne 11, 3) := by decide +kernel
theorem dX0_await_100 : decode cX0_await 100 = .ok (.aload_n 0, 1) := by decide +kernel
theorem dX0_await_101 : decode cX0_await 101 = .ok (.iload_n 1, 1) := by decide +kernel
theorem dX0_await_102 : decode cX0_await 102 = .ok (.invokevirtual 98, 3) := by decide +kernel
theorem dX0_await_105 : decode cX0_await 105 = .ok (.goto 10, 3) := by decide +kernel
theorem dX0_await_108 : decode cX0_await 108 = .ok (.aload_n 0, 1) := by decide +kernel
theorem dX0_await_109 : decode cX0_await 109 = .ok (.getfield 56, 3) := by decide +kernel
theorem dX0_await_112 : decode cX0_await 112 = .ok (.iload_n 1, 1) := by decide +kernel
theorem dX0_await_113 : decode cX0_await 113 = .ok (.iconst 3, 1) := by decide +kernel
theorem dX0_await_114 : decode cX0_await 114 = .ok (.iastore, 1) := by decide +kernel
theorem dX0_await_115 : decode cX0_await 115 = .ok (.return_, 1) := by decide +kernel
abbrev cX0_takeSignal : ByteArray := prog_1_method_12_code
def yX0_takeSignal : MethodName := ⟨RX0, "takeSignal", "(II)V"⟩
theorem dX0_takeSignal_0 : decode cX0_takeSignal 0 = .ok (.iload_n 1, 1) := by decide +kernel
theorem dX0_takeSignal_1 : decode cX0_takeSignal 1 = .ok (.bipush 24, 2) := by decide +kernel
theorem dX0_takeSignal_3 : decode cX0_takeSignal 3 = .ok (.imul, 1) := by decide +kernel
theorem dX0_takeSignal_4 : decode cX0_takeSignal 4 = .ok (.istore_n 3, 1) := by decide +kernel
theorem dX0_takeSignal_5 : decode cX0_takeSignal 5 = .ok (.iload_n 3, 1) := by decide +kernel
theorem dX0_takeSignal_6 : decode cX0_takeSignal 6 = .ok (.iload_n 1, 1) := by decide +kernel
theorem dX0_takeSignal_7 : decode cX0_takeSignal 7 = .ok (.bipush 24, 2) := by decide +kernel
theorem dX0_takeSignal_9 : decode cX0_takeSignal 9 = .ok (.imul, 1) := by decide +kernel
theorem dX0_takeSignal_10 : decode cX0_takeSignal 10 = .ok (.aload_n 0, 1) := by decide +kernel
theorem dX0_takeSignal_11 : decode cX0_takeSignal 11 = .ok (.getfield 32, 3) := by decide +kernel
theorem dX0_takeSignal_14 : decode cX0_takeSignal 14 = .ok (.iload_n 1, 1) := by decide +kernel
theorem dX0_takeSignal_15 : decode cX0_takeSignal 15 = .ok (.iaload, 1) := by decide +kernel
theorem dX0_takeSignal_16 : decode cX0_takeSignal 16 = .ok (.iadd, 1) := by decide +kernel
theorem dX0_takeSignal_17 : decode cX0_takeSignal 17 = .ok (.if_icmp .ge 47, 3) := by decide +kernel
theorem dX0_takeSignal_20 : decode cX0_takeSignal 20 = .ok (.aload_n 0, 1) := by decide +kernel
theorem dX0_takeSignal_21 : decode cX0_takeSignal 21 = .ok (.getfield 41, 3) := by decide +kernel
theorem dX0_takeSignal_24 : decode cX0_takeSignal 24 = .ok (.iload_n 3, 1) := by decide +kernel
theorem dX0_takeSignal_25 : decode cX0_takeSignal 25 = .ok (.baload, 1) := by decide +kernel
theorem dX0_takeSignal_26 : decode cX0_takeSignal 26 = .ok (.ifCond .ne 32, 3) := by decide +kernel
theorem dX0_takeSignal_29 : decode cX0_takeSignal 29 = .ok (.aload_n 0, 1) := by decide +kernel
theorem dX0_takeSignal_30 : decode cX0_takeSignal 30 = .ok (.getfield 35, 3) := by decide +kernel
theorem dX0_takeSignal_33 : decode cX0_takeSignal 33 = .ok (.iload_n 3, 1) := by decide +kernel
theorem dX0_takeSignal_34 : decode cX0_takeSignal 34 = .ok (.iaload, 1) := by decide +kernel
theorem dX0_takeSignal_35 : decode cX0_takeSignal 35 = .ok (.iload_n 2, 1) := by decide +kernel
theorem dX0_takeSignal_36 : decode cX0_takeSignal 36 = .ok (.if_icmp .ne 22, 3) := by decide +kernel
theorem dX0_takeSignal_39 : decode cX0_takeSignal 39 = .ok (.aload_n 0, 1) := by decide +kernel
theorem dX0_takeSignal_40 : decode cX0_takeSignal 40 = .ok (.getfield 41, 3) := by decide +kernel
theorem dX0_takeSignal_43 : decode cX0_takeSignal 43 = .ok (.iload_n 3, 1) := by decide +kernel
theorem dX0_takeSignal_44 : decode cX0_takeSignal 44 = .ok (.iconst 1, 1) := by decide +kernel
theorem dX0_takeSignal_45 : decode cX0_takeSignal 45 = .ok (.bastore, 1) := by decide +kernel
theorem dX0_takeSignal_46 : decode cX0_takeSignal 46 = .ok (.aload_n 0, 1) := by decide +kernel
theorem dX0_takeSignal_47 : decode cX0_takeSignal 47 = .ok (.iload_n 1, 1) := by decide +kernel
theorem dX0_takeSignal_48 : decode cX0_takeSignal 48 = .ok (.aload_n 0, 1) := by decide +kernel
theorem dX0_takeSignal_49 : decode cX0_takeSignal 49 = .ok (.getfield 38, 3) := by decide +kernel
theorem dX0_takeSignal_52 : decode cX0_takeSignal 52 = .ok (.iload_n 3, 1) := by decide +kernel
theorem dX0_takeSignal_53 : decode cX0_takeSignal 53 = .ok (.iaload, 1) := by decide +kernel
theorem dX0_takeSignal_54 : decode cX0_takeSignal 54 = .ok (.invokevirtual 102, 3) := by decide +kernel
theorem dX0_takeSignal_57 : decode cX0_takeSignal 57 = .ok (.return_, 1) := by decide +kernel
theorem dX0_takeSignal_58 : decode cX0_takeSignal 58 = .ok (.iinc 3 1, 3) := by decide +kernel
theorem dX0_takeSignal_61 : decode cX0_takeSignal 61 = .ok (.goto (-56), 3) := by decide +kernel
theorem dX0_takeSignal_64 : decode cX0_takeSignal 64 = .ok (.return_, 1) := by decide +kernel
abbrev cX0_addEvent : ByteArray := prog_1_method_11_code
def yX0_addEvent : MethodName := ⟨RX0, "addEvent", "(II)V"⟩
theorem dX0_addEvent_0 : decode cX0_addEvent 0 = .ok (.aload_n 0, 1) := by decide +kernel
theorem dX0_addEvent_1 : decode cX0_addEvent 1 = .ok (.getfield 26, 3) := by decide +kernel
theorem dX0_addEvent_4 : decode cX0_addEvent 4 = .ok (.iload_n 1, 1) := by decide +kernel
theorem dX0_addEvent_5 : decode cX0_addEvent 5 = .ok (.iaload, 1) := by decide +kernel
theorem dX0_addEvent_6 : decode cX0_addEvent 6 = .ok (.bipush 40, 2) := by decide +kernel
theorem dX0_addEvent_8 : decode cX0_addEvent 8 = .ok (.if_icmp .lt 4, 3) := by decide +kernel
theorem dX0_addEvent_11 : decode cX0_addEvent 11 = .ok (.return_, 1) := by decide +kernel
theorem dX0_addEvent_12 : decode cX0_addEvent 12 = .ok (.aload_n 0, 1) := by decide +kernel
theorem dX0_addEvent_13 : decode cX0_addEvent 13 = .ok (.getfield 29, 3) := by decide +kernel
theorem dX0_addEvent_16 : decode cX0_addEvent 16 = .ok (.iload_n 1, 1) := by decide +kernel
theorem dX0_addEvent_17 : decode cX0_addEvent 17 = .ok (.bipush 40, 2) := by decide +kernel
theorem dX0_addEvent_19 : decode cX0_addEvent 19 = .ok (.imul, 1) := by decide +kernel
theorem dX0_addEvent_20 : decode cX0_addEvent 20 = .ok (.aload_n 0, 1) := by decide +kernel
theorem dX0_addEvent_21 : decode cX0_addEvent 21 = .ok (.getfield 26, 3) := by decide +kernel
theorem dX0_addEvent_24 : decode cX0_addEvent 24 = .ok (.iload_n 1, 1) := by decide +kernel
theorem dX0_addEvent_25 : decode cX0_addEvent 25 = .ok (.iaload, 1) := by decide +kernel
theorem dX0_addEvent_26 : decode cX0_addEvent 26 = .ok (.iadd, 1) := by decide +kernel
theorem dX0_addEvent_27 : decode cX0_addEvent 27 = .ok (.iload_n 2, 1) := by decide +kernel
theorem dX0_addEvent_28 : decode cX0_addEvent 28 = .ok (.iastore, 1) := by decide +kernel
theorem dX0_addEvent_29 : decode cX0_addEvent 29 = .ok (.aload_n 0, 1) := by decide +kernel
theorem dX0_addEvent_30 : decode cX0_addEvent 30 = .ok (.getfield 26, 3) := by decide +kernel
theorem dX0_addEvent_33 : decode cX0_addEvent 33 = .ok (.iload_n 1, 1) := by decide +kernel
theorem dX0_addEvent_34 : decode cX0_addEvent 34 = .ok (.dup2, 1) := by decide +kernel
theorem dX0_addEvent_35 : decode cX0_addEvent 35 = .ok (.iaload, 1) := by decide +kernel
theorem dX0_addEvent_36 : decode cX0_addEvent 36 = .ok (.iconst 1, 1) := by decide +kernel
theorem dX0_addEvent_37 : decode cX0_addEvent 37 = .ok (.iadd, 1) := by decide +kernel
theorem dX0_addEvent_38 : decode cX0_addEvent 38 = .ok (.iastore, 1) := by decide +kernel
theorem dX0_addEvent_39 : decode cX0_addEvent 39 = .ok (.return_, 1) := by decide +kernel
abbrev cX0_meet : ByteArray := prog_1_method_9_code
def yX0_meet : MethodName := ⟨RX0, "meet", "(II)V"⟩
theorem dX0_meet_0 : decode cX0_meet 0 = .ok (.aload_n 0, 1) := by decide +kernel
theorem dX0_meet_1 : decode cX0_meet 1 = .ok (.getfield 53, 3) := by decide +kernel
theorem dX0_meet_4 : decode cX0_meet 4 = .ok (.iload_n 1, 1) := by decide +kernel
theorem dX0_meet_5 : decode cX0_meet 5 = .ok (.iaload, 1) := by decide +kernel
theorem dX0_meet_6 : decode cX0_meet 6 = .ok (.istore_n 3, 1) := by decide +kernel
theorem dX0_meet_7 : decode cX0_meet 7 = .ok (.iload_n 2, 1) := by decide +kernel
theorem dX0_meet_8 : decode cX0_meet 8 = .ok (.bipush 6, 2) := by decide +kernel
theorem dX0_meet_10 : decode cX0_meet 10 = .ok (.if_icmp .eq 36, 3) := by decide +kernel
theorem dX0_meet_13 : decode cX0_meet 13 = .ok (.aload_n 0, 1) := by decide +kernel
theorem dX0_meet_14 : decode cX0_meet 14 = .ok (.getfield 50, 3) := by decide +kernel
theorem dX0_meet_17 : decode cX0_meet 17 = .ok (.iload_n 1, 1) := by decide +kernel
theorem dX0_meet_18 : decode cX0_meet 18 = .ok (.iconst 4, 1) := by decide +kernel
theorem dX0_meet_19 : decode cX0_meet 19 = .ok (.imul, 1) := by decide +kernel
theorem dX0_meet_20 : decode cX0_meet 20 = .ok (.aload_n 0, 1) := by decide +kernel
theorem dX0_meet_21 : decode cX0_meet 21 = .ok (.getfield 13, 3) := by decide +kernel
theorem dX0_meet_24 : decode cX0_meet 24 = .ok (.iload_n 3, 1) := by decide +kernel
theorem dX0_meet_25 : decode cX0_meet 25 = .ok (.iaload, 1) := by decide +kernel
theorem dX0_meet_26 : decode cX0_meet 26 = .ok (.iconst 3, 1) := by decide +kernel
theorem dX0_meet_27 : decode cX0_meet 27 = .ok (.iand, 1) := by decide +kernel
theorem dX0_meet_28 : decode cX0_meet 28 = .ok (.iadd, 1) := by decide +kernel
theorem dX0_meet_29 : decode cX0_meet 29 = .ok (.aload_n 0, 1) := by decide +kernel
theorem dX0_meet_30 : decode cX0_meet 30 = .ok (.getfield 29, 3) := by decide +kernel
theorem dX0_meet_33 : decode cX0_meet 33 = .ok (.iload_n 1, 1) := by decide +kernel
theorem dX0_meet_34 : decode cX0_meet 34 = .ok (.bipush 40, 2) := by decide +kernel
theorem dX0_meet_36 : decode cX0_meet 36 = .ok (.imul, 1) := by decide +kernel
theorem dX0_meet_37 : decode cX0_meet 37 = .ok (.aload_n 0, 1) := by decide +kernel
theorem dX0_meet_38 : decode cX0_meet 38 = .ok (.getfield 62, 3) := by decide +kernel
theorem dX0_meet_41 : decode cX0_meet 41 = .ok (.iload_n 1, 1) := by decide +kernel
theorem dX0_meet_42 : decode cX0_meet 42 = .ok (.iaload, 1) := by decide +kernel
theorem dX0_meet_43 : decode cX0_meet 43 = .ok (.iadd, 1) := by decide +kernel
theorem dX0_meet_44 : decode cX0_meet 44 = .ok (.iaload, 1) := by decide +kernel
theorem dX0_meet_45 : decode cX0_meet 45 = .ok (.iastore, 1) := by decide +kernel
theorem dX0_meet_46 : decode cX0_meet 46 = .ok (.aload_n 0, 1) := by decide +kernel
theorem dX0_meet_47 : decode cX0_meet 47 = .ok (.getfield 62, 3) := by decide +kernel
theorem dX0_meet_50 : decode cX0_meet 50 = .ok (.iload_n 1, 1) := by decide +kernel
theorem dX0_meet_51 : decode cX0_meet 51 = .ok (.dup2, 1) := by decide +kernel
theorem dX0_meet_52 : decode cX0_meet 52 = .ok (.iaload, 1) := by decide +kernel
theorem dX0_meet_53 : decode cX0_meet 53 = .ok (.iconst 1, 1) := by decide +kernel
theorem dX0_meet_54 : decode cX0_meet 54 = .ok (.iadd, 1) := by decide +kernel
theorem dX0_meet_55 : decode cX0_meet 55 = .ok (.iastore, 1) := by decide +kernel
theorem dX0_meet_56 : decode cX0_meet 56 = .ok (.aload_n 0, 1) := by decide +kernel
theorem dX0_meet_57 : decode cX0_meet 57 = .ok (.getfield 65, 3) := by decide +kernel
theorem dX0_meet_60 : decode cX0_meet 60 = .ok (.iload_n 1, 1) := by decide +kernel
theorem dX0_meet_61 : decode cX0_meet 61 = .ok (.iconst 0, 1) := by decide +kernel
theorem dX0_meet_62 : decode cX0_meet 62 = .ok (.iastore, 1) := by decide +kernel
theorem dX0_meet_63 : decode cX0_meet 63 = .ok (.aload_n 0, 1) := by decide +kernel
theorem dX0_meet_64 : decode cX0_meet 64 = .ok (.iload_n 1, 1) := by decide +kernel
theorem dX0_meet_65 : decode cX0_meet 65 = .ok (.iload_n 3, 1) := by decide +kernel
theorem dX0_meet_66 : decode cX0_meet 66 = .ok (.iconst 1, 1) := by decide +kernel
theorem dX0_meet_67 : decode cX0_meet 67 = .ok (.iadd, 1) := by decide +kernel
theorem dX0_meet_68 : decode cX0_meet 68 = .ok (.invokevirtual 83, 3) := by decide +kernel
theorem dX0_meet_71 : decode cX0_meet 71 = .ok (.return_, 1) := by decide +kernel
abbrev cX0_fallAsleep : ByteArray := prog_1_method_10_code
def yX0_fallAsleep : MethodName := ⟨RX0, "fallAsleep", "(I)V"⟩
theorem dX0_fallAsleep_0 : decode cX0_fallAsleep 0 = .ok (.aload_n 0, 1) := by decide +kernel
theorem dX0_fallAsleep_1 : decode cX0_fallAsleep 1 = .ok (.getfield 56, 3) := by decide +kernel
theorem dX0_fallAsleep_4 : decode cX0_fallAsleep 4 = .ok (.iload_n 1, 1) := by decide +kernel
theorem dX0_fallAsleep_5 : decode cX0_fallAsleep 5 = .ok (.iconst 2, 1) := by decide +kernel
theorem dX0_fallAsleep_6 : decode cX0_fallAsleep 6 = .ok (.iastore, 1) := by decide +kernel
theorem dX0_fallAsleep_7 : decode cX0_fallAsleep 7 = .ok (.aload_n 0, 1) := by decide +kernel
theorem dX0_fallAsleep_8 : decode cX0_fallAsleep 8 = .ok (.getfield 44, 3) := by decide +kernel
theorem dX0_fallAsleep_11 : decode cX0_fallAsleep 11 = .ok (.iload_n 1, 1) := by decide +kernel
theorem dX0_fallAsleep_12 : decode cX0_fallAsleep 12 = .ok (.iaload, 1) := by decide +kernel
theorem dX0_fallAsleep_13 : decode cX0_fallAsleep 13 = .ok (.ifCond .le 4, 3) := by decide +kernel
theorem dX0_fallAsleep_16 : decode cX0_fallAsleep 16 = .ok (.return_, 1) := by decide +kernel
theorem dX0_fallAsleep_17 : decode cX0_fallAsleep 17 = .ok (.aload_n 0, 1) := by decide +kernel
theorem dX0_fallAsleep_18 : decode cX0_fallAsleep 18 = .ok (.getfield 16, 3) := by decide +kernel
theorem dX0_fallAsleep_21 : decode cX0_fallAsleep 21 = .ok (.aload_n 0, 1) := by decide +kernel
theorem dX0_fallAsleep_22 : decode cX0_fallAsleep 22 = .ok (.getfield 53, 3) := by decide +kernel
theorem dX0_fallAsleep_25 : decode cX0_fallAsleep 25 = .ok (.iload_n 1, 1) := by decide +kernel
theorem dX0_fallAsleep_26 : decode cX0_fallAsleep 26 = .ok (.iaload, 1) := by decide +kernel
theorem dX0_fallAsleep_27 : decode cX0_fallAsleep 27 = .ok (.iaload, 1) := by decide +kernel
theorem dX0_fallAsleep_28 : decode cX0_fallAsleep 28 = .ok (.istore_n 2, 1) := by decide +kernel
theorem dX0_fallAsleep_29 : decode cX0_fallAsleep 29 = .ok (.iload_n 2, 1) := by decide +kernel
theorem dX0_fallAsleep_30 : decode cX0_fallAsleep 30 = .ok (.iconst 1, 1) := by decide +kernel
theorem dX0_fallAsleep_31 : decode cX0_fallAsleep 31 = .ok (.if_icmp .ge 5, 3) := by decide +kernel
theorem dX0_fallAsleep_34 : decode cX0_fallAsleep 34 = .ok (.iconst 1, 1) := by decide +kernel
theorem dX0_fallAsleep_35 : decode cX0_fallAsleep 35 = .ok (.istore_n 2, 1) := by decide +kernel
theorem dX0_fallAsleep_36 : decode cX0_fallAsleep 36 = .ok (.iload_n 2, 1) := by decide +kernel
theorem dX0_fallAsleep_37 : decode cX0_fallAsleep 37 = .ok (.bipush 100, 2) := by decide +kernel
theorem dX0_fallAsleep_39 : decode cX0_fallAsleep 39 = .ok (.if_icmp .le 6, 3) := by decide +kernel
theorem dX0_fallAsleep_42 : decode cX0_fallAsleep 42 = .ok (.bipush 100, 2) := by decide +kernel
theorem dX0_fallAsleep_44 : decode cX0_fallAsleep 44 = .ok (.istore_n 2, 1) := by decide +kernel
theorem dX0_fallAsleep_45 : decode cX0_fallAsleep 45 = .ok (.aload_n 0, 1) := by decide +kernel
theorem dX0_fallAsleep_46 : decode cX0_fallAsleep 46 = .ok (.getfield 44, 3) := by decide +kernel
theorem dX0_fallAsleep_49 : decode cX0_fallAsleep 49 = .ok (.iload_n 1, 1) := by decide +kernel
theorem dX0_fallAsleep_50 : decode cX0_fallAsleep 50 = .ok (.aload_n 0, 1) := by decide +kernel
theorem dX0_fallAsleep_51 : decode cX0_fallAsleep 51 = .ok (.getfield 68, 3) := by decide +kernel
theorem dX0_fallAsleep_54 : decode cX0_fallAsleep 54 = .ok (.iload_n 2, 1) := by decide +kernel
theorem dX0_fallAsleep_55 : decode cX0_fallAsleep 55 = .ok (.iadd, 1) := by decide +kernel
theorem dX0_fallAsleep_56 : decode cX0_fallAsleep 56 = .ok (.iastore, 1) := by decide +kernel
theorem dX0_fallAsleep_57 : decode cX0_fallAsleep 57 = .ok (.return_, 1) := by decide +kernel
abbrev cX0_answer : ByteArray := prog_1_method_17_code
def yX0_answer : MethodName := ⟨RX0, "answer", "(II)I"⟩
theorem dX0_answer_0 : decode cX0_answer 0 = .ok (.iload_n 1, 1) := by decide +kernel
theorem dX0_answer_1 : decode cX0_answer 1 = .ok (.invokestatic 114, 3) := by decide +kernel
theorem dX0_answer_4 : decode cX0_answer 4 = .ok (.ifCond .eq 6, 3) := by decide +kernel
theorem dX0_answer_7 : decode cX0_answer 7 = .ok (.bipush (-3), 2) := by decide +kernel
theorem dX0_answer_9 : decode cX0_answer 9 = .ok (.ireturn, 1) := by decide +kernel
theorem dX0_answer_10 : decode cX0_answer 10 = .ok (.aload_n 0, 1) := by decide +kernel
theorem dX0_answer_11 : decode cX0_answer 11 = .ok (.iload_n 1, 1) := by decide +kernel
theorem dX0_answer_12 : decode cX0_answer 12 = .ok (.invokevirtual 118, 3) := by decide +kernel
theorem dX0_answer_15 : decode cX0_answer 15 = .ok (.istore_n 3, 1) := by decide +kernel
theorem dX0_answer_16 : decode cX0_answer 16 = .ok (.iload_n 3, 1) := by decide +kernel
theorem dX0_answer_17 : decode cX0_answer 17 = .ok (.iconst 1, 1) := by decide +kernel
theorem dX0_answer_18 : decode cX0_answer 18 = .ok (.if_icmp .eq 6, 3) := by decide +kernel
theorem dX0_answer_21 : decode cX0_answer 21 = .ok (.bipush (-4), 2) := by decide +kernel
theorem dX0_answer_23 : decode cX0_answer 23 = .ok (.ireturn, 1) := by decide +kernel
theorem dX0_answer_24 : decode cX0_answer 24 = .ok (.aload_n 0, 1) := by decide +kernel
theorem dX0_answer_25 : decode cX0_answer 25 = .ok (.iload_n 1, 1) := by decide +kernel
theorem dX0_answer_26 : decode cX0_answer 26 = .ok (.iload_n 2, 1) := by decide +kernel
theorem dX0_answer_27 : decode cX0_answer 27 = .ok (.invokevirtual 102, 3) := by decide +kernel
theorem dX0_answer_30 : decode cX0_answer 30 = .ok (.aload_n 0, 1) := by decide +kernel
theorem dX0_answer_31 : decode cX0_answer 31 = .ok (.iload_n 1, 1) := by decide +kernel
theorem dX0_answer_32 : decode cX0_answer 32 = .ok (.invokevirtual 105, 3) := by decide +kernel
theorem dX0_answer_35 : decode cX0_answer 35 = .ok (.aload_n 0, 1) := by decide +kernel
theorem dX0_answer_36 : decode cX0_answer 36 = .ok (.getfield 56, 3) := by decide +kernel
theorem dX0_answer_39 : decode cX0_answer 39 = .ok (.iload_n 1, 1) := by decide +kernel
theorem dX0_answer_40 : decode cX0_answer 40 = .ok (.iaload, 1) := by decide +kernel
theorem dX0_answer_41 : decode cX0_answer 41 = .ok (.ireturn, 1) := by decide +kernel
abbrev cX0_stateOf : ByteArray := prog_1_method_15_code
def yX0_stateOf : MethodName := ⟨RX0, "stateOf", "(I)I"⟩
theorem dX0_stateOf_0 : decode cX0_stateOf 0 = .ok (.aload_n 0, 1) := by decide +kernel
theorem dX0_stateOf_1 : decode cX0_stateOf 1 = .ok (.getfield 19, 3) := by decide +kernel
theorem dX0_stateOf_4 : decode cX0_stateOf 4 = .ok (.iload_n 1, 1) := by decide +kernel
theorem dX0_stateOf_5 : decode cX0_stateOf 5 = .ok (.baload, 1) := by decide +kernel
theorem dX0_stateOf_6 : decode cX0_stateOf 6 = .ok (.ifCond .ne 5, 3) := by decide +kernel
theorem dX0_stateOf_9 : decode cX0_stateOf 9 = .ok (.iconst 0, 1) := by decide +kernel
theorem dX0_stateOf_10 : decode cX0_stateOf 10 = .ok (.ireturn, 1) := by decide +kernel
theorem dX0_stateOf_11 : decode cX0_stateOf 11 = .ok (.aload_n 0, 1) := by decide +kernel
theorem dX0_stateOf_12 : decode cX0_stateOf 12 = .ok (.iload_n 1, 1) := by decide +kernel
theorem dX0_stateOf_13 : decode cX0_stateOf 13 = .ok (.invokevirtual 111, 3) := by decide +kernel
theorem dX0_stateOf_16 : decode cX0_stateOf 16 = .ok (.aload_n 0, 1) := by decide +kernel
theorem dX0_stateOf_17 : decode cX0_stateOf 17 = .ok (.getfield 56, 3) := by decide +kernel
theorem dX0_stateOf_20 : decode cX0_stateOf 20 = .ok (.iload_n 1, 1) := by decide +kernel
theorem dX0_stateOf_21 : decode cX0_stateOf 21 = .ok (.iaload, 1) := by decide +kernel
theorem dX0_stateOf_22 : decode cX0_stateOf 22 = .ok (.ireturn, 1) := by decide +kernel
abbrev cX0_remember : ByteArray := prog_1_method_14_code
def yX0_remember : MethodName := ⟨RX0, "remember", "(I)V"⟩
theorem dX0_remember_0 : decode cX0_remember 0 = .ok (.aload_n 0, 1) := by decide +kernel
theorem dX0_remember_1 : decode cX0_remember 1 = .ok (.getfield 19, 3) := by decide +kernel
theorem dX0_remember_4 : decode cX0_remember 4 = .ok (.iload_n 1, 1) := by decide +kernel
theorem dX0_remember_5 : decode cX0_remember 5 = .ok (.baload, 1) := by decide +kernel
theorem dX0_remember_6 : decode cX0_remember 6 = .ok (.ifCond .eq 17, 3) := by decide +kernel
theorem dX0_remember_9 : decode cX0_remember 9 = .ok (.aload_n 0, 1) := by decide +kernel
theorem dX0_remember_10 : decode cX0_remember 10 = .ok (.getfield 47, 3) := by decide +kernel
theorem dX0_remember_13 : decode cX0_remember 13 = .ok (.iload_n 1, 1) := by decide +kernel
theorem dX0_remember_14 : decode cX0_remember 14 = .ok (.baload, 1) := by decide +kernel
theorem dX0_remember_15 : decode cX0_remember 15 = .ok (.ifCond .ne 8, 3) := by decide +kernel
theorem dX0_remember_18 : decode cX0_remember 18 = .ok (.aload_n 0, 1) := by decide +kernel
theorem dX0_remember_19 : decode cX0_remember 19 = .ok (.iload_n 1, 1) := by decide +kernel
theorem dX0_remember_20 : decode cX0_remember 20 = .ok (.invokevirtual 108, 3) := by decide +kernel
theorem dX0_remember_23 : decode cX0_remember 23 = .ok (.return_, 1) := by decide +kernel
abbrev cX0_signal : ByteArray := prog_1_method_18_code
def yX0_signal : MethodName := ⟨RX0, "signal", "(III)I"⟩
theorem dX0_signal_0 : decode cX0_signal 0 = .ok (.iload_n 1, 1) := by decide +kernel
theorem dX0_signal_1 : decode cX0_signal 1 = .ok (.invokestatic 114, 3) := by decide +kernel
theorem dX0_signal_4 : decode cX0_signal 4 = .ok (.ifCond .eq 6, 3) := by decide +kernel
theorem dX0_signal_7 : decode cX0_signal 7 = .ok (.bipush (-3), 2) := by decide +kernel
theorem dX0_signal_9 : decode cX0_signal 9 = .ok (.ireturn, 1) := by decide +kernel
theorem dX0_signal_10 : decode cX0_signal 10 = .ok (.aload_n 0, 1) := by decide +kernel
theorem dX0_signal_11 : decode cX0_signal 11 = .ok (.iload_n 1, 1) := by decide +kernel
theorem dX0_signal_12 : decode cX0_signal 12 = .ok (.invokevirtual 118, 3) := by decide +kernel
theorem dX0_signal_15 : decode cX0_signal 15 = .ok (.istore 4, 2) := by decide +kernel
theorem dX0_signal_17 : decode cX0_signal 17 = .ok (.iload 4, 2) := by decide +kernel
theorem dX0_signal_19 : decode cX0_signal 19 = .ok (.ifCond .eq 9, 3) := by decide +kernel
theorem dX0_signal_22 : decode cX0_signal 22 = .ok (.iload 4, 2) := by decide +kernel
theorem dX0_signal_24 : decode cX0_signal 24 = .ok (.iconst 4, 1) := by decide +kernel
theorem dX0_signal_25 : decode cX0_signal 25 = .ok (.if_icmp .ne 6, 3) := by decide +kernel
theorem dX0_signal_28 : decode cX0_signal 28 = .ok (.bipush (-4), 2) := by decide +kernel
theorem dX0_signal_30 : decode cX0_signal 30 = .ok (.ireturn, 1) := by decide +kernel
theorem dX0_signal_31 : decode cX0_signal 31 = .ok (.aload_n 0, 1) := by decide +kernel
theorem dX0_signal_32 : decode cX0_signal 32 = .ok (.getfield 32, 3) := by decide +kernel
theorem dX0_signal_35 : decode cX0_signal 35 = .ok (.iload_n 1, 1) := by decide +kernel
theorem dX0_signal_36 : decode cX0_signal 36 = .ok (.iaload, 1) := by decide +kernel
theorem dX0_signal_37 : decode cX0_signal 37 = .ok (.bipush 24, 2) := by decide +kernel
theorem dX0_signal_39 : decode cX0_signal 39 = .ok (.if_icmp .lt 6, 3) := by decide +kernel
theorem dX0_signal_42 : decode cX0_signal 42 = .ok (.bipush (-2), 2) := by decide +kernel
theorem dX0_signal_44 : decode cX0_signal 44 = .ok (.ireturn, 1) := by decide +kernel
theorem dX0_signal_45 : decode cX0_signal 45 = .ok (.iload_n 1, 1) := by decide +kernel
theorem dX0_signal_46 : decode cX0_signal 46 = .ok (.bipush 24, 2) := by decide +kernel
theorem dX0_signal_48 : decode cX0_signal 48 = .ok (.imul, 1) := by decide +kernel
theorem dX0_signal_49 : decode cX0_signal 49 = .ok (.aload_n 0, 1) := by decide +kernel
theorem dX0_signal_50 : decode cX0_signal 50 = .ok (.getfield 32, 3) := by decide +kernel
theorem dX0_signal_53 : decode cX0_signal 53 = .ok (.iload_n 1, 1) := by decide +kernel
theorem dX0_signal_54 : decode cX0_signal 54 = .ok (.iaload, 1) := by decide +kernel
theorem dX0_signal_55 : decode cX0_signal 55 = .ok (.iadd, 1) := by decide +kernel
theorem dX0_signal_56 : decode cX0_signal 56 = .ok (.istore 5, 2) := by decide +kernel
theorem dX0_signal_58 : decode cX0_signal 58 = .ok (.aload_n 0, 1) := by decide +kernel
theorem dX0_signal_59 : decode cX0_signal 59 = .ok (.getfield 35, 3) := by decide +kernel
theorem dX0_signal_62 : decode cX0_signal 62 = .ok (.iload 5, 2) := by decide +kernel
theorem dX0_signal_64 : decode cX0_signal 64 = .ok (.iload_n 2, 1) := by decide +kernel
theorem dX0_signal_65 : decode cX0_signal 65 = .ok (.iconst 1, 1) := by decide +kernel
theorem dX0_signal_66 : decode cX0_signal 66 = .ok (.iand, 1) := by decide +kernel
theorem dX0_signal_67 : decode cX0_signal 67 = .ok (.iastore, 1) := by decide +kernel
theorem dX0_signal_68 : decode cX0_signal 68 = .ok (.aload_n 0, 1) := by decide +kernel
theorem dX0_signal_69 : decode cX0_signal 69 = .ok (.getfield 38, 3) := by decide +kernel
theorem dX0_signal_72 : decode cX0_signal 72 = .ok (.iload 5, 2) := by decide +kernel
theorem dX0_signal_74 : decode cX0_signal 74 = .ok (.iload_n 3, 1) := by decide +kernel
theorem dX0_signal_75 : decode cX0_signal 75 = .ok (.iastore, 1) := by decide +kernel
theorem dX0_signal_76 : decode cX0_signal 76 = .ok (.aload_n 0, 1) := by decide +kernel
theorem dX0_signal_77 : decode cX0_signal 77 = .ok (.getfield 41, 3) := by decide +kernel
theorem dX0_signal_80 : decode cX0_signal 80 = .ok (.iload 5, 2) := by decide +kernel
theorem dX0_signal_82 : decode cX0_signal 82 = .ok (.iconst 0, 1) := by decide +kernel
theorem dX0_signal_83 : decode cX0_signal 83 = .ok (.bastore, 1) := by decide +kernel
theorem dX0_signal_84 : decode cX0_signal 84 = .ok (.aload_n 0, 1) := by decide +kernel
theorem dX0_signal_85 : decode cX0_signal 85 = .ok (.getfield 32, 3) := by decide +kernel
theorem dX0_signal_88 : decode cX0_signal 88 = .ok (.iload_n 1, 1) := by decide +kernel
theorem dX0_signal_89 : decode cX0_signal 89 = .ok (.dup2, 1) := by decide +kernel
theorem dX0_signal_90 : decode cX0_signal 90 = .ok (.iaload, 1) := by decide +kernel
theorem dX0_signal_91 : decode cX0_signal 91 = .ok (.iconst 1, 1) := by decide +kernel
theorem dX0_signal_92 : decode cX0_signal 92 = .ok (.iadd, 1) := by decide +kernel
theorem dX0_signal_93 : decode cX0_signal 93 = .ok (.iastore, 1) := by decide +kernel
theorem dX0_signal_94 : decode cX0_signal 94 = .ok (.iload 4, 2) := by decide +kernel
theorem dX0_signal_96 : decode cX0_signal 96 = .ok (.iconst 3, 1) := by decide +kernel
theorem dX0_signal_97 : decode cX0_signal 97 = .ok (.if_icmp .ne 8, 3) := by decide +kernel
theorem dX0_signal_100 : decode cX0_signal 100 = .ok (.aload_n 0, 1) := by decide +kernel
theorem dX0_signal_101 : decode cX0_signal 101 = .ok (.iload_n 1, 1) := by decide +kernel
theorem dX0_signal_102 : decode cX0_signal 102 = .ok (.invokevirtual 105, 3) := by decide +kernel
theorem dX0_signal_105 : decode cX0_signal 105 = .ok (.aload_n 0, 1) := by decide +kernel
theorem dX0_signal_106 : decode cX0_signal 106 = .ok (.getfield 56, 3) := by decide +kernel
theorem dX0_signal_109 : decode cX0_signal 109 = .ok (.iload_n 1, 1) := by decide +kernel
theorem dX0_signal_110 : decode cX0_signal 110 = .ok (.iaload, 1) := by decide +kernel
theorem dX0_signal_111 : decode cX0_signal 111 = .ok (.ireturn, 1) := by decide +kernel
abbrev cX0_pass : ByteArray := prog_1_method_19_code
def yX0_pass : MethodName := ⟨RX0, "pass", "(I)I"⟩
theorem dX0_pass_0 : decode cX0_pass 0 = .ok (.iload_n 1, 1) := by decide +kernel
theorem dX0_pass_1 : decode cX0_pass 1 = .ok (.ifCond .lt 10, 3) := by decide +kernel
theorem dX0_pass_4 : decode cX0_pass 4 = .ok (.iload_n 1, 1) := by decide +kernel
theorem dX0_pass_5 : decode cX0_pass 5 = .ok (.sipush 1000, 3) := by decide +kernel
theorem dX0_pass_8 : decode cX0_pass 8 = .ok (.if_icmp .le 6, 3) := by decide +kernel
theorem dX0_pass_11 : decode cX0_pass 11 = .ok (.bipush (-6), 2) := by decide +kernel
theorem dX0_pass_13 : decode cX0_pass 13 = .ok (.ireturn, 1) := by decide +kernel
theorem dX0_pass_14 : decode cX0_pass 14 = .ok (.aload_n 0, 1) := by decide +kernel
theorem dX0_pass_15 : decode cX0_pass 15 = .ok (.dup, 1) := by decide +kernel
theorem dX0_pass_16 : decode cX0_pass 16 = .ok (.getfield 68, 3) := by decide +kernel
theorem dX0_pass_19 : decode cX0_pass 19 = .ok (.iload_n 1, 1) := by decide +kernel
theorem dX0_pass_20 : decode cX0_pass 20 = .ok (.iadd, 1) := by decide +kernel
theorem dX0_pass_21 : decode cX0_pass 21 = .ok (.putfield 68, 3) := by decide +kernel
theorem dX0_pass_24 : decode cX0_pass 24 = .ok (.iconst 0, 1) := by decide +kernel
theorem dX0_pass_25 : decode cX0_pass 25 = .ok (.istore_n 2, 1) := by decide +kernel
theorem dX0_pass_26 : decode cX0_pass 26 = .ok (.iconst 0, 1) := by decide +kernel
theorem dX0_pass_27 : decode cX0_pass 27 = .ok (.istore_n 3, 1) := by decide +kernel
theorem dX0_pass_28 : decode cX0_pass 28 = .ok (.iload_n 3, 1) := by decide +kernel
theorem dX0_pass_29 : decode cX0_pass 29 = .ok (.iconst 3, 1) := by decide +kernel
theorem dX0_pass_30 : decode cX0_pass 30 = .ok (.if_icmp .ge 56, 3) := by decide +kernel
theorem dX0_pass_33 : decode cX0_pass 33 = .ok (.aload_n 0, 1) := by decide +kernel
theorem dX0_pass_34 : decode cX0_pass 34 = .ok (.iload_n 3, 1) := by decide +kernel
theorem dX0_pass_35 : decode cX0_pass 35 = .ok (.invokevirtual 118, 3) := by decide +kernel
theorem dX0_pass_38 : decode cX0_pass 38 = .ok (.istore 4, 2) := by decide +kernel
theorem dX0_pass_40 : decode cX0_pass 40 = .ok (.iload 4, 2) := by decide +kernel
theorem dX0_pass_42 : decode cX0_pass 42 = .ok (.iconst 2, 1) := by decide +kernel
theorem dX0_pass_43 : decode cX0_pass 43 = .ok (.if_icmp .ne 37, 3) := by decide +kernel
theorem dX0_pass_46 : decode cX0_pass 46 = .ok (.aload_n 0, 1) := by decide +kernel
theorem dX0_pass_47 : decode cX0_pass 47 = .ok (.getfield 44, 3) := by decide +kernel
theorem dX0_pass_50 : decode cX0_pass 50 = .ok (.iload_n 3, 1) := by decide +kernel
theorem dX0_pass_51 : decode cX0_pass 51 = .ok (.iaload, 1) := by decide +kernel
theorem dX0_pass_52 : decode cX0_pass 52 = .ok (.aload_n 0, 1) := by decide +kernel
theorem dX0_pass_53 : decode cX0_pass 53 = .ok (.getfield 68, 3) := by decide +kernel
theorem dX0_pass_56 : decode cX0_pass 56 = .ok (.if_icmp .gt 24, 3) := by decide +kernel
theorem dX0_pass_59 : decode cX0_pass 59 = .ok (.aload_n 0, 1) := by decide +kernel
theorem dX0_pass_60 : decode cX0_pass 60 = .ok (.getfield 44, 3) := by decide +kernel
theorem dX0_pass_63 : decode cX0_pass 63 = .ok (.iload_n 3, 1) := by decide +kernel
theorem dX0_pass_64 : decode cX0_pass 64 = .ok (.iconst 0, 1) := by decide +kernel
theorem dX0_pass_65 : decode cX0_pass 65 = .ok (.iastore, 1) := by decide +kernel
theorem dX0_pass_66 : decode cX0_pass 66 = .ok (.aload_n 0, 1) := by decide +kernel
theorem dX0_pass_67 : decode cX0_pass 67 = .ok (.iload_n 3, 1) := by decide +kernel
theorem dX0_pass_68 : decode cX0_pass 68 = .ok (.iconst 0, 1) := by decide +kernel
theorem dX0_pass_69 : decode cX0_pass 69 = .ok (.invokevirtual 102, 3) := by decide +kernel
theorem dX0_pass_72 : decode cX0_pass 72 = .ok (.aload_n 0, 1) := by decide +kernel
theorem dX0_pass_73 : decode cX0_pass 73 = .ok (.iload_n 3, 1) := by decide +kernel
theorem dX0_pass_74 : decode cX0_pass 74 = .ok (.invokevirtual 105, 3) := by decide +kernel
theorem dX0_pass_77 : decode cX0_pass 77 = .ok (.iinc 2 1, 3) := by decide +kernel
theorem dX0_pass_80 : decode cX0_pass 80 = .ok (.iinc 3 1, 3) := by decide +kernel
theorem dX0_pass_83 : decode cX0_pass 83 = .ok (.goto (-55), 3) := by decide +kernel
theorem dX0_pass_86 : decode cX0_pass 86 = .ok (.iload_n 2, 1) := by decide +kernel
theorem dX0_pass_87 : decode cX0_pass 87 = .ok (.ireturn, 1) := by decide +kernel
abbrev cX0_forget : ByteArray := prog_1_method_20_code
def yX0_forget : MethodName := ⟨RX0, "forget", "(I)I"⟩
theorem dX0_forget_0 : decode cX0_forget 0 = .ok (.iload_n 1, 1) := by decide +kernel
theorem dX0_forget_1 : decode cX0_forget 1 = .ok (.invokestatic 114, 3) := by decide +kernel
theorem dX0_forget_4 : decode cX0_forget 4 = .ok (.ifCond .eq 6, 3) := by decide +kernel
theorem dX0_forget_7 : decode cX0_forget 7 = .ok (.bipush (-3), 2) := by decide +kernel
theorem dX0_forget_9 : decode cX0_forget 9 = .ok (.ireturn, 1) := by decide +kernel
theorem dX0_forget_10 : decode cX0_forget 10 = .ok (.aload_n 0, 1) := by decide +kernel
theorem dX0_forget_11 : decode cX0_forget 11 = .ok (.getfield 47, 3) := by decide +kernel
theorem dX0_forget_14 : decode cX0_forget 14 = .ok (.iload_n 1, 1) := by decide +kernel
theorem dX0_forget_15 : decode cX0_forget 15 = .ok (.iconst 0, 1) := by decide +kernel
theorem dX0_forget_16 : decode cX0_forget 16 = .ok (.bastore, 1) := by decide +kernel
theorem dX0_forget_17 : decode cX0_forget 17 = .ok (.iconst 0, 1) := by decide +kernel
theorem dX0_forget_18 : decode cX0_forget 18 = .ok (.istore_n 2, 1) := by decide +kernel
theorem dX0_forget_19 : decode cX0_forget 19 = .ok (.iload_n 2, 1) := by decide +kernel
theorem dX0_forget_20 : decode cX0_forget 20 = .ok (.iconst 4, 1) := by decide +kernel
theorem dX0_forget_21 : decode cX0_forget 21 = .ok (.if_icmp .ge 20, 3) := by decide +kernel
theorem dX0_forget_24 : decode cX0_forget 24 = .ok (.aload_n 0, 1) := by decide +kernel
theorem dX0_forget_25 : decode cX0_forget 25 = .ok (.getfield 50, 3) := by decide +kernel
theorem dX0_forget_28 : decode cX0_forget 28 = .ok (.iload_n 1, 1) := by decide +kernel
theorem dX0_forget_29 : decode cX0_forget 29 = .ok (.iconst 4, 1) := by decide +kernel
theorem dX0_forget_30 : decode cX0_forget 30 = .ok (.imul, 1) := by decide +kernel
theorem dX0_forget_31 : decode cX0_forget 31 = .ok (.iload_n 2, 1) := by decide +kernel
theorem dX0_forget_32 : decode cX0_forget 32 = .ok (.iadd, 1) := by decide +kernel
theorem dX0_forget_33 : decode cX0_forget 33 = .ok (.iconst 0, 1) := by decide +kernel
theorem dX0_forget_34 : decode cX0_forget 34 = .ok (.iastore, 1) := by decide +kernel
theorem dX0_forget_35 : decode cX0_forget 35 = .ok (.iinc 2 1, 3) := by decide +kernel
theorem dX0_forget_38 : decode cX0_forget 38 = .ok (.goto (-19), 3) := by decide +kernel
theorem dX0_forget_41 : decode cX0_forget 41 = .ok (.aload_n 0, 1) := by decide +kernel
theorem dX0_forget_42 : decode cX0_forget 42 = .ok (.getfield 53, 3) := by decide +kernel
theorem dX0_forget_45 : decode cX0_forget 45 = .ok (.iload_n 1, 1) := by decide +kernel
theorem dX0_forget_46 : decode cX0_forget 46 = .ok (.iconst 0, 1) := by decide +kernel
theorem dX0_forget_47 : decode cX0_forget 47 = .ok (.iastore, 1) := by decide +kernel
theorem dX0_forget_48 : decode cX0_forget 48 = .ok (.aload_n 0, 1) := by decide +kernel
theorem dX0_forget_49 : decode cX0_forget 49 = .ok (.getfield 56, 3) := by decide +kernel
theorem dX0_forget_52 : decode cX0_forget 52 = .ok (.iload_n 1, 1) := by decide +kernel
theorem dX0_forget_53 : decode cX0_forget 53 = .ok (.iconst 0, 1) := by decide +kernel
theorem dX0_forget_54 : decode cX0_forget 54 = .ok (.iastore, 1) := by decide +kernel
theorem dX0_forget_55 : decode cX0_forget 55 = .ok (.aload_n 0, 1) := by decide +kernel
theorem dX0_forget_56 : decode cX0_forget 56 = .ok (.getfield 59, 3) := by decide +kernel
theorem dX0_forget_59 : decode cX0_forget 59 = .ok (.iload_n 1, 1) := by decide +kernel
theorem dX0_forget_60 : decode cX0_forget 60 = .ok (.iconst 0, 1) := by decide +kernel
theorem dX0_forget_61 : decode cX0_forget 61 = .ok (.iastore, 1) := by decide +kernel
theorem dX0_forget_62 : decode cX0_forget 62 = .ok (.iconst 0, 1) := by decide +kernel
theorem dX0_forget_63 : decode cX0_forget 63 = .ok (.ireturn, 1) := by decide +kernel
abbrev cX0_clear : ByteArray := prog_1_method_21_code
def yX0_clear : MethodName := ⟨RX0, "clear", "()V"⟩
theorem dX0_clear_0 : decode cX0_clear 0 = .ok (.aload_n 0, 1) := by decide +kernel
theorem dX0_clear_1 : decode cX0_clear 1 = .ok (.iconst 0, 1) := by decide +kernel
theorem dX0_clear_2 : decode cX0_clear 2 = .ok (.putfield 72, 3) := by decide +kernel
theorem dX0_clear_5 : decode cX0_clear 5 = .ok (.aload_n 0, 1) := by decide +kernel
theorem dX0_clear_6 : decode cX0_clear 6 = .ok (.iconst 0, 1) := by decide +kernel
theorem dX0_clear_7 : decode cX0_clear 7 = .ok (.putfield 75, 3) := by decide +kernel
theorem dX0_clear_10 : decode cX0_clear 10 = .ok (.aload_n 0, 1) := by decide +kernel
theorem dX0_clear_11 : decode cX0_clear 11 = .ok (.iconst 0, 1) := by decide +kernel
theorem dX0_clear_12 : decode cX0_clear 12 = .ok (.putfield 68, 3) := by decide +kernel
theorem dX0_clear_15 : decode cX0_clear 15 = .ok (.iconst 0, 1) := by decide +kernel
theorem dX0_clear_16 : decode cX0_clear 16 = .ok (.istore_n 1, 1) := by decide +kernel
theorem dX0_clear_17 : decode cX0_clear 17 = .ok (.iload_n 1, 1) := by decide +kernel
theorem dX0_clear_18 : decode cX0_clear 18 = .ok (.iconst 3, 1) := by decide +kernel
theorem dX0_clear_19 : decode cX0_clear 19 = .ok (.if_icmp .ge 37, 3) := by decide +kernel
theorem dX0_clear_22 : decode cX0_clear 22 = .ok (.aload_n 0, 1) := by decide +kernel
theorem dX0_clear_23 : decode cX0_clear 23 = .ok (.getfield 19, 3) := by decide +kernel
theorem dX0_clear_26 : decode cX0_clear 26 = .ok (.iload_n 1, 1) := by decide +kernel
theorem dX0_clear_27 : decode cX0_clear 27 = .ok (.iconst 0, 1) := by decide +kernel
theorem dX0_clear_28 : decode cX0_clear 28 = .ok (.bastore, 1) := by decide +kernel
theorem dX0_clear_29 : decode cX0_clear 29 = .ok (.aload_n 0, 1) := by decide +kernel
theorem dX0_clear_30 : decode cX0_clear 30 = .ok (.getfield 47, 3) := by decide +kernel
theorem dX0_clear_33 : decode cX0_clear 33 = .ok (.iload_n 1, 1) := by decide +kernel
theorem dX0_clear_34 : decode cX0_clear 34 = .ok (.iconst 0, 1) := by decide +kernel
theorem dX0_clear_35 : decode cX0_clear 35 = .ok (.bastore, 1) := by decide +kernel
theorem dX0_clear_36 : decode cX0_clear 36 = .ok (.aload_n 0, 1) := by decide +kernel
theorem dX0_clear_37 : decode cX0_clear 37 = .ok (.getfield 26, 3) := by decide +kernel
theorem dX0_clear_40 : decode cX0_clear 40 = .ok (.iload_n 1, 1) := by decide +kernel
theorem dX0_clear_41 : decode cX0_clear 41 = .ok (.iconst 0, 1) := by decide +kernel
theorem dX0_clear_42 : decode cX0_clear 42 = .ok (.iastore, 1) := by decide +kernel
theorem dX0_clear_43 : decode cX0_clear 43 = .ok (.aload_n 0, 1) := by decide +kernel
theorem dX0_clear_44 : decode cX0_clear 44 = .ok (.getfield 32, 3) := by decide +kernel
theorem dX0_clear_47 : decode cX0_clear 47 = .ok (.iload_n 1, 1) := by decide +kernel
theorem dX0_clear_48 : decode cX0_clear 48 = .ok (.iconst 0, 1) := by decide +kernel
theorem dX0_clear_49 : decode cX0_clear 49 = .ok (.iastore, 1) := by decide +kernel
theorem dX0_clear_50 : decode cX0_clear 50 = .ok (.iinc 1 1, 3) := by decide +kernel
theorem dX0_clear_53 : decode cX0_clear 53 = .ok (.goto (-36), 3) := by decide +kernel
theorem dX0_clear_56 : decode cX0_clear 56 = .ok (.return_, 1) := by decide +kernel
abbrev cX0_state : ByteArray := prog_1_method_22_code
def yX0_state : MethodName := ⟨RX0, "state", "(I)I"⟩
theorem dX0_state_0 : decode cX0_state 0 = .ok (.iload_n 1, 1) := by decide +kernel
theorem dX0_state_1 : decode cX0_state 1 = .ok (.invokestatic 114, 3) := by decide +kernel
theorem dX0_state_4 : decode cX0_state 4 = .ok (.ifCond .eq 8, 3) := by decide +kernel
theorem dX0_state_7 : decode cX0_state 7 = .ok (.bipush (-3), 2) := by decide +kernel
theorem dX0_state_9 : decode cX0_state 9 = .ok (.goto 8, 3) := by decide +kernel
theorem dX0_state_12 : decode cX0_state 12 = .ok (.aload_n 0, 1) := by decide +kernel
theorem dX0_state_13 : decode cX0_state 13 = .ok (.iload_n 1, 1) := by decide +kernel
theorem dX0_state_14 : decode cX0_state 14 = .ok (.invokevirtual 118, 3) := by decide +kernel
theorem dX0_state_17 : decode cX0_state 17 = .ok (.ireturn, 1) := by decide +kernel
abbrev cX0_register : ByteArray := prog_1_method_23_code
def yX0_register : MethodName := ⟨RX0, "register", "(II)I"⟩
theorem dX0_register_0 : decode cX0_register 0 = .ok (.iload_n 1, 1) := by decide +kernel
theorem dX0_register_1 : decode cX0_register 1 = .ok (.invokestatic 114, 3) := by decide +kernel
theorem dX0_register_4 : decode cX0_register 4 = .ok (.ifCond .ne 12, 3) := by decide +kernel
theorem dX0_register_7 : decode cX0_register 7 = .ok (.aload_n 0, 1) := by decide +kernel
theorem dX0_register_8 : decode cX0_register 8 = .ok (.getfield 19, 3) := by decide +kernel
theorem dX0_register_11 : decode cX0_register 11 = .ok (.iload_n 1, 1) := by decide +kernel
theorem dX0_register_12 : decode cX0_register 12 = .ok (.baload, 1) := by decide +kernel
theorem dX0_register_13 : decode cX0_register 13 = .ok (.ifCond .ne 5, 3) := by decide +kernel
theorem dX0_register_16 : decode cX0_register 16 = .ok (.iconst 0, 1) := by decide +kernel
theorem dX0_register_17 : decode cX0_register 17 = .ok (.ireturn, 1) := by decide +kernel
theorem dX0_register_18 : decode cX0_register 18 = .ok (.aload_n 0, 1) := by decide +kernel
theorem dX0_register_19 : decode cX0_register 19 = .ok (.iload_n 1, 1) := by decide +kernel
theorem dX0_register_20 : decode cX0_register 20 = .ok (.invokevirtual 111, 3) := by decide +kernel
theorem dX0_register_23 : decode cX0_register 23 = .ok (.aload_n 0, 1) := by decide +kernel
theorem dX0_register_24 : decode cX0_register 24 = .ok (.getfield 50, 3) := by decide +kernel
theorem dX0_register_27 : decode cX0_register 27 = .ok (.iload_n 1, 1) := by decide +kernel
theorem dX0_register_28 : decode cX0_register 28 = .ok (.iconst 4, 1) := by decide +kernel
theorem dX0_register_29 : decode cX0_register 29 = .ok (.imul, 1) := by decide +kernel
theorem dX0_register_30 : decode cX0_register 30 = .ok (.iload_n 2, 1) := by decide +kernel
theorem dX0_register_31 : decode cX0_register 31 = .ok (.iconst 3, 1) := by decide +kernel
theorem dX0_register_32 : decode cX0_register 32 = .ok (.iand, 1) := by decide +kernel
theorem dX0_register_33 : decode cX0_register 33 = .ok (.iadd, 1) := by decide +kernel
theorem dX0_register_34 : decode cX0_register 34 = .ok (.iaload, 1) := by decide +kernel
theorem dX0_register_35 : decode cX0_register 35 = .ok (.ireturn, 1) := by decide +kernel
abbrev cX0_activity : ByteArray := prog_1_method_24_code
def yX0_activity : MethodName := ⟨RX0, "activity", "(I)I"⟩
theorem dX0_activity_0 : decode cX0_activity 0 = .ok (.iload_n 1, 1) := by decide +kernel
theorem dX0_activity_1 : decode cX0_activity 1 = .ok (.invokestatic 114, 3) := by decide +kernel
theorem dX0_activity_4 : decode cX0_activity 4 = .ok (.ifCond .eq 6, 3) := by decide +kernel
theorem dX0_activity_7 : decode cX0_activity 7 = .ok (.bipush (-3), 2) := by decide +kernel
theorem dX0_activity_9 : decode cX0_activity 9 = .ok (.ireturn, 1) := by decide +kernel
theorem dX0_activity_10 : decode cX0_activity 10 = .ok (.aload_n 0, 1) := by decide +kernel
theorem dX0_activity_11 : decode cX0_activity 11 = .ok (.iload_n 1, 1) := by decide +kernel
theorem dX0_activity_12 : decode cX0_activity 12 = .ok (.invokevirtual 118, 3) := by decide +kernel
theorem dX0_activity_15 : decode cX0_activity 15 = .ok (.istore_n 2, 1) := by decide +kernel
theorem dX0_activity_16 : decode cX0_activity 16 = .ok (.iload_n 2, 1) := by decide +kernel
theorem dX0_activity_17 : decode cX0_activity 17 = .ok (.iconst 1, 1) := by decide +kernel
theorem dX0_activity_18 : decode cX0_activity 18 = .ok (.if_icmp .ne 17, 3) := by decide +kernel
theorem dX0_activity_21 : decode cX0_activity 21 = .ok (.aload_n 0, 1) := by decide +kernel
theorem dX0_activity_22 : decode cX0_activity 22 = .ok (.getfield 16, 3) := by decide +kernel
theorem dX0_activity_25 : decode cX0_activity 25 = .ok (.aload_n 0, 1) := by decide +kernel
theorem dX0_activity_26 : decode cX0_activity 26 = .ok (.getfield 53, 3) := by decide +kernel
theorem dX0_activity_29 : decode cX0_activity 29 = .ok (.iload_n 1, 1) := by decide +kernel
theorem dX0_activity_30 : decode cX0_activity 30 = .ok (.iaload, 1) := by decide +kernel
theorem dX0_activity_31 : decode cX0_activity 31 = .ok (.iaload, 1) := by decide +kernel
theorem dX0_activity_32 : decode cX0_activity 32 = .ok (.goto 4, 3) := by decide +kernel
theorem dX0_activity_35 : decode cX0_activity 35 = .ok (.iconst 0, 1) := by decide +kernel
theorem dX0_activity_36 : decode cX0_activity 36 = .ok (.ireturn, 1) := by decide +kernel
abbrev cX0_result : ByteArray := prog_1_method_25_code
def yX0_result : MethodName := ⟨RX0, "result", "(I)I"⟩
theorem dX0_result_0 : decode cX0_result 0 = .ok (.iload_n 1, 1) := by decide +kernel
theorem dX0_result_1 : decode cX0_result 1 = .ok (.invokestatic 114, 3) := by decide +kernel
theorem dX0_result_4 : decode cX0_result 4 = .ok (.ifCond .eq 6, 3) := by decide +kernel
theorem dX0_result_7 : decode cX0_result 7 = .ok (.bipush (-3), 2) := by decide +kernel
theorem dX0_result_9 : decode cX0_result 9 = .ok (.ireturn, 1) := by decide +kernel
theorem dX0_result_10 : decode cX0_result 10 = .ok (.aload_n 0, 1) := by decide +kernel
theorem dX0_result_11 : decode cX0_result 11 = .ok (.iload_n 1, 1) := by decide +kernel
theorem dX0_result_12 : decode cX0_result 12 = .ok (.invokevirtual 118, 3) := by decide +kernel
theorem dX0_result_15 : decode cX0_result 15 = .ok (.istore_n 2, 1) := by decide +kernel
theorem dX0_result_16 : decode cX0_result 16 = .ok (.iload_n 2, 1) := by decide +kernel
theorem dX0_result_17 : decode cX0_result 17 = .ok (.iconst 4, 1) := by decide +kernel
theorem dX0_result_18 : decode cX0_result 18 = .ok (.if_icmp .ne 12, 3) := by decide +kernel
theorem dX0_result_21 : decode cX0_result 21 = .ok (.aload_n 0, 1) := by decide +kernel
theorem dX0_result_22 : decode cX0_result 22 = .ok (.getfield 59, 3) := by decide +kernel
theorem dX0_result_25 : decode cX0_result 25 = .ok (.iload_n 1, 1) := by decide +kernel
theorem dX0_result_26 : decode cX0_result 26 = .ok (.iaload, 1) := by decide +kernel
theorem dX0_result_27 : decode cX0_result 27 = .ok (.goto 4, 3) := by decide +kernel
theorem dX0_result_30 : decode cX0_result 30 = .ok (.iconst 0, 1) := by decide +kernel
theorem dX0_result_31 : decode cX0_result 31 = .ok (.ireturn, 1) := by decide +kernel
abbrev cX0_untaken : ByteArray := prog_1_method_26_code
def yX0_untaken : MethodName := ⟨RX0, "untaken", "(I)I"⟩
theorem dX0_untaken_0 : decode cX0_untaken 0 = .ok (.iload_n 1, 1) := by decide +kernel
theorem dX0_untaken_1 : decode cX0_untaken 1 = .ok (.invokestatic 114, 3) := by decide +kernel
theorem dX0_untaken_4 : decode cX0_untaken 4 = .ok (.ifCond .eq 6, 3) := by decide +kernel
theorem dX0_untaken_7 : decode cX0_untaken 7 = .ok (.bipush (-3), 2) := by decide +kernel
theorem dX0_untaken_9 : decode cX0_untaken 9 = .ok (.ireturn, 1) := by decide +kernel
theorem dX0_untaken_10 : decode cX0_untaken 10 = .ok (.iconst 0, 1) := by decide +kernel
theorem dX0_untaken_11 : decode cX0_untaken 11 = .ok (.istore_n 2, 1) := by decide +kernel
theorem dX0_untaken_12 : decode cX0_untaken 12 = .ok (.iload_n 1, 1) := by decide +kernel
theorem dX0_untaken_13 : decode cX0_untaken 13 = .ok (.bipush 24, 2) := by decide +kernel
theorem dX0_untaken_15 : decode cX0_untaken 15 = .ok (.imul, 1) := by decide +kernel
theorem dX0_untaken_16 : decode cX0_untaken 16 = .ok (.istore_n 3, 1) := by decide +kernel
theorem dX0_untaken_17 : decode cX0_untaken 17 = .ok (.iload_n 3, 1) := by decide +kernel
theorem dX0_untaken_18 : decode cX0_untaken 18 = .ok (.iload_n 1, 1) := by decide +kernel
theorem dX0_untaken_19 : decode cX0_untaken 19 = .ok (.bipush 24, 2) := by decide +kernel
theorem dX0_untaken_21 : decode cX0_untaken 21 = .ok (.imul, 1) := by decide +kernel
theorem dX0_untaken_22 : decode cX0_untaken 22 = .ok (.aload_n 0, 1) := by decide +kernel
theorem dX0_untaken_23 : decode cX0_untaken 23 = .ok (.getfield 32, 3) := by decide +kernel
theorem dX0_untaken_26 : decode cX0_untaken 26 = .ok (.iload_n 1, 1) := by decide +kernel
theorem dX0_untaken_27 : decode cX0_untaken 27 = .ok (.iaload, 1) := by decide +kernel
theorem dX0_untaken_28 : decode cX0_untaken 28 = .ok (.iadd, 1) := by decide +kernel
theorem dX0_untaken_29 : decode cX0_untaken 29 = .ok (.if_icmp .ge 21, 3) := by decide +kernel
theorem dX0_untaken_32 : decode cX0_untaken 32 = .ok (.aload_n 0, 1) := by decide +kernel
theorem dX0_untaken_33 : decode cX0_untaken 33 = .ok (.getfield 41, 3) := by decide +kernel
theorem dX0_untaken_36 : decode cX0_untaken 36 = .ok (.iload_n 3, 1) := by decide +kernel
theorem dX0_untaken_37 : decode cX0_untaken 37 = .ok (.baload, 1) := by decide +kernel
theorem dX0_untaken_38 : decode cX0_untaken 38 = .ok (.ifCond .ne 6, 3) := by decide +kernel
theorem dX0_untaken_41 : decode cX0_untaken 41 = .ok (.iinc 2 1, 3) := by decide +kernel
theorem dX0_untaken_44 : decode cX0_untaken 44 = .ok (.iinc 3 1, 3) := by decide +kernel
theorem dX0_untaken_47 : decode cX0_untaken 47 = .ok (.goto (-30), 3) := by decide +kernel
theorem dX0_untaken_50 : decode cX0_untaken 50 = .ok (.iload_n 2, 1) := by decide +kernel
theorem dX0_untaken_51 : decode cX0_untaken 51 = .ok (.ireturn, 1) := by decide +kernel
abbrev cX0_time : ByteArray := prog_1_method_27_code
def yX0_time : MethodName := ⟨RX0, "time", "()I"⟩
theorem dX0_time_0 : decode cX0_time 0 = .ok (.aload_n 0, 1) := by decide +kernel
theorem dX0_time_1 : decode cX0_time 1 = .ok (.getfield 68, 3) := by decide +kernel
theorem dX0_time_4 : decode cX0_time 4 = .ok (.ireturn, 1) := by decide +kernel
theorem q21 : (Jvm.Cond.initialized "ReplayFlow") ∈ lw_all := lw_g (lw_at lw_m1 1 rfl) rfl
theorem q24 : (Jvm.Cond.instantiable "ReplayFlow" (22 : Nat)) ∈ lw_all := lw_g (lw_at lw_m1 4 rfl) rfl
theorem q26 : (Jvm.Cond.instanceMethod ({ cls := "ReplayFlow", name := "<init>", desc := "()V" } : Jvm.MethodName)) ∈ lw_all := lw_g (lw_at lw_m1 6 rfl) rfl
theorem q27 : (Jvm.Cond.code ({ cls := "ReplayFlow", name := "<init>", desc := "()V" } : Jvm.MethodName) prog_1_method_1_code (1 : Nat) (Option.none : Option Jvm.ClassFile.FieldType)) ∈ lw_all := lw_g (lw_at lw_m1 7 rfl) rfl
theorem q28 : (Jvm.Cond.methodLink "ReplayFlow" (1 : Nat) ({ cls := "java/lang/Object", name := "<init>", desc := "()V" } : Jvm.MethodName)) ∈ lw_all := lw_g (lw_at lw_m1 8 rfl) rfl
theorem q31 : (Jvm.Cond.fieldLink "ReplayFlow" (72 : Nat) "ReplayFlow" "length" "I") ∈ lw_all := lw_g (lw_at lw_m1 11 rfl) rfl
theorem q32 : (Jvm.Cond.fieldLink "ReplayFlow" (7 : Nat) "ReplayFlow" "op" "[I") ∈ lw_all := lw_g (lw_at lw_m1 12 rfl) rfl
theorem q33 : (Jvm.Cond.fieldLink "ReplayFlow" (13 : Nat) "ReplayFlow" "first" "[I") ∈ lw_all := lw_g (lw_at lw_m1 13 rfl) rfl
theorem q34 : (Jvm.Cond.fieldLink "ReplayFlow" (16 : Nat) "ReplayFlow" "second" "[I") ∈ lw_all := lw_g (lw_at lw_m1 14 rfl) rfl
theorem q35 : (Jvm.Cond.fieldLink "ReplayFlow" (75 : Nat) "ReplayFlow" "locked" "Z") ∈ lw_all := lw_g (lw_at lw_m1 15 rfl) rfl
theorem q36 : (Jvm.Cond.fieldLink "ReplayFlow" (68 : Nat) "ReplayFlow" "now" "I") ∈ lw_all := lw_g (lw_at lw_m1 16 rfl) rfl
theorem q37 : (Jvm.Cond.fieldLink "ReplayFlow" (19 : Nat) "ReplayFlow" "started" "[Z") ∈ lw_all := lw_g (lw_at lw_m1 17 rfl) rfl
theorem q38 : (Jvm.Cond.fieldLink "ReplayFlow" (23 : Nat) "ReplayFlow" "argument" "[I") ∈ lw_all := lw_g (lw_at lw_m1 18 rfl) rfl
theorem q39 : (Jvm.Cond.fieldLink "ReplayFlow" (26 : Nat) "ReplayFlow" "events" "[I") ∈ lw_all := lw_g (lw_at lw_m1 19 rfl) rfl
theorem q40 : (Jvm.Cond.fieldLink "ReplayFlow" (29 : Nat) "ReplayFlow" "event" "[I") ∈ lw_all := lw_g (lw_at lw_m1 20 rfl) rfl
theorem q41 : (Jvm.Cond.fieldLink "ReplayFlow" (32 : Nat) "ReplayFlow" "signals" "[I") ∈ lw_all := lw_g (lw_at lw_m1 21 rfl) rfl
theorem q42 : (Jvm.Cond.fieldLink "ReplayFlow" (35 : Nat) "ReplayFlow" "channelOf" "[I") ∈ lw_all := lw_g (lw_at lw_m1 22 rfl) rfl
theorem q43 : (Jvm.Cond.fieldLink "ReplayFlow" (38 : Nat) "ReplayFlow" "valueOf" "[I") ∈ lw_all := lw_g (lw_at lw_m1 23 rfl) rfl
theorem q44 : (Jvm.Cond.fieldLink "ReplayFlow" (41 : Nat) "ReplayFlow" "taken" "[Z") ∈ lw_all := lw_g (lw_at lw_m1 24 rfl) rfl
theorem q45 : (Jvm.Cond.fieldLink "ReplayFlow" (44 : Nat) "ReplayFlow" "wakesAt" "[I") ∈ lw_all := lw_g (lw_at lw_m1 25 rfl) rfl
theorem q46 : (Jvm.Cond.fieldLink "ReplayFlow" (47 : Nat) "ReplayFlow" "known" "[Z") ∈ lw_all := lw_g (lw_at lw_m1 26 rfl) rfl
theorem q47 : (Jvm.Cond.fieldLink "ReplayFlow" (50 : Nat) "ReplayFlow" "registers" "[I") ∈ lw_all := lw_g (lw_at lw_m1 27 rfl) rfl
theorem q48 : (Jvm.Cond.fieldLink "ReplayFlow" (53 : Nat) "ReplayFlow" "place" "[I") ∈ lw_all := lw_g (lw_at lw_m1 28 rfl) rfl
theorem q49 : (Jvm.Cond.fieldLink "ReplayFlow" (56 : Nat) "ReplayFlow" "states" "[I") ∈ lw_all := lw_g (lw_at lw_m1 29 rfl) rfl
theorem q50 : (Jvm.Cond.fieldLink "ReplayFlow" (59 : Nat) "ReplayFlow" "results" "[I") ∈ lw_all := lw_g (lw_at lw_m1 30 rfl) rfl
theorem q51 : (Jvm.Cond.fieldLink "ReplayFlow" (62 : Nat) "ReplayFlow" "met" "[I") ∈ lw_all := lw_g (lw_at lw_m1 31 rfl) rfl
theorem q52 : (Jvm.Cond.fieldLink "ReplayFlow" (65 : Nat) "ReplayFlow" "inARow" "[I") ∈ lw_all := lw_g (lw_at lw_m1 32 rfl) rfl
theorem q53 : (Jvm.Cond.lays "ReplayFlow" "ReplayFlow" "length" "I") ∈ lw_all := lw_g (lw_at lw_m1 33 rfl) rfl
theorem q54 : (Jvm.Cond.soleField "ReplayFlow" "length") ∈ lw_all := lw_g (lw_at lw_m1 34 rfl) rfl
theorem q55 : (Jvm.Cond.laysFinal "ReplayFlow" "ReplayFlow" "op" "[I") ∈ lw_all := lw_g (lw_at lw_m1 35 rfl) rfl
theorem q56 : (Jvm.Cond.soleField "ReplayFlow" "op") ∈ lw_all := lw_g (lw_at lw_m1 36 rfl) rfl
theorem q57 : (Jvm.Cond.laysFinal "ReplayFlow" "ReplayFlow" "first" "[I") ∈ lw_all := lw_g (lw_at lw_m1 37 rfl) rfl
theorem q58 : (Jvm.Cond.soleField "ReplayFlow" "first") ∈ lw_all := lw_g (lw_at lw_m1 38 rfl) rfl
theorem q59 : (Jvm.Cond.laysFinal "ReplayFlow" "ReplayFlow" "second" "[I") ∈ lw_all := lw_g (lw_at lw_m1 39 rfl) rfl
theorem q60 : (Jvm.Cond.soleField "ReplayFlow" "second") ∈ lw_all := lw_g (lw_at lw_m1 40 rfl) rfl
theorem q61 : (Jvm.Cond.lays "ReplayFlow" "ReplayFlow" "locked" "Z") ∈ lw_all := lw_g (lw_at lw_m1 41 rfl) rfl
theorem q62 : (Jvm.Cond.soleField "ReplayFlow" "locked") ∈ lw_all := lw_g (lw_at lw_m1 42 rfl) rfl
theorem q63 : (Jvm.Cond.lays "ReplayFlow" "ReplayFlow" "now" "I") ∈ lw_all := lw_g (lw_at lw_m1 43 rfl) rfl
theorem q64 : (Jvm.Cond.soleField "ReplayFlow" "now") ∈ lw_all := lw_g (lw_at lw_m1 44 rfl) rfl
theorem q65 : (Jvm.Cond.laysFinal "ReplayFlow" "ReplayFlow" "started" "[Z") ∈ lw_all := lw_g (lw_at lw_m1 45 rfl) rfl
theorem q66 : (Jvm.Cond.soleField "ReplayFlow" "started") ∈ lw_all := lw_g (lw_at lw_m1 46 rfl) rfl
theorem q67 : (Jvm.Cond.laysFinal "ReplayFlow" "ReplayFlow" "argument" "[I") ∈ lw_all := lw_g (lw_at lw_m1 47 rfl) rfl
theorem q68 : (Jvm.Cond.soleField "ReplayFlow" "argument") ∈ lw_all := lw_g (lw_at lw_m1 48 rfl) rfl
theorem q69 : (Jvm.Cond.laysFinal "ReplayFlow" "ReplayFlow" "events" "[I") ∈ lw_all := lw_g (lw_at lw_m1 49 rfl) rfl
theorem q70 : (Jvm.Cond.soleField "ReplayFlow" "events") ∈ lw_all := lw_g (lw_at lw_m1 50 rfl) rfl
theorem q71 : (Jvm.Cond.laysFinal "ReplayFlow" "ReplayFlow" "event" "[I") ∈ lw_all := lw_g (lw_at lw_m1 51 rfl) rfl
theorem q72 : (Jvm.Cond.soleField "ReplayFlow" "event") ∈ lw_all := lw_g (lw_at lw_m1 52 rfl) rfl
theorem q73 : (Jvm.Cond.laysFinal "ReplayFlow" "ReplayFlow" "signals" "[I") ∈ lw_all := lw_g (lw_at lw_m1 53 rfl) rfl
theorem q74 : (Jvm.Cond.soleField "ReplayFlow" "signals") ∈ lw_all := lw_g (lw_at lw_m1 54 rfl) rfl
theorem q75 : (Jvm.Cond.laysFinal "ReplayFlow" "ReplayFlow" "channelOf" "[I") ∈ lw_all := lw_g (lw_at lw_m1 55 rfl) rfl
theorem q76 : (Jvm.Cond.soleField "ReplayFlow" "channelOf") ∈ lw_all := lw_g (lw_at lw_m1 56 rfl) rfl
theorem q77 : (Jvm.Cond.laysFinal "ReplayFlow" "ReplayFlow" "valueOf" "[I") ∈ lw_all := lw_g (lw_at lw_m1 57 rfl) rfl
theorem q78 : (Jvm.Cond.soleField "ReplayFlow" "valueOf") ∈ lw_all := lw_g (lw_at lw_m1 58 rfl) rfl
theorem q79 : (Jvm.Cond.laysFinal "ReplayFlow" "ReplayFlow" "taken" "[Z") ∈ lw_all := lw_g (lw_at lw_m1 59 rfl) rfl
theorem q80 : (Jvm.Cond.soleField "ReplayFlow" "taken") ∈ lw_all := lw_g (lw_at lw_m1 60 rfl) rfl
theorem q81 : (Jvm.Cond.laysFinal "ReplayFlow" "ReplayFlow" "wakesAt" "[I") ∈ lw_all := lw_g (lw_at lw_m1 61 rfl) rfl
theorem q82 : (Jvm.Cond.soleField "ReplayFlow" "wakesAt") ∈ lw_all := lw_g (lw_at lw_m1 62 rfl) rfl
theorem q83 : (Jvm.Cond.laysFinal "ReplayFlow" "ReplayFlow" "known" "[Z") ∈ lw_all := lw_g (lw_at lw_m1 63 rfl) rfl
theorem q84 : (Jvm.Cond.soleField "ReplayFlow" "known") ∈ lw_all := lw_g (lw_at lw_m1 64 rfl) rfl
theorem q85 : (Jvm.Cond.laysFinal "ReplayFlow" "ReplayFlow" "registers" "[I") ∈ lw_all := lw_g (lw_at lw_m1 65 rfl) rfl
theorem q86 : (Jvm.Cond.soleField "ReplayFlow" "registers") ∈ lw_all := lw_g (lw_at lw_m1 66 rfl) rfl
theorem q87 : (Jvm.Cond.laysFinal "ReplayFlow" "ReplayFlow" "place" "[I") ∈ lw_all := lw_g (lw_at lw_m1 67 rfl) rfl
theorem q88 : (Jvm.Cond.soleField "ReplayFlow" "place") ∈ lw_all := lw_g (lw_at lw_m1 68 rfl) rfl
theorem q89 : (Jvm.Cond.laysFinal "ReplayFlow" "ReplayFlow" "states" "[I") ∈ lw_all := lw_g (lw_at lw_m1 69 rfl) rfl
theorem q90 : (Jvm.Cond.soleField "ReplayFlow" "states") ∈ lw_all := lw_g (lw_at lw_m1 70 rfl) rfl
theorem q91 : (Jvm.Cond.laysFinal "ReplayFlow" "ReplayFlow" "results" "[I") ∈ lw_all := lw_g (lw_at lw_m1 71 rfl) rfl
theorem q92 : (Jvm.Cond.soleField "ReplayFlow" "results") ∈ lw_all := lw_g (lw_at lw_m1 72 rfl) rfl
theorem q93 : (Jvm.Cond.laysFinal "ReplayFlow" "ReplayFlow" "met" "[I") ∈ lw_all := lw_g (lw_at lw_m1 73 rfl) rfl
theorem q94 : (Jvm.Cond.soleField "ReplayFlow" "met") ∈ lw_all := lw_g (lw_at lw_m1 74 rfl) rfl
theorem q95 : (Jvm.Cond.laysFinal "ReplayFlow" "ReplayFlow" "inARow" "[I") ∈ lw_all := lw_g (lw_at lw_m1 75 rfl) rfl
theorem q96 : (Jvm.Cond.soleField "ReplayFlow" "inARow") ∈ lw_all := lw_g (lw_at lw_m1 76 rfl) rfl
theorem q97 : (Jvm.Cond.superclass "ReplayFlow" "java/lang/Object") ∈ lw_all := lw_g (lw_at lw_m1 77 rfl) rfl
theorem q101 : (Jvm.Cond.instanceMethod ({ cls := "ReplayFlow", name := "emit", desc := "(III)I" } : Jvm.MethodName)) ∈ lw_all := lw_g (lw_at lw_m1 81 rfl) rfl
theorem q102 : (Jvm.Cond.selects "ReplayFlow" ({ cls := "ReplayFlow", name := "emit", desc := "(III)I" } : Jvm.MethodName) ({ cls := "ReplayFlow", name := "emit", desc := "(III)I" } : Jvm.MethodName)) ∈ lw_all := lw_g (lw_at lw_m1 82 rfl) rfl
theorem q103 : (Jvm.Cond.code ({ cls := "ReplayFlow", name := "emit", desc := "(III)I" } : Jvm.MethodName) prog_1_method_3_code (5 : Nat) (Option.some Jvm.ClassFile.FieldType.int)) ∈ lw_all := lw_g (lw_at lw_m1 83 rfl) rfl
theorem q105 : (Jvm.Cond.instanceMethod ({ cls := "ReplayFlow", name := "start", desc := "(II)I" } : Jvm.MethodName)) ∈ lw_all := lw_g (lw_at lw_m1 85 rfl) rfl
theorem q106 : (Jvm.Cond.selects "ReplayFlow" ({ cls := "ReplayFlow", name := "start", desc := "(II)I" } : Jvm.MethodName) ({ cls := "ReplayFlow", name := "start", desc := "(II)I" } : Jvm.MethodName)) ∈ lw_all := lw_g (lw_at lw_m1 86 rfl) rfl
theorem q107 : (Jvm.Cond.code ({ cls := "ReplayFlow", name := "start", desc := "(II)I" } : Jvm.MethodName) prog_1_method_16_code (3 : Nat) (Option.some Jvm.ClassFile.FieldType.int)) ∈ lw_all := lw_g (lw_at lw_m1 87 rfl) rfl
theorem q108 : (Jvm.Cond.methodLink "ReplayFlow" (114 : Nat) ({ cls := "ReplayFlow", name := "badRun", desc := "(I)Z" } : Jvm.MethodName)) ∈ lw_all := lw_g (lw_at lw_m1 88 rfl) rfl
theorem q109 : (Jvm.Cond.static ({ cls := "ReplayFlow", name := "badRun", desc := "(I)Z" } : Jvm.MethodName)) ∈ lw_all := lw_g (lw_at lw_m1 89 rfl) rfl
theorem q110 : (Jvm.Cond.code ({ cls := "ReplayFlow", name := "badRun", desc := "(I)Z" } : Jvm.MethodName) prog_1_method_2_code (1 : Nat) (Option.some Jvm.ClassFile.FieldType.boolean)) ∈ lw_all := lw_g (lw_at lw_m1 90 rfl) rfl
theorem q111 : (Jvm.Cond.methodLink "ReplayFlow" (108 : Nat) ({ cls := "ReplayFlow", name := "begin", desc := "(I)V" } : Jvm.MethodName)) ∈ lw_all := lw_g (lw_at lw_m1 91 rfl) rfl
theorem q112 : (Jvm.Cond.privateMethod ({ cls := "ReplayFlow", name := "begin", desc := "(I)V" } : Jvm.MethodName)) ∈ lw_tbl := lw_at lw_m1 92 rfl
theorem q113 : (Jvm.Cond.instanceMethod ({ cls := "ReplayFlow", name := "begin", desc := "(I)V" } : Jvm.MethodName)) ∈ lw_all := lw_g (lw_at lw_m1 93 rfl) rfl
theorem q114 : (Jvm.Cond.code ({ cls := "ReplayFlow", name := "begin", desc := "(I)V" } : Jvm.MethodName) prog_1_method_13_code (3 : Nat) (Option.none : Option Jvm.ClassFile.FieldType)) ∈ lw_all := lw_g (lw_at lw_m1 94 rfl) rfl
theorem q115 : (Jvm.Cond.methodLink "ReplayFlow" (105 : Nat) ({ cls := "ReplayFlow", name := "carryOn", desc := "(I)V" } : Jvm.MethodName)) ∈ lw_all := lw_g (lw_at lw_m1 95 rfl) rfl
theorem q116 : (Jvm.Cond.privateMethod ({ cls := "ReplayFlow", name := "carryOn", desc := "(I)V" } : Jvm.MethodName)) ∈ lw_tbl := lw_at lw_m1 96 rfl
theorem q117 : (Jvm.Cond.instanceMethod ({ cls := "ReplayFlow", name := "carryOn", desc := "(I)V" } : Jvm.MethodName)) ∈ lw_all := lw_g (lw_at lw_m1 97 rfl) rfl
theorem q118 : (Jvm.Cond.code ({ cls := "ReplayFlow", name := "carryOn", desc := "(I)V" } : Jvm.MethodName) prog_1_method_6_code (4 : Nat) (Option.none : Option Jvm.ClassFile.FieldType)) ∈ lw_all := lw_g (lw_at lw_m1 98 rfl) rfl
theorem q119 : (Jvm.Cond.methodLink "ReplayFlow" (83 : Nat) ({ cls := "ReplayFlow", name := "goTo", desc := "(II)V" } : Jvm.MethodName)) ∈ lw_all := lw_g (lw_at lw_m1 99 rfl) rfl
theorem q120 : (Jvm.Cond.privateMethod ({ cls := "ReplayFlow", name := "goTo", desc := "(II)V" } : Jvm.MethodName)) ∈ lw_tbl := lw_at lw_m1 100 rfl
theorem q121 : (Jvm.Cond.instanceMethod ({ cls := "ReplayFlow", name := "goTo", desc := "(II)V" } : Jvm.MethodName)) ∈ lw_all := lw_g (lw_at lw_m1 101 rfl) rfl
theorem q122 : (Jvm.Cond.code ({ cls := "ReplayFlow", name := "goTo", desc := "(II)V" } : Jvm.MethodName) prog_1_method_5_code (3 : Nat) (Option.none : Option Jvm.ClassFile.FieldType)) ∈ lw_all := lw_g (lw_at lw_m1 102 rfl) rfl
theorem q123 : (Jvm.Cond.methodLink "ReplayFlow" (79 : Nat) ({ cls := "ReplayFlow", name := "finish", desc := "(II)V" } : Jvm.MethodName)) ∈ lw_all := lw_g (lw_at lw_m1 103 rfl) rfl
theorem q124 : (Jvm.Cond.privateMethod ({ cls := "ReplayFlow", name := "finish", desc := "(II)V" } : Jvm.MethodName)) ∈ lw_tbl := lw_at lw_m1 104 rfl
theorem q125 : (Jvm.Cond.instanceMethod ({ cls := "ReplayFlow", name := "finish", desc := "(II)V" } : Jvm.MethodName)) ∈ lw_all := lw_g (lw_at lw_m1 105 rfl) rfl
theorem q126 : (Jvm.Cond.code ({ cls := "ReplayFlow", name := "finish", desc := "(II)V" } : Jvm.MethodName) prog_1_method_4_code (3 : Nat) (Option.none : Option Jvm.ClassFile.FieldType)) ∈ lw_all := lw_g (lw_at lw_m1 106 rfl) rfl
theorem q127 : (Jvm.Cond.methodLink "ReplayFlow" (86 : Nat) ({ cls := "ReplayFlow", name := "plain", desc := "(II)V" } : Jvm.MethodName)) ∈ lw_all := lw_g (lw_at lw_m1 107 rfl) rfl
theorem q128 : (Jvm.Cond.privateMethod ({ cls := "ReplayFlow", name := "plain", desc := "(II)V" } : Jvm.MethodName)) ∈ lw_tbl := lw_at lw_m1 108 rfl
theorem q129 : (Jvm.Cond.instanceMethod ({ cls := "ReplayFlow", name := "plain", desc := "(II)V" } : Jvm.MethodName)) ∈ lw_all := lw_g (lw_at lw_m1 109 rfl) rfl
theorem q130 : (Jvm.Cond.code ({ cls := "ReplayFlow", name := "plain", desc := "(II)V" } : Jvm.MethodName) prog_1_method_7_code (7 : Nat) (Option.none : Option Jvm.ClassFile.FieldType)) ∈ lw_all := lw_g (lw_at lw_m1 110 rfl) rfl
theorem q131 : (Jvm.Cond.methodLink "ReplayFlow" (89 : Nat) ({ cls := "ReplayFlow", name := "await", desc := "(II)V" } : Jvm.MethodName)) ∈ lw_all := lw_g (lw_at lw_m1 111 rfl) rfl
theorem q132 : (Jvm.Cond.privateMethod ({ cls := "ReplayFlow", name := "await", desc := "(II)V" } : Jvm.MethodName)) ∈ lw_tbl := lw_at lw_m1 112 rfl
theorem q133 : (Jvm.Cond.instanceMethod ({ cls := "ReplayFlow", name := "await", desc := "(II)V" } : Jvm.MethodName)) ∈ lw_all := lw_g (lw_at lw_m1 113 rfl) rfl
theorem q134 : (Jvm.Cond.code ({ cls := "ReplayFlow", name := "await", desc := "(II)V" } : Jvm.MethodName) prog_1_method_8_code (3 : Nat) (Option.none : Option Jvm.ClassFile.FieldType)) ∈ lw_all := lw_g (lw_at lw_m1 114 rfl) rfl
theorem q135 : (Jvm.Cond.methodLink "ReplayFlow" (92 : Nat) ({ cls := "ReplayFlow", name := "takeSignal", desc := "(II)V" } : Jvm.MethodName)) ∈ lw_all := lw_g (lw_at lw_m1 115 rfl) rfl
theorem q136 : (Jvm.Cond.privateMethod ({ cls := "ReplayFlow", name := "takeSignal", desc := "(II)V" } : Jvm.MethodName)) ∈ lw_tbl := lw_at lw_m1 116 rfl
theorem q137 : (Jvm.Cond.instanceMethod ({ cls := "ReplayFlow", name := "takeSignal", desc := "(II)V" } : Jvm.MethodName)) ∈ lw_all := lw_g (lw_at lw_m1 117 rfl) rfl
theorem q138 : (Jvm.Cond.code ({ cls := "ReplayFlow", name := "takeSignal", desc := "(II)V" } : Jvm.MethodName) prog_1_method_12_code (4 : Nat) (Option.none : Option Jvm.ClassFile.FieldType)) ∈ lw_all := lw_g (lw_at lw_m1 118 rfl) rfl
theorem q139 : (Jvm.Cond.methodLink "ReplayFlow" (102 : Nat) ({ cls := "ReplayFlow", name := "addEvent", desc := "(II)V" } : Jvm.MethodName)) ∈ lw_all := lw_g (lw_at lw_m1 119 rfl) rfl
theorem q140 : (Jvm.Cond.privateMethod ({ cls := "ReplayFlow", name := "addEvent", desc := "(II)V" } : Jvm.MethodName)) ∈ lw_tbl := lw_at lw_m1 120 rfl
theorem q141 : (Jvm.Cond.instanceMethod ({ cls := "ReplayFlow", name := "addEvent", desc := "(II)V" } : Jvm.MethodName)) ∈ lw_all := lw_g (lw_at lw_m1 121 rfl) rfl
theorem q142 : (Jvm.Cond.code ({ cls := "ReplayFlow", name := "addEvent", desc := "(II)V" } : Jvm.MethodName) prog_1_method_11_code (3 : Nat) (Option.none : Option Jvm.ClassFile.FieldType)) ∈ lw_all := lw_g (lw_at lw_m1 122 rfl) rfl
theorem q143 : (Jvm.Cond.methodLink "ReplayFlow" (95 : Nat) ({ cls := "ReplayFlow", name := "meet", desc := "(II)V" } : Jvm.MethodName)) ∈ lw_all := lw_g (lw_at lw_m1 123 rfl) rfl
theorem q144 : (Jvm.Cond.privateMethod ({ cls := "ReplayFlow", name := "meet", desc := "(II)V" } : Jvm.MethodName)) ∈ lw_tbl := lw_at lw_m1 124 rfl
theorem q145 : (Jvm.Cond.instanceMethod ({ cls := "ReplayFlow", name := "meet", desc := "(II)V" } : Jvm.MethodName)) ∈ lw_all := lw_g (lw_at lw_m1 125 rfl) rfl
theorem q146 : (Jvm.Cond.code ({ cls := "ReplayFlow", name := "meet", desc := "(II)V" } : Jvm.MethodName) prog_1_method_9_code (4 : Nat) (Option.none : Option Jvm.ClassFile.FieldType)) ∈ lw_all := lw_g (lw_at lw_m1 126 rfl) rfl
theorem q147 : (Jvm.Cond.methodLink "ReplayFlow" (98 : Nat) ({ cls := "ReplayFlow", name := "fallAsleep", desc := "(I)V" } : Jvm.MethodName)) ∈ lw_all := lw_g (lw_at lw_m1 127 rfl) rfl
theorem q148 : (Jvm.Cond.privateMethod ({ cls := "ReplayFlow", name := "fallAsleep", desc := "(I)V" } : Jvm.MethodName)) ∈ lw_tbl := lw_at lw_m1 128 rfl
theorem q149 : (Jvm.Cond.instanceMethod ({ cls := "ReplayFlow", name := "fallAsleep", desc := "(I)V" } : Jvm.MethodName)) ∈ lw_all := lw_g (lw_at lw_m1 129 rfl) rfl
theorem q150 : (Jvm.Cond.code ({ cls := "ReplayFlow", name := "fallAsleep", desc := "(I)V" } : Jvm.MethodName) prog_1_method_10_code (3 : Nat) (Option.none : Option Jvm.ClassFile.FieldType)) ∈ lw_all := lw_g (lw_at lw_m1 130 rfl) rfl
theorem q152 : (Jvm.Cond.instanceMethod ({ cls := "ReplayFlow", name := "answer", desc := "(II)I" } : Jvm.MethodName)) ∈ lw_all := lw_g (lw_at lw_m1 132 rfl) rfl
theorem q153 : (Jvm.Cond.selects "ReplayFlow" ({ cls := "ReplayFlow", name := "answer", desc := "(II)I" } : Jvm.MethodName) ({ cls := "ReplayFlow", name := "answer", desc := "(II)I" } : Jvm.MethodName)) ∈ lw_all := lw_g (lw_at lw_m1 133 rfl) rfl
theorem q154 : (Jvm.Cond.code ({ cls := "ReplayFlow", name := "answer", desc := "(II)I" } : Jvm.MethodName) prog_1_method_17_code (4 : Nat) (Option.some Jvm.ClassFile.FieldType.int)) ∈ lw_all := lw_g (lw_at lw_m1 134 rfl) rfl
theorem q155 : (Jvm.Cond.methodLink "ReplayFlow" (118 : Nat) ({ cls := "ReplayFlow", name := "stateOf", desc := "(I)I" } : Jvm.MethodName)) ∈ lw_all := lw_g (lw_at lw_m1 135 rfl) rfl
theorem q156 : (Jvm.Cond.privateMethod ({ cls := "ReplayFlow", name := "stateOf", desc := "(I)I" } : Jvm.MethodName)) ∈ lw_tbl := lw_at lw_m1 136 rfl
theorem q157 : (Jvm.Cond.instanceMethod ({ cls := "ReplayFlow", name := "stateOf", desc := "(I)I" } : Jvm.MethodName)) ∈ lw_all := lw_g (lw_at lw_m1 137 rfl) rfl
theorem q158 : (Jvm.Cond.code ({ cls := "ReplayFlow", name := "stateOf", desc := "(I)I" } : Jvm.MethodName) prog_1_method_15_code (2 : Nat) (Option.some Jvm.ClassFile.FieldType.int)) ∈ lw_all := lw_g (lw_at lw_m1 138 rfl) rfl
theorem q159 : (Jvm.Cond.methodLink "ReplayFlow" (111 : Nat) ({ cls := "ReplayFlow", name := "remember", desc := "(I)V" } : Jvm.MethodName)) ∈ lw_all := lw_g (lw_at lw_m1 139 rfl) rfl
theorem q160 : (Jvm.Cond.privateMethod ({ cls := "ReplayFlow", name := "remember", desc := "(I)V" } : Jvm.MethodName)) ∈ lw_tbl := lw_at lw_m1 140 rfl
theorem q161 : (Jvm.Cond.instanceMethod ({ cls := "ReplayFlow", name := "remember", desc := "(I)V" } : Jvm.MethodName)) ∈ lw_all := lw_g (lw_at lw_m1 141 rfl) rfl
theorem q162 : (Jvm.Cond.code ({ cls := "ReplayFlow", name := "remember", desc := "(I)V" } : Jvm.MethodName) prog_1_method_14_code (2 : Nat) (Option.none : Option Jvm.ClassFile.FieldType)) ∈ lw_all := lw_g (lw_at lw_m1 142 rfl) rfl
theorem q164 : (Jvm.Cond.instanceMethod ({ cls := "ReplayFlow", name := "signal", desc := "(III)I" } : Jvm.MethodName)) ∈ lw_all := lw_g (lw_at lw_m1 144 rfl) rfl
theorem q165 : (Jvm.Cond.selects "ReplayFlow" ({ cls := "ReplayFlow", name := "signal", desc := "(III)I" } : Jvm.MethodName) ({ cls := "ReplayFlow", name := "signal", desc := "(III)I" } : Jvm.MethodName)) ∈ lw_all := lw_g (lw_at lw_m1 145 rfl) rfl
theorem q166 : (Jvm.Cond.code ({ cls := "ReplayFlow", name := "signal", desc := "(III)I" } : Jvm.MethodName) prog_1_method_18_code (6 : Nat) (Option.some Jvm.ClassFile.FieldType.int)) ∈ lw_all := lw_g (lw_at lw_m1 146 rfl) rfl
theorem q168 : (Jvm.Cond.instanceMethod ({ cls := "ReplayFlow", name := "pass", desc := "(I)I" } : Jvm.MethodName)) ∈ lw_all := lw_g (lw_at lw_m1 148 rfl) rfl
theorem q169 : (Jvm.Cond.selects "ReplayFlow" ({ cls := "ReplayFlow", name := "pass", desc := "(I)I" } : Jvm.MethodName) ({ cls := "ReplayFlow", name := "pass", desc := "(I)I" } : Jvm.MethodName)) ∈ lw_all := lw_g (lw_at lw_m1 149 rfl) rfl
theorem q170 : (Jvm.Cond.code ({ cls := "ReplayFlow", name := "pass", desc := "(I)I" } : Jvm.MethodName) prog_1_method_19_code (5 : Nat) (Option.some Jvm.ClassFile.FieldType.int)) ∈ lw_all := lw_g (lw_at lw_m1 150 rfl) rfl
theorem q172 : (Jvm.Cond.instanceMethod ({ cls := "ReplayFlow", name := "forget", desc := "(I)I" } : Jvm.MethodName)) ∈ lw_all := lw_g (lw_at lw_m1 152 rfl) rfl
theorem q173 : (Jvm.Cond.selects "ReplayFlow" ({ cls := "ReplayFlow", name := "forget", desc := "(I)I" } : Jvm.MethodName) ({ cls := "ReplayFlow", name := "forget", desc := "(I)I" } : Jvm.MethodName)) ∈ lw_all := lw_g (lw_at lw_m1 153 rfl) rfl
theorem q174 : (Jvm.Cond.code ({ cls := "ReplayFlow", name := "forget", desc := "(I)I" } : Jvm.MethodName) prog_1_method_20_code (3 : Nat) (Option.some Jvm.ClassFile.FieldType.int)) ∈ lw_all := lw_g (lw_at lw_m1 154 rfl) rfl
theorem q176 : (Jvm.Cond.instanceMethod ({ cls := "ReplayFlow", name := "clear", desc := "()V" } : Jvm.MethodName)) ∈ lw_all := lw_g (lw_at lw_m1 156 rfl) rfl
theorem q177 : (Jvm.Cond.selects "ReplayFlow" ({ cls := "ReplayFlow", name := "clear", desc := "()V" } : Jvm.MethodName) ({ cls := "ReplayFlow", name := "clear", desc := "()V" } : Jvm.MethodName)) ∈ lw_all := lw_g (lw_at lw_m1 157 rfl) rfl
theorem q178 : (Jvm.Cond.code ({ cls := "ReplayFlow", name := "clear", desc := "()V" } : Jvm.MethodName) prog_1_method_21_code (2 : Nat) (Option.none : Option Jvm.ClassFile.FieldType)) ∈ lw_all := lw_g (lw_at lw_m1 158 rfl) rfl
theorem q180 : (Jvm.Cond.instanceMethod ({ cls := "ReplayFlow", name := "state", desc := "(I)I" } : Jvm.MethodName)) ∈ lw_all := lw_g (lw_at lw_m1 160 rfl) rfl
theorem q181 : (Jvm.Cond.selects "ReplayFlow" ({ cls := "ReplayFlow", name := "state", desc := "(I)I" } : Jvm.MethodName) ({ cls := "ReplayFlow", name := "state", desc := "(I)I" } : Jvm.MethodName)) ∈ lw_all := lw_g (lw_at lw_m1 161 rfl) rfl
theorem q182 : (Jvm.Cond.code ({ cls := "ReplayFlow", name := "state", desc := "(I)I" } : Jvm.MethodName) prog_1_method_22_code (2 : Nat) (Option.some Jvm.ClassFile.FieldType.int)) ∈ lw_all := lw_g (lw_at lw_m1 162 rfl) rfl
theorem q184 : (Jvm.Cond.instanceMethod ({ cls := "ReplayFlow", name := "register", desc := "(II)I" } : Jvm.MethodName)) ∈ lw_all := lw_g (lw_at lw_m1 164 rfl) rfl
theorem q185 : (Jvm.Cond.selects "ReplayFlow" ({ cls := "ReplayFlow", name := "register", desc := "(II)I" } : Jvm.MethodName) ({ cls := "ReplayFlow", name := "register", desc := "(II)I" } : Jvm.MethodName)) ∈ lw_all := lw_g (lw_at lw_m1 165 rfl) rfl
theorem q186 : (Jvm.Cond.code ({ cls := "ReplayFlow", name := "register", desc := "(II)I" } : Jvm.MethodName) prog_1_method_23_code (3 : Nat) (Option.some Jvm.ClassFile.FieldType.int)) ∈ lw_all := lw_g (lw_at lw_m1 166 rfl) rfl
theorem q188 : (Jvm.Cond.instanceMethod ({ cls := "ReplayFlow", name := "activity", desc := "(I)I" } : Jvm.MethodName)) ∈ lw_all := lw_g (lw_at lw_m1 168 rfl) rfl
theorem q189 : (Jvm.Cond.selects "ReplayFlow" ({ cls := "ReplayFlow", name := "activity", desc := "(I)I" } : Jvm.MethodName) ({ cls := "ReplayFlow", name := "activity", desc := "(I)I" } : Jvm.MethodName)) ∈ lw_all := lw_g (lw_at lw_m1 169 rfl) rfl
theorem q190 : (Jvm.Cond.code ({ cls := "ReplayFlow", name := "activity", desc := "(I)I" } : Jvm.MethodName) prog_1_method_24_code (3 : Nat) (Option.some Jvm.ClassFile.FieldType.int)) ∈ lw_all := lw_g (lw_at lw_m1 170 rfl) rfl
theorem q192 : (Jvm.Cond.instanceMethod ({ cls := "ReplayFlow", name := "result", desc := "(I)I" } : Jvm.MethodName)) ∈ lw_all := lw_g (lw_at lw_m1 172 rfl) rfl
theorem q193 : (Jvm.Cond.selects "ReplayFlow" ({ cls := "ReplayFlow", name := "result", desc := "(I)I" } : Jvm.MethodName) ({ cls := "ReplayFlow", name := "result", desc := "(I)I" } : Jvm.MethodName)) ∈ lw_all := lw_g (lw_at lw_m1 173 rfl) rfl
theorem q194 : (Jvm.Cond.code ({ cls := "ReplayFlow", name := "result", desc := "(I)I" } : Jvm.MethodName) prog_1_method_25_code (3 : Nat) (Option.some Jvm.ClassFile.FieldType.int)) ∈ lw_all := lw_g (lw_at lw_m1 174 rfl) rfl
theorem q196 : (Jvm.Cond.instanceMethod ({ cls := "ReplayFlow", name := "untaken", desc := "(I)I" } : Jvm.MethodName)) ∈ lw_all := lw_g (lw_at lw_m1 176 rfl) rfl
theorem q197 : (Jvm.Cond.selects "ReplayFlow" ({ cls := "ReplayFlow", name := "untaken", desc := "(I)I" } : Jvm.MethodName) ({ cls := "ReplayFlow", name := "untaken", desc := "(I)I" } : Jvm.MethodName)) ∈ lw_all := lw_g (lw_at lw_m1 177 rfl) rfl
theorem q198 : (Jvm.Cond.code ({ cls := "ReplayFlow", name := "untaken", desc := "(I)I" } : Jvm.MethodName) prog_1_method_26_code (4 : Nat) (Option.some Jvm.ClassFile.FieldType.int)) ∈ lw_all := lw_g (lw_at lw_m1 178 rfl) rfl
theorem q200 : (Jvm.Cond.instanceMethod ({ cls := "ReplayFlow", name := "time", desc := "()I" } : Jvm.MethodName)) ∈ lw_all := lw_g (lw_at lw_m1 180 rfl) rfl
theorem q201 : (Jvm.Cond.selects "ReplayFlow" ({ cls := "ReplayFlow", name := "time", desc := "()I" } : Jvm.MethodName) ({ cls := "ReplayFlow", name := "time", desc := "()I" } : Jvm.MethodName)) ∈ lw_all := lw_g (lw_at lw_m1 181 rfl) rfl
theorem q202 : (Jvm.Cond.code ({ cls := "ReplayFlow", name := "time", desc := "()I" } : Jvm.MethodName) prog_1_method_27_code (1 : Nat) (Option.some Jvm.ClassFile.FieldType.int)) ∈ lw_all := lw_g (lw_at lw_m1 182 rfl) rfl
theorem in_X0 : ∀ w ∈ wsX00, w ∈ lw_all := lw_in wsX00 [53, 55, 57, 59, 61, 63, 65, 67, 69, 71, 73, 75, 77, 79, 81, 83, 85, 87, 89, 91, 93, 95] (by decide +kernel) (by decide +kernel)
end
section
/-! ReplayFlowModel -/
set_option maxRecDepth 100000
def RX1 : String := "ReplayFlowModel"
def TX1 : u_T := fun k => match k with
  | 0 => ("ReplayFlowModel", "ops", "[I", true)
  | 1 => ("ReplayFlowModel", "as", "[I", true)
  | 2 => ("ReplayFlowModel", "bs", "[I", true)
  | 3 => ("ReplayFlowModel", "length", "I", false)
  | 4 => ("ReplayFlowModel", "locked", "Z", false)
  | 5 => ("ReplayFlowModel", "now", "I", false)
  | 6 => ("ReplayFlowModel", "states", "[I", true)
  | 7 => ("ReplayFlowModel", "places", "[I", true)
  | 8 => ("ReplayFlowModel", "steps", "[I", true)
  | 9 => ("ReplayFlowModel", "registers", "[I", true)
  | 10 => ("ReplayFlowModel", "results", "[I", true)
  | 11 => ("ReplayFlowModel", "wakes", "[I", true)
  | 12 => ("ReplayFlowModel", "over", "[I", true)
  | 13 => ("ReplayFlowModel", "signals", "[I", true)
  | 14 => ("ReplayFlowModel", "signalChannel", "[I", true)
  | 15 => ("ReplayFlowModel", "signalValue", "[I", true)
  | _ => ("ReplayFlowModel", "signalTaken", "[Z", true)
def tyX1 : Nat → FieldType := fun k => match k with
  | 0 => .array .int
  | 1 => .array .int
  | 2 => .array .int
  | 3 => .int
  | 4 => .boolean
  | 5 => .int
  | 6 => .array .int
  | 7 => .array .int
  | 8 => .array .int
  | 9 => .array .int
  | 10 => .array .int
  | 11 => .array .int
  | 12 => .array .int
  | 13 => .array .int
  | 14 => .array .int
  | 15 => .array .int
  | _ => .array .boolean
abbrev wsX10 : List Cond := u_ws RX1 TX1 17
set_option maxRecDepth 100000 in
theorem nmX1 : ∀ a, a < 17 → ∀ b, b < 17 → a ≠ b → (TX1 a).2.1 ≠ (TX1 b).2.1 := by decide +kernel
set_option maxRecDepth 100000 in
theorem tyX1_ok : ∀ k, k < 17 → parseFieldDescriptor (TX1 k).2.2.1 = some (tyX1 k) := by decide +kernel
abbrev cX1_init : ByteArray := prog_3_method_1_code
def yX1_init : MethodName := ⟨RX1, "<init>", "()V"⟩
theorem dX1_init_0 : decode cX1_init 0 = .ok (.aload_n 0, 1) := by decide +kernel
theorem dX1_init_1 : decode cX1_init 1 = .ok (.invokespecial 1, 3) := by decide +kernel
theorem dX1_init_4 : decode cX1_init 4 = .ok (.aload_n 0, 1) := by decide +kernel
theorem dX1_init_5 : decode cX1_init 5 = .ok (.bipush 16, 2) := by decide +kernel
theorem dX1_init_7 : decode cX1_init 7 = .ok (.newarray .int, 2) := by decide +kernel
theorem dX1_init_9 : decode cX1_init 9 = .ok (.putfield 7, 3) := by decide +kernel
theorem dX1_init_12 : decode cX1_init 12 = .ok (.aload_n 0, 1) := by decide +kernel
theorem dX1_init_13 : decode cX1_init 13 = .ok (.bipush 16, 2) := by decide +kernel
theorem dX1_init_15 : decode cX1_init 15 = .ok (.newarray .int, 2) := by decide +kernel
theorem dX1_init_17 : decode cX1_init 17 = .ok (.putfield 13, 3) := by decide +kernel
theorem dX1_init_20 : decode cX1_init 20 = .ok (.aload_n 0, 1) := by decide +kernel
theorem dX1_init_21 : decode cX1_init 21 = .ok (.bipush 16, 2) := by decide +kernel
theorem dX1_init_23 : decode cX1_init 23 = .ok (.newarray .int, 2) := by decide +kernel
theorem dX1_init_25 : decode cX1_init 25 = .ok (.putfield 16, 3) := by decide +kernel
theorem dX1_init_28 : decode cX1_init 28 = .ok (.aload_n 0, 1) := by decide +kernel
theorem dX1_init_29 : decode cX1_init 29 = .ok (.iconst 3, 1) := by decide +kernel
theorem dX1_init_30 : decode cX1_init 30 = .ok (.newarray .int, 2) := by decide +kernel
theorem dX1_init_32 : decode cX1_init 32 = .ok (.putfield 19, 3) := by decide +kernel
theorem dX1_init_35 : decode cX1_init 35 = .ok (.aload_n 0, 1) := by decide +kernel
theorem dX1_init_36 : decode cX1_init 36 = .ok (.iconst 3, 1) := by decide +kernel
theorem dX1_init_37 : decode cX1_init 37 = .ok (.newarray .int, 2) := by decide +kernel
theorem dX1_init_39 : decode cX1_init 39 = .ok (.putfield 22, 3) := by decide +kernel
theorem dX1_init_42 : decode cX1_init 42 = .ok (.aload_n 0, 1) := by decide +kernel
theorem dX1_init_43 : decode cX1_init 43 = .ok (.iconst 3, 1) := by decide +kernel
theorem dX1_init_44 : decode cX1_init 44 = .ok (.newarray .int, 2) := by decide +kernel
theorem dX1_init_46 : decode cX1_init 46 = .ok (.putfield 25, 3) := by decide +kernel
theorem dX1_init_49 : decode cX1_init 49 = .ok (.aload_n 0, 1) := by decide +kernel
theorem dX1_init_50 : decode cX1_init 50 = .ok (.bipush 12, 2) := by decide +kernel
theorem dX1_init_52 : decode cX1_init 52 = .ok (.newarray .int, 2) := by decide +kernel
theorem dX1_init_54 : decode cX1_init 54 = .ok (.putfield 28, 3) := by decide +kernel
theorem dX1_init_57 : decode cX1_init 57 = .ok (.aload_n 0, 1) := by decide +kernel
theorem dX1_init_58 : decode cX1_init 58 = .ok (.iconst 3, 1) := by decide +kernel
theorem dX1_init_59 : decode cX1_init 59 = .ok (.newarray .int, 2) := by decide +kernel
theorem dX1_init_61 : decode cX1_init 61 = .ok (.putfield 31, 3) := by decide +kernel
theorem dX1_init_64 : decode cX1_init 64 = .ok (.aload_n 0, 1) := by decide +kernel
theorem dX1_init_65 : decode cX1_init 65 = .ok (.iconst 3, 1) := by decide +kernel
theorem dX1_init_66 : decode cX1_init 66 = .ok (.newarray .int, 2) := by decide +kernel
theorem dX1_init_68 : decode cX1_init 68 = .ok (.putfield 34, 3) := by decide +kernel
theorem dX1_init_71 : decode cX1_init 71 = .ok (.aload_n 0, 1) := by decide +kernel
theorem dX1_init_72 : decode cX1_init 72 = .ok (.iconst 3, 1) := by decide +kernel
theorem dX1_init_73 : decode cX1_init 73 = .ok (.newarray .int, 2) := by decide +kernel
theorem dX1_init_75 : decode cX1_init 75 = .ok (.putfield 37, 3) := by decide +kernel
theorem dX1_init_78 : decode cX1_init 78 = .ok (.aload_n 0, 1) := by decide +kernel
theorem dX1_init_79 : decode cX1_init 79 = .ok (.iconst 3, 1) := by decide +kernel
theorem dX1_init_80 : decode cX1_init 80 = .ok (.newarray .int, 2) := by decide +kernel
theorem dX1_init_82 : decode cX1_init 82 = .ok (.putfield 40, 3) := by decide +kernel
theorem dX1_init_85 : decode cX1_init 85 = .ok (.aload_n 0, 1) := by decide +kernel
theorem dX1_init_86 : decode cX1_init 86 = .ok (.bipush 72, 2) := by decide +kernel
theorem dX1_init_88 : decode cX1_init 88 = .ok (.newarray .int, 2) := by decide +kernel
theorem dX1_init_90 : decode cX1_init 90 = .ok (.putfield 43, 3) := by decide +kernel
theorem dX1_init_93 : decode cX1_init 93 = .ok (.aload_n 0, 1) := by decide +kernel
theorem dX1_init_94 : decode cX1_init 94 = .ok (.bipush 72, 2) := by decide +kernel
theorem dX1_init_96 : decode cX1_init 96 = .ok (.newarray .int, 2) := by decide +kernel
theorem dX1_init_98 : decode cX1_init 98 = .ok (.putfield 46, 3) := by decide +kernel
theorem dX1_init_101 : decode cX1_init 101 = .ok (.aload_n 0, 1) := by decide +kernel
theorem dX1_init_102 : decode cX1_init 102 = .ok (.bipush 72, 2) := by decide +kernel
theorem dX1_init_104 : decode cX1_init 104 = .ok (.newarray .boolean, 2) := by decide +kernel
theorem dX1_init_106 : decode cX1_init 106 = .ok (.putfield 49, 3) := by decide +kernel
theorem dX1_init_109 : decode cX1_init 109 = .ok (.return_, 1) := by decide +kernel
abbrev cX1_emit : ByteArray := prog_3_method_2_code
def yX1_emit : MethodName := ⟨RX1, "emit", "(III)I"⟩
theorem dX1_emit_0 : decode cX1_emit 0 = .ok (.iload_n 1, 1) := by decide +kernel
theorem dX1_emit_1 : decode cX1_emit 1 = .ok (.ifCond .lt 9, 3) := by decide +kernel
theorem dX1_emit_4 : decode cX1_emit 4 = .ok (.iload_n 1, 1) := by decide +kernel
theorem dX1_emit_5 : decode cX1_emit 5 = .ok (.bipush 8, 2) := by decide +kernel
theorem dX1_emit_7 : decode cX1_emit 7 = .ok (.if_icmp .le 5, 3) := by decide +kernel
theorem dX1_emit_10 : decode cX1_emit 10 = .ok (.iconst (-1), 1) := by decide +kernel
theorem dX1_emit_11 : decode cX1_emit 11 = .ok (.ireturn, 1) := by decide +kernel
theorem dX1_emit_12 : decode cX1_emit 12 = .ok (.aload_n 0, 1) := by decide +kernel
theorem dX1_emit_13 : decode cX1_emit 13 = .ok (.getfield 53, 3) := by decide +kernel
theorem dX1_emit_16 : decode cX1_emit 16 = .ok (.bipush 16, 2) := by decide +kernel
theorem dX1_emit_18 : decode cX1_emit 18 = .ok (.if_icmp .ne 6, 3) := by decide +kernel
theorem dX1_emit_21 : decode cX1_emit 21 = .ok (.bipush (-2), 2) := by decide +kernel
theorem dX1_emit_23 : decode cX1_emit 23 = .ok (.ireturn, 1) := by decide +kernel
theorem dX1_emit_24 : decode cX1_emit 24 = .ok (.aload_n 0, 1) := by decide +kernel
theorem dX1_emit_25 : decode cX1_emit 25 = .ok (.getfield 57, 3) := by decide +kernel
theorem dX1_emit_28 : decode cX1_emit 28 = .ok (.ifCond .eq 6, 3) := by decide +kernel
theorem dX1_emit_31 : decode cX1_emit 31 = .ok (.bipush (-5), 2) := by decide +kernel
theorem dX1_emit_33 : decode cX1_emit 33 = .ok (.ireturn, 1) := by decide +kernel
theorem dX1_emit_34 : decode cX1_emit 34 = .ok (.aload_n 0, 1) := by decide +kernel
theorem dX1_emit_35 : decode cX1_emit 35 = .ok (.getfield 7, 3) := by decide +kernel
theorem dX1_emit_38 : decode cX1_emit 38 = .ok (.aload_n 0, 1) := by decide +kernel
theorem dX1_emit_39 : decode cX1_emit 39 = .ok (.getfield 53, 3) := by decide +kernel
theorem dX1_emit_42 : decode cX1_emit 42 = .ok (.iload_n 1, 1) := by decide +kernel
theorem dX1_emit_43 : decode cX1_emit 43 = .ok (.iastore, 1) := by decide +kernel
theorem dX1_emit_44 : decode cX1_emit 44 = .ok (.aload_n 0, 1) := by decide +kernel
theorem dX1_emit_45 : decode cX1_emit 45 = .ok (.getfield 13, 3) := by decide +kernel
theorem dX1_emit_48 : decode cX1_emit 48 = .ok (.aload_n 0, 1) := by decide +kernel
theorem dX1_emit_49 : decode cX1_emit 49 = .ok (.getfield 53, 3) := by decide +kernel
theorem dX1_emit_52 : decode cX1_emit 52 = .ok (.iload_n 2, 1) := by decide +kernel
theorem dX1_emit_53 : decode cX1_emit 53 = .ok (.iconst 3, 1) := by decide +kernel
theorem dX1_emit_54 : decode cX1_emit 54 = .ok (.iand, 1) := by decide +kernel
theorem dX1_emit_55 : decode cX1_emit 55 = .ok (.iastore, 1) := by decide +kernel
theorem dX1_emit_56 : decode cX1_emit 56 = .ok (.aload_n 0, 1) := by decide +kernel
theorem dX1_emit_57 : decode cX1_emit 57 = .ok (.getfield 16, 3) := by decide +kernel
theorem dX1_emit_60 : decode cX1_emit 60 = .ok (.aload_n 0, 1) := by decide +kernel
theorem dX1_emit_61 : decode cX1_emit 61 = .ok (.getfield 53, 3) := by decide +kernel
theorem dX1_emit_64 : decode cX1_emit 64 = .ok (.iload_n 3, 1) := by decide +kernel
theorem dX1_emit_65 : decode cX1_emit 65 = .ok (.iastore, 1) := by decide +kernel
theorem dX1_emit_66 : decode cX1_emit 66 = .ok (.aload_n 0, 1) := by decide +kernel
theorem dX1_emit_67 : decode cX1_emit 67 = .ok (.dup, 1) := by decide +kernel
theorem dX1_emit_68 : decode cX1_emit 68 = .ok (.getfield 53, 3) := by decide +kernel
theorem dX1_emit_71 : decode cX1_emit 71 = .ok (.iconst 1, 1) := by decide +kernel
theorem dX1_emit_72 : decode cX1_emit 72 = .ok (.iadd, 1) := by decide +kernel
theorem dX1_emit_73 : decode cX1_emit 73 = .ok (.putfield 53, 3) := by decide +kernel
theorem dX1_emit_76 : decode cX1_emit 76 = .ok (.aload_n 0, 1) := by decide +kernel
theorem dX1_emit_77 : decode cX1_emit 77 = .ok (.getfield 53, 3) := by decide +kernel
theorem dX1_emit_80 : decode cX1_emit 80 = .ok (.iconst 1, 1) := by decide +kernel
theorem dX1_emit_81 : decode cX1_emit 81 = .ok (.isub, 1) := by decide +kernel
theorem dX1_emit_82 : decode cX1_emit 82 = .ok (.ireturn, 1) := by decide +kernel
abbrev cX1_start : ByteArray := prog_3_method_4_code
def yX1_start : MethodName := ⟨RX1, "start", "(II)I"⟩
theorem dX1_start_0 : decode cX1_start 0 = .ok (.aload_n 0, 1) := by decide +kernel
theorem dX1_start_1 : decode cX1_start 1 = .ok (.iload_n 1, 1) := by decide +kernel
theorem dX1_start_2 : decode cX1_start 2 = .ok (.invokevirtual 61, 3) := by decide +kernel
theorem dX1_start_5 : decode cX1_start 5 = .ok (.ifCond .ne 6, 3) := by decide +kernel
theorem dX1_start_8 : decode cX1_start 8 = .ok (.bipush (-3), 2) := by decide +kernel
theorem dX1_start_10 : decode cX1_start 10 = .ok (.ireturn, 1) := by decide +kernel
theorem dX1_start_11 : decode cX1_start 11 = .ok (.aload_n 0, 1) := by decide +kernel
theorem dX1_start_12 : decode cX1_start 12 = .ok (.getfield 19, 3) := by decide +kernel
theorem dX1_start_15 : decode cX1_start 15 = .ok (.iload_n 1, 1) := by decide +kernel
theorem dX1_start_16 : decode cX1_start 16 = .ok (.iaload, 1) := by decide +kernel
theorem dX1_start_17 : decode cX1_start 17 = .ok (.ifCond .eq 6, 3) := by decide +kernel
theorem dX1_start_20 : decode cX1_start 20 = .ok (.bipush (-5), 2) := by decide +kernel
theorem dX1_start_22 : decode cX1_start 22 = .ok (.ireturn, 1) := by decide +kernel
theorem dX1_start_23 : decode cX1_start 23 = .ok (.aload_n 0, 1) := by decide +kernel
theorem dX1_start_24 : decode cX1_start 24 = .ok (.iconst 1, 1) := by decide +kernel
theorem dX1_start_25 : decode cX1_start 25 = .ok (.putfield 57, 3) := by decide +kernel
theorem dX1_start_28 : decode cX1_start 28 = .ok (.iconst 0, 1) := by decide +kernel
theorem dX1_start_29 : decode cX1_start 29 = .ok (.istore_n 3, 1) := by decide +kernel
theorem dX1_start_30 : decode cX1_start 30 = .ok (.iload_n 3, 1) := by decide +kernel
theorem dX1_start_31 : decode cX1_start 31 = .ok (.iconst 4, 1) := by decide +kernel
theorem dX1_start_32 : decode cX1_start 32 = .ok (.if_icmp .ge 20, 3) := by decide +kernel
theorem dX1_start_35 : decode cX1_start 35 = .ok (.aload_n 0, 1) := by decide +kernel
theorem dX1_start_36 : decode cX1_start 36 = .ok (.getfield 28, 3) := by decide +kernel
theorem dX1_start_39 : decode cX1_start 39 = .ok (.iload_n 1, 1) := by decide +kernel
theorem dX1_start_40 : decode cX1_start 40 = .ok (.iconst 4, 1) := by decide +kernel
theorem dX1_start_41 : decode cX1_start 41 = .ok (.imul, 1) := by decide +kernel
theorem dX1_start_42 : decode cX1_start 42 = .ok (.iload_n 3, 1) := by decide +kernel
theorem dX1_start_43 : decode cX1_start 43 = .ok (.iadd, 1) := by decide +kernel
theorem dX1_start_44 : decode cX1_start 44 = .ok (.iconst 0, 1) := by decide +kernel
theorem dX1_start_45 : decode cX1_start 45 = .ok (.iastore, 1) := by decide +kernel
theorem dX1_start_46 : decode cX1_start 46 = .ok (.iinc 3 1, 3) := by decide +kernel
theorem dX1_start_49 : decode cX1_start 49 = .ok (.goto (-19), 3) := by decide +kernel
theorem dX1_start_52 : decode cX1_start 52 = .ok (.aload_n 0, 1) := by decide +kernel
theorem dX1_start_53 : decode cX1_start 53 = .ok (.getfield 28, 3) := by decide +kernel
theorem dX1_start_56 : decode cX1_start 56 = .ok (.iload_n 1, 1) := by decide +kernel
theorem dX1_start_57 : decode cX1_start 57 = .ok (.iconst 4, 1) := by decide +kernel
theorem dX1_start_58 : decode cX1_start 58 = .ok (.imul, 1) := by decide +kernel
theorem dX1_start_59 : decode cX1_start 59 = .ok (.iload_n 2, 1) := by decide +kernel
theorem dX1_start_60 : decode cX1_start 60 = .ok (.iastore, 1) := by decide +kernel
theorem dX1_start_61 : decode cX1_start 61 = .ok (.aload_n 0, 1) := by decide +kernel
theorem dX1_start_62 : decode cX1_start 62 = .ok (.getfield 22, 3) := by decide +kernel
theorem dX1_start_65 : decode cX1_start 65 = .ok (.iload_n 1, 1) := by decide +kernel
theorem dX1_start_66 : decode cX1_start 66 = .ok (.iconst 0, 1) := by decide +kernel
theorem dX1_start_67 : decode cX1_start 67 = .ok (.iastore, 1) := by decide +kernel
theorem dX1_start_68 : decode cX1_start 68 = .ok (.aload_n 0, 1) := by decide +kernel
theorem dX1_start_69 : decode cX1_start 69 = .ok (.getfield 25, 3) := by decide +kernel
theorem dX1_start_72 : decode cX1_start 72 = .ok (.iload_n 1, 1) := by decide +kernel
theorem dX1_start_73 : decode cX1_start 73 = .ok (.iconst 0, 1) := by decide +kernel
theorem dX1_start_74 : decode cX1_start 74 = .ok (.iastore, 1) := by decide +kernel
theorem dX1_start_75 : decode cX1_start 75 = .ok (.aload_n 0, 1) := by decide +kernel
theorem dX1_start_76 : decode cX1_start 76 = .ok (.getfield 37, 3) := by decide +kernel
theorem dX1_start_79 : decode cX1_start 79 = .ok (.iload_n 1, 1) := by decide +kernel
theorem dX1_start_80 : decode cX1_start 80 = .ok (.iconst 0, 1) := by decide +kernel
theorem dX1_start_81 : decode cX1_start 81 = .ok (.iastore, 1) := by decide +kernel
theorem dX1_start_82 : decode cX1_start 82 = .ok (.aload_n 0, 1) := by decide +kernel
theorem dX1_start_83 : decode cX1_start 83 = .ok (.getfield 40, 3) := by decide +kernel
theorem dX1_start_86 : decode cX1_start 86 = .ok (.iload_n 1, 1) := by decide +kernel
theorem dX1_start_87 : decode cX1_start 87 = .ok (.iconst 0, 1) := by decide +kernel
theorem dX1_start_88 : decode cX1_start 88 = .ok (.iastore, 1) := by decide +kernel
theorem dX1_start_89 : decode cX1_start 89 = .ok (.aload_n 0, 1) := by decide +kernel
theorem dX1_start_90 : decode cX1_start 90 = .ok (.getfield 31, 3) := by decide +kernel
theorem dX1_start_93 : decode cX1_start 93 = .ok (.iload_n 1, 1) := by decide +kernel
theorem dX1_start_94 : decode cX1_start 94 = .ok (.iconst 0, 1) := by decide +kernel
theorem dX1_start_95 : decode cX1_start 95 = .ok (.iastore, 1) := by decide +kernel
theorem dX1_start_96 : decode cX1_start 96 = .ok (.aload_n 0, 1) := by decide +kernel
theorem dX1_start_97 : decode cX1_start 97 = .ok (.iload_n 1, 1) := by decide +kernel
theorem dX1_start_98 : decode cX1_start 98 = .ok (.invokevirtual 65, 3) := by decide +kernel
theorem dX1_start_101 : decode cX1_start 101 = .ok (.aload_n 0, 1) := by decide +kernel
theorem dX1_start_102 : decode cX1_start 102 = .ok (.getfield 19, 3) := by decide +kernel
theorem dX1_start_105 : decode cX1_start 105 = .ok (.iload_n 1, 1) := by decide +kernel
theorem dX1_start_106 : decode cX1_start 106 = .ok (.iaload, 1) := by decide +kernel
theorem dX1_start_107 : decode cX1_start 107 = .ok (.ireturn, 1) := by decide +kernel
abbrev cX1_isRun : ByteArray := prog_3_method_3_code
def yX1_isRun : MethodName := ⟨RX1, "isRun", "(I)Z"⟩
theorem dX1_isRun_0 : decode cX1_isRun 0 = .ok (.iload_n 1, 1) := by decide +kernel
theorem dX1_isRun_1 : decode cX1_isRun 1 = .ok (.ifCond .lt 12, 3) := by decide +kernel
theorem dX1_isRun_4 : decode cX1_isRun 4 = .ok (.iload_n 1, 1) := by decide +kernel
theorem dX1_isRun_5 : decode cX1_isRun 5 = .ok (.iconst 3, 1) := by decide +kernel
theorem dX1_isRun_6 : decode cX1_isRun 6 = .ok (.if_icmp .ge 7, 3) := by decide +kernel
theorem dX1_isRun_9 : decode cX1_isRun 9 = .ok (.iconst 1, 1) := by decide +kernel
theorem dX1_isRun_10 : decode cX1_isRun 10 = .ok (.goto 4, 3) := by decide +kernel
theorem dX1_isRun_13 : decode cX1_isRun 13 = .ok (.iconst 0, 1) := by decide +kernel
theorem dX1_isRun_14 : decode cX1_isRun 14 = .ok (.ireturn, 1) := by decide +kernel
abbrev cX1_goOn : ByteArray := prog_3_method_9_code
def yX1_goOn : MethodName := ⟨RX1, "goOn", "(I)V"⟩
theorem dX1_goOn_0 : decode cX1_goOn 0 = .ok (.iconst 1, 1) := by decide +kernel
theorem dX1_goOn_1 : decode cX1_goOn 1 = .ok (.istore_n 2, 1) := by decide +kernel
theorem dX1_goOn_2 : decode cX1_goOn 2 = .ok (.iconst 0, 1) := by decide +kernel
theorem dX1_goOn_3 : decode cX1_goOn 3 = .ok (.istore_n 3, 1) := by decide +kernel
theorem dX1_goOn_4 : decode cX1_goOn 4 = .ok (.iload_n 3, 1) := by decide +kernel
theorem dX1_goOn_5 : decode cX1_goOn 5 = .ok (.sipush 3000, 3) := by decide +kernel
theorem dX1_goOn_8 : decode cX1_goOn 8 = .ok (.if_icmp .ge 132, 3) := by decide +kernel
theorem dX1_goOn_11 : decode cX1_goOn 11 = .ok (.iload_n 2, 1) := by decide +kernel
theorem dX1_goOn_12 : decode cX1_goOn 12 = .ok (.ifCond .eq 128, 3) := by decide +kernel
theorem dX1_goOn_15 : decode cX1_goOn 15 = .ok (.aload_n 0, 1) := by decide +kernel
theorem dX1_goOn_16 : decode cX1_goOn 16 = .ok (.getfield 22, 3) := by decide +kernel
theorem dX1_goOn_19 : decode cX1_goOn 19 = .ok (.iload_n 1, 1) := by decide +kernel
theorem dX1_goOn_20 : decode cX1_goOn 20 = .ok (.iaload, 1) := by decide +kernel
theorem dX1_goOn_21 : decode cX1_goOn 21 = .ok (.ifCond .lt 20, 3) := by decide +kernel
theorem dX1_goOn_24 : decode cX1_goOn 24 = .ok (.aload_n 0, 1) := by decide +kernel
theorem dX1_goOn_25 : decode cX1_goOn 25 = .ok (.getfield 22, 3) := by decide +kernel
theorem dX1_goOn_28 : decode cX1_goOn 28 = .ok (.iload_n 1, 1) := by decide +kernel
theorem dX1_goOn_29 : decode cX1_goOn 29 = .ok (.iaload, 1) := by decide +kernel
theorem dX1_goOn_30 : decode cX1_goOn 30 = .ok (.aload_n 0, 1) := by decide +kernel
theorem dX1_goOn_31 : decode cX1_goOn 31 = .ok (.getfield 53, 3) := by decide +kernel
theorem dX1_goOn_34 : decode cX1_goOn 34 = .ok (.if_icmp .ge 7, 3) := by decide +kernel
theorem dX1_goOn_37 : decode cX1_goOn 37 = .ok (.iconst 1, 1) := by decide +kernel
theorem dX1_goOn_38 : decode cX1_goOn 38 = .ok (.goto 4, 3) := by decide +kernel
theorem dX1_goOn_41 : decode cX1_goOn 41 = .ok (.iconst 0, 1) := by decide +kernel
theorem dX1_goOn_42 : decode cX1_goOn 42 = .ok (.istore 4, 2) := by decide +kernel
theorem dX1_goOn_44 : decode cX1_goOn 44 = .ok (.iload 4, 2) := by decide +kernel
theorem dX1_goOn_46 : decode cX1_goOn 46 = .ok (.ifCond .eq 38, 3) := by decide +kernel
theorem dX1_goOn_49 : decode cX1_goOn 49 = .ok (.aload_n 0, 1) := by decide +kernel
theorem dX1_goOn_50 : decode cX1_goOn 50 = .ok (.getfield 25, 3) := by decide +kernel
theorem dX1_goOn_53 : decode cX1_goOn 53 = .ok (.iload_n 1, 1) := by decide +kernel
theorem dX1_goOn_54 : decode cX1_goOn 54 = .ok (.iaload, 1) := by decide +kernel
theorem dX1_goOn_55 : decode cX1_goOn 55 = .ok (.bipush 60, 2) := by decide +kernel
theorem dX1_goOn_57 : decode cX1_goOn 57 = .ok (.if_icmp .eq 27, 3) := by decide +kernel
theorem dX1_goOn_60 : decode cX1_goOn 60 = .ok (.aload_n 0, 1) := by decide +kernel
theorem dX1_goOn_61 : decode cX1_goOn 61 = .ok (.aload_n 0, 1) := by decide +kernel
theorem dX1_goOn_62 : decode cX1_goOn 62 = .ok (.getfield 22, 3) := by decide +kernel
theorem dX1_goOn_65 : decode cX1_goOn 65 = .ok (.iload_n 1, 1) := by decide +kernel
theorem dX1_goOn_66 : decode cX1_goOn 66 = .ok (.iaload, 1) := by decide +kernel
theorem dX1_goOn_67 : decode cX1_goOn 67 = .ok (.invokevirtual 69, 3) := by decide +kernel
theorem dX1_goOn_70 : decode cX1_goOn 70 = .ok (.ifCond .eq 25, 3) := by decide +kernel
theorem dX1_goOn_73 : decode cX1_goOn 73 = .ok (.aload_n 0, 1) := by decide +kernel
theorem dX1_goOn_74 : decode cX1_goOn 74 = .ok (.getfield 37, 3) := by decide +kernel
theorem dX1_goOn_77 : decode cX1_goOn 77 = .ok (.iload_n 1, 1) := by decide +kernel
theorem dX1_goOn_78 : decode cX1_goOn 78 = .ok (.iaload, 1) := by decide +kernel
theorem dX1_goOn_79 : decode cX1_goOn 79 = .ok (.bipush 40, 2) := by decide +kernel
theorem dX1_goOn_81 : decode cX1_goOn 81 = .ok (.if_icmp .ne 14, 3) := by decide +kernel
theorem dX1_goOn_84 : decode cX1_goOn 84 = .ok (.aload_n 0, 1) := by decide +kernel
theorem dX1_goOn_85 : decode cX1_goOn 85 = .ok (.iload_n 1, 1) := by decide +kernel
theorem dX1_goOn_86 : decode cX1_goOn 86 = .ok (.iconst 0, 1) := by decide +kernel
theorem dX1_goOn_87 : decode cX1_goOn 87 = .ok (.invokevirtual 72, 3) := by decide +kernel
theorem dX1_goOn_90 : decode cX1_goOn 90 = .ok (.iconst 0, 1) := by decide +kernel
theorem dX1_goOn_91 : decode cX1_goOn 91 = .ok (.istore_n 2, 1) := by decide +kernel
theorem dX1_goOn_92 : decode cX1_goOn 92 = .ok (.goto 42, 3) := by decide +kernel
theorem dX1_goOn_95 : decode cX1_goOn 95 = .ok (.aload_n 0, 1) := by decide +kernel
theorem dX1_goOn_96 : decode cX1_goOn 96 = .ok (.getfield 7, 3) := by decide +kernel
theorem dX1_goOn_99 : decode cX1_goOn 99 = .ok (.aload_n 0, 1) := by decide +kernel
theorem dX1_goOn_100 : decode cX1_goOn 100 = .ok (.getfield 22, 3) := by decide +kernel
theorem dX1_goOn_103 : decode cX1_goOn 103 = .ok (.iload_n 1, 1) := by decide +kernel
theorem dX1_goOn_104 : decode cX1_goOn 104 = .ok (.iaload, 1) := by decide +kernel
theorem dX1_goOn_105 : decode cX1_goOn 105 = .ok (.iaload, 1) := by decide +kernel
theorem dX1_goOn_106 : decode cX1_goOn 106 = .ok (.iconst 5, 1) := by decide +kernel
theorem dX1_goOn_107 : decode cX1_goOn 107 = .ok (.if_icmp .lt 12, 3) := by decide +kernel
theorem dX1_goOn_110 : decode cX1_goOn 110 = .ok (.aload_n 0, 1) := by decide +kernel
theorem dX1_goOn_111 : decode cX1_goOn 111 = .ok (.iload_n 1, 1) := by decide +kernel
theorem dX1_goOn_112 : decode cX1_goOn 112 = .ok (.invokevirtual 76, 3) := by decide +kernel
theorem dX1_goOn_115 : decode cX1_goOn 115 = .ok (.istore_n 2, 1) := by decide +kernel
theorem dX1_goOn_116 : decode cX1_goOn 116 = .ok (.goto 18, 3) := by decide +kernel
theorem dX1_goOn_119 : decode cX1_goOn 119 = .ok (.aload_n 0, 1) := by decide +kernel
theorem dX1_goOn_120 : decode cX1_goOn 120 = .ok (.getfield 25, 3) := by decide +kernel
theorem dX1_goOn_123 : decode cX1_goOn 123 = .ok (.iload_n 1, 1) := by decide +kernel
theorem dX1_goOn_124 : decode cX1_goOn 124 = .ok (.dup2, 1) := by decide +kernel
theorem dX1_goOn_125 : decode cX1_goOn 125 = .ok (.iaload, 1) := by decide +kernel
theorem dX1_goOn_126 : decode cX1_goOn 126 = .ok (.iconst 1, 1) := by decide +kernel
theorem dX1_goOn_127 : decode cX1_goOn 127 = .ok (.iadd, 1) := by decide +kernel
theorem dX1_goOn_128 : decode cX1_goOn 128 = .ok (.iastore, 1) := by decide +kernel
theorem dX1_goOn_129 : decode cX1_goOn 129 = .ok (.aload_n 0, 1) := by decide +kernel
theorem dX1_goOn_130 : decode cX1_goOn 130 = .ok (.iload_n 1, 1) := by decide +kernel
theorem dX1_goOn_131 : decode cX1_goOn 131 = .ok (.invokevirtual 79, 3) := by decide +kernel
theorem dX1_goOn_134 : decode cX1_goOn 134 = .ok (.iinc 3 1, 3) := by decide +kernel
theorem dX1_goOn_137 : decode cX1_goOn 137 = .ok (.goto (-133), 3) := by decide +kernel
theorem dX1_goOn_140 : decode cX1_goOn 140 = .ok (.return_, 1) := by decide +kernel
abbrev cX1_isWait : ByteArray := prog_3_method_8_code
def yX1_isWait : MethodName := ⟨RX1, "isWait", "(I)Z"⟩
theorem dX1_isWait_0 : decode cX1_isWait 0 = .ok (.aload_n 0, 1) := by decide +kernel
theorem dX1_isWait_1 : decode cX1_isWait 1 = .ok (.getfield 7, 3) := by decide +kernel
theorem dX1_isWait_4 : decode cX1_isWait 4 = .ok (.iload_n 1, 1) := by decide +kernel
theorem dX1_isWait_5 : decode cX1_isWait 5 = .ok (.iaload, 1) := by decide +kernel
theorem dX1_isWait_6 : decode cX1_isWait 6 = .ok (.iconst 5, 1) := by decide +kernel
theorem dX1_isWait_7 : decode cX1_isWait 7 = .ok (.if_icmp .lt 18, 3) := by decide +kernel
theorem dX1_isWait_10 : decode cX1_isWait 10 = .ok (.aload_n 0, 1) := by decide +kernel
theorem dX1_isWait_11 : decode cX1_isWait 11 = .ok (.getfield 7, 3) := by decide +kernel
theorem dX1_isWait_14 : decode cX1_isWait 14 = .ok (.iload_n 1, 1) := by decide +kernel
theorem dX1_isWait_15 : decode cX1_isWait 15 = .ok (.iaload, 1) := by decide +kernel
theorem dX1_isWait_16 : decode cX1_isWait 16 = .ok (.bipush 7, 2) := by decide +kernel
theorem dX1_isWait_18 : decode cX1_isWait 18 = .ok (.if_icmp .gt 7, 3) := by decide +kernel
theorem dX1_isWait_21 : decode cX1_isWait 21 = .ok (.iconst 1, 1) := by decide +kernel
theorem dX1_isWait_22 : decode cX1_isWait 22 = .ok (.goto 4, 3) := by decide +kernel
theorem dX1_isWait_25 : decode cX1_isWait 25 = .ok (.iconst 0, 1) := by decide +kernel
theorem dX1_isWait_26 : decode cX1_isWait 26 = .ok (.ireturn, 1) := by decide +kernel
abbrev cX1_end : ByteArray := prog_3_method_5_code
def yX1_end : MethodName := ⟨RX1, "end", "(II)V"⟩
theorem dX1_end_0 : decode cX1_end 0 = .ok (.aload_n 0, 1) := by decide +kernel
theorem dX1_end_1 : decode cX1_end 1 = .ok (.getfield 19, 3) := by decide +kernel
theorem dX1_end_4 : decode cX1_end 4 = .ok (.iload_n 1, 1) := by decide +kernel
theorem dX1_end_5 : decode cX1_end 5 = .ok (.iconst 4, 1) := by decide +kernel
theorem dX1_end_6 : decode cX1_end 6 = .ok (.iastore, 1) := by decide +kernel
theorem dX1_end_7 : decode cX1_end 7 = .ok (.aload_n 0, 1) := by decide +kernel
theorem dX1_end_8 : decode cX1_end 8 = .ok (.getfield 31, 3) := by decide +kernel
theorem dX1_end_11 : decode cX1_end 11 = .ok (.iload_n 1, 1) := by decide +kernel
theorem dX1_end_12 : decode cX1_end 12 = .ok (.iload_n 2, 1) := by decide +kernel
theorem dX1_end_13 : decode cX1_end 13 = .ok (.iastore, 1) := by decide +kernel
theorem dX1_end_14 : decode cX1_end 14 = .ok (.return_, 1) := by decide +kernel
abbrev cX1_waits : ByteArray := prog_3_method_10_code
def yX1_waits : MethodName := ⟨RX1, "waits", "(I)Z"⟩
theorem dX1_waits_0 : decode cX1_waits 0 = .ok (.aload_n 0, 1) := by decide +kernel
theorem dX1_waits_1 : decode cX1_waits 1 = .ok (.getfield 22, 3) := by decide +kernel
theorem dX1_waits_4 : decode cX1_waits 4 = .ok (.iload_n 1, 1) := by decide +kernel
theorem dX1_waits_5 : decode cX1_waits 5 = .ok (.iaload, 1) := by decide +kernel
theorem dX1_waits_6 : decode cX1_waits 6 = .ok (.istore_n 2, 1) := by decide +kernel
theorem dX1_waits_7 : decode cX1_waits 7 = .ok (.aload_n 0, 1) := by decide +kernel
theorem dX1_waits_8 : decode cX1_waits 8 = .ok (.getfield 7, 3) := by decide +kernel
theorem dX1_waits_11 : decode cX1_waits 11 = .ok (.iload_n 2, 1) := by decide +kernel
theorem dX1_waits_12 : decode cX1_waits 12 = .ok (.iaload, 1) := by decide +kernel
theorem dX1_waits_13 : decode cX1_waits 13 = .ok (.istore_n 3, 1) := by decide +kernel
theorem dX1_waits_14 : decode cX1_waits 14 = .ok (.iload_n 3, 1) := by decide +kernel
theorem dX1_waits_15 : decode cX1_waits 15 = .ok (.bipush 8, 2) := by decide +kernel
theorem dX1_waits_17 : decode cX1_waits 17 = .ok (.if_icmp .ne 23, 3) := by decide +kernel
theorem dX1_waits_20 : decode cX1_waits 20 = .ok (.aload_n 0, 1) := by decide +kernel
theorem dX1_waits_21 : decode cX1_waits 21 = .ok (.iload_n 1, 1) := by decide +kernel
theorem dX1_waits_22 : decode cX1_waits 22 = .ok (.aload_n 0, 1) := by decide +kernel
theorem dX1_waits_23 : decode cX1_waits 23 = .ok (.getfield 28, 3) := by decide +kernel
theorem dX1_waits_26 : decode cX1_waits 26 = .ok (.iload_n 1, 1) := by decide +kernel
theorem dX1_waits_27 : decode cX1_waits 27 = .ok (.iconst 4, 1) := by decide +kernel
theorem dX1_waits_28 : decode cX1_waits 28 = .ok (.imul, 1) := by decide +kernel
theorem dX1_waits_29 : decode cX1_waits 29 = .ok (.aload_n 0, 1) := by decide +kernel
theorem dX1_waits_30 : decode cX1_waits 30 = .ok (.getfield 13, 3) := by decide +kernel
theorem dX1_waits_33 : decode cX1_waits 33 = .ok (.iload_n 2, 1) := by decide +kernel
theorem dX1_waits_34 : decode cX1_waits 34 = .ok (.iaload, 1) := by decide +kernel
theorem dX1_waits_35 : decode cX1_waits 35 = .ok (.iadd, 1) := by decide +kernel
theorem dX1_waits_36 : decode cX1_waits 36 = .ok (.iaload, 1) := by decide +kernel
theorem dX1_waits_37 : decode cX1_waits 37 = .ok (.invokevirtual 72, 3) := by decide +kernel
theorem dX1_waits_40 : decode cX1_waits 40 = .ok (.iload_n 3, 1) := by decide +kernel
theorem dX1_waits_41 : decode cX1_waits 41 = .ok (.iconst 5, 1) := by decide +kernel
theorem dX1_waits_42 : decode cX1_waits 42 = .ok (.if_icmp .ne 10, 3) := by decide +kernel
theorem dX1_waits_45 : decode cX1_waits 45 = .ok (.aload_n 0, 1) := by decide +kernel
theorem dX1_waits_46 : decode cX1_waits 46 = .ok (.getfield 19, 3) := by decide +kernel
theorem dX1_waits_49 : decode cX1_waits 49 = .ok (.iload_n 1, 1) := by decide +kernel
theorem dX1_waits_50 : decode cX1_waits 50 = .ok (.iconst 1, 1) := by decide +kernel
theorem dX1_waits_51 : decode cX1_waits 51 = .ok (.iastore, 1) := by decide +kernel
theorem dX1_waits_52 : decode cX1_waits 52 = .ok (.iload_n 3, 1) := by decide +kernel
theorem dX1_waits_53 : decode cX1_waits 53 = .ok (.bipush 6, 2) := by decide +kernel
theorem dX1_waits_55 : decode cX1_waits 55 = .ok (.if_icmp .ne 57, 3) := by decide +kernel
theorem dX1_waits_58 : decode cX1_waits 58 = .ok (.aload_n 0, 1) := by decide +kernel
theorem dX1_waits_59 : decode cX1_waits 59 = .ok (.getfield 19, 3) := by decide +kernel
theorem dX1_waits_62 : decode cX1_waits 62 = .ok (.iload_n 1, 1) := by decide +kernel
theorem dX1_waits_63 : decode cX1_waits 63 = .ok (.iconst 2, 1) := by decide +kernel
theorem dX1_waits_64 : decode cX1_waits 64 = .ok (.iastore, 1) := by decide +kernel
theorem dX1_waits_65 : decode cX1_waits 65 = .ok (.aload_n 0, 1) := by decide +kernel
theorem dX1_waits_66 : decode cX1_waits 66 = .ok (.getfield 34, 3) := by decide +kernel
theorem dX1_waits_69 : decode cX1_waits 69 = .ok (.iload_n 1, 1) := by decide +kernel
theorem dX1_waits_70 : decode cX1_waits 70 = .ok (.aload_n 0, 1) := by decide +kernel
theorem dX1_waits_71 : decode cX1_waits 71 = .ok (.getfield 82, 3) := by decide +kernel
theorem dX1_waits_74 : decode cX1_waits 74 = .ok (.aload_n 0, 1) := by decide +kernel
theorem dX1_waits_75 : decode cX1_waits 75 = .ok (.getfield 16, 3) := by decide +kernel
theorem dX1_waits_78 : decode cX1_waits 78 = .ok (.iload_n 2, 1) := by decide +kernel
theorem dX1_waits_79 : decode cX1_waits 79 = .ok (.iaload, 1) := by decide +kernel
theorem dX1_waits_80 : decode cX1_waits 80 = .ok (.iconst 1, 1) := by decide +kernel
theorem dX1_waits_81 : decode cX1_waits 81 = .ok (.if_icmp .ge 7, 3) := by decide +kernel
theorem dX1_waits_84 : decode cX1_waits 84 = .ok (.iconst 1, 1) := by decide +kernel
theorem dX1_waits_85 : decode cX1_waits 85 = .ok (.goto 25, 3) := by decide +kernel
theorem dX1_waits_88 : decode cX1_waits 88 = .ok (.aload_n 0, 1) := by decide +kernel
theorem dX1_waits_89 : decode cX1_waits 89 = .ok (.getfield 16, 3) := by decide +kernel
theorem dX1_waits_92 : decode cX1_waits 92 = .ok (.iload_n 2, 1) := by decide +kernel
theorem dX1_waits_93 : decode cX1_waits 93 = .ok (.iaload, 1) := by decide +kernel
theorem dX1_waits_94 : decode cX1_waits 94 = .ok (.bipush 100, 2) := by decide +kernel
theorem dX1_waits_96 : decode cX1_waits 96 = .ok (.if_icmp .le 8, 3) := by decide +kernel
theorem dX1_waits_99 : decode cX1_waits 99 = .ok (.bipush 100, 2) := by decide +kernel
theorem dX1_waits_101 : decode cX1_waits 101 = .ok (.goto 9, 3) := by decide +kernel
theorem dX1_waits_104 : decode cX1_waits 104 = .ok (.aload_n 0, 1) := by decide +kernel
theorem dX1_waits_105 : decode cX1_waits 105 = .ok (.getfield 16, 3) := by decide +kernel
theorem dX1_waits_108 : decode cX1_waits 108 = .ok (.iload_n 2, 1) := by decide +kernel
theorem dX1_waits_109 : decode cX1_waits 109 = .ok (.iaload, 1) := by decide +kernel
theorem dX1_waits_110 : decode cX1_waits 110 = .ok (.iadd, 1) := by decide +kernel
theorem dX1_waits_111 : decode cX1_waits 111 = .ok (.iastore, 1) := by decide +kernel
theorem dX1_waits_112 : decode cX1_waits 112 = .ok (.iload_n 3, 1) := by decide +kernel
theorem dX1_waits_113 : decode cX1_waits 113 = .ok (.bipush 7, 2) := by decide +kernel
theorem dX1_waits_115 : decode cX1_waits 115 = .ok (.if_icmp .eq 5, 3) := by decide +kernel
theorem dX1_waits_118 : decode cX1_waits 118 = .ok (.iconst 0, 1) := by decide +kernel
theorem dX1_waits_119 : decode cX1_waits 119 = .ok (.ireturn, 1) := by decide +kernel
theorem dX1_waits_120 : decode cX1_waits 120 = .ok (.aload_n 0, 1) := by decide +kernel
theorem dX1_waits_121 : decode cX1_waits 121 = .ok (.iload_n 1, 1) := by decide +kernel
theorem dX1_waits_122 : decode cX1_waits 122 = .ok (.aload_n 0, 1) := by decide +kernel
theorem dX1_waits_123 : decode cX1_waits 123 = .ok (.getfield 16, 3) := by decide +kernel
theorem dX1_waits_126 : decode cX1_waits 126 = .ok (.iload_n 2, 1) := by decide +kernel
theorem dX1_waits_127 : decode cX1_waits 127 = .ok (.iaload, 1) := by decide +kernel
theorem dX1_waits_128 : decode cX1_waits 128 = .ok (.iconst 1, 1) := by decide +kernel
theorem dX1_waits_129 : decode cX1_waits 129 = .ok (.iand, 1) := by decide +kernel
theorem dX1_waits_130 : decode cX1_waits 130 = .ok (.invokevirtual 85, 3) := by decide +kernel
theorem dX1_waits_133 : decode cX1_waits 133 = .ok (.istore 4, 2) := by decide +kernel
theorem dX1_waits_135 : decode cX1_waits 135 = .ok (.aload_n 0, 1) := by decide +kernel
theorem dX1_waits_136 : decode cX1_waits 136 = .ok (.getfield 19, 3) := by decide +kernel
theorem dX1_waits_139 : decode cX1_waits 139 = .ok (.iload_n 1, 1) := by decide +kernel
theorem dX1_waits_140 : decode cX1_waits 140 = .ok (.iconst 3, 1) := by decide +kernel
theorem dX1_waits_141 : decode cX1_waits 141 = .ok (.iastore, 1) := by decide +kernel
theorem dX1_waits_142 : decode cX1_waits 142 = .ok (.iload 4, 2) := by decide +kernel
theorem dX1_waits_144 : decode cX1_waits 144 = .ok (.ifCond .ge 5, 3) := by decide +kernel
theorem dX1_waits_147 : decode cX1_waits 147 = .ok (.iconst 0, 1) := by decide +kernel
theorem dX1_waits_148 : decode cX1_waits 148 = .ok (.ireturn, 1) := by decide +kernel
theorem dX1_waits_149 : decode cX1_waits 149 = .ok (.aload_n 0, 1) := by decide +kernel
theorem dX1_waits_150 : decode cX1_waits 150 = .ok (.getfield 49, 3) := by decide +kernel
theorem dX1_waits_153 : decode cX1_waits 153 = .ok (.iload 4, 2) := by decide +kernel
theorem dX1_waits_155 : decode cX1_waits 155 = .ok (.iconst 1, 1) := by decide +kernel
theorem dX1_waits_156 : decode cX1_waits 156 = .ok (.bastore, 1) := by decide +kernel
theorem dX1_waits_157 : decode cX1_waits 157 = .ok (.aload_n 0, 1) := by decide +kernel
theorem dX1_waits_158 : decode cX1_waits 158 = .ok (.iload_n 1, 1) := by decide +kernel
theorem dX1_waits_159 : decode cX1_waits 159 = .ok (.iconst 1, 1) := by decide +kernel
theorem dX1_waits_160 : decode cX1_waits 160 = .ok (.aload_n 0, 1) := by decide +kernel
theorem dX1_waits_161 : decode cX1_waits 161 = .ok (.getfield 46, 3) := by decide +kernel
theorem dX1_waits_164 : decode cX1_waits 164 = .ok (.iload 4, 2) := by decide +kernel
theorem dX1_waits_166 : decode cX1_waits 166 = .ok (.iaload, 1) := by decide +kernel
theorem dX1_waits_167 : decode cX1_waits 167 = .ok (.invokevirtual 89, 3) := by decide +kernel
theorem dX1_waits_170 : decode cX1_waits 170 = .ok (.iconst 1, 1) := by decide +kernel
theorem dX1_waits_171 : decode cX1_waits 171 = .ok (.ireturn, 1) := by decide +kernel
abbrev cX1_firstSignal : ByteArray := prog_3_method_6_code
def yX1_firstSignal : MethodName := ⟨RX1, "firstSignal", "(II)I"⟩
theorem dX1_firstSignal_0 : decode cX1_firstSignal 0 = .ok (.iload_n 1, 1) := by decide +kernel
theorem dX1_firstSignal_1 : decode cX1_firstSignal 1 = .ok (.bipush 24, 2) := by decide +kernel
theorem dX1_firstSignal_3 : decode cX1_firstSignal 3 = .ok (.imul, 1) := by decide +kernel
theorem dX1_firstSignal_4 : decode cX1_firstSignal 4 = .ok (.istore_n 3, 1) := by decide +kernel
theorem dX1_firstSignal_5 : decode cX1_firstSignal 5 = .ok (.iload_n 3, 1) := by decide +kernel
theorem dX1_firstSignal_6 : decode cX1_firstSignal 6 = .ok (.iload_n 1, 1) := by decide +kernel
theorem dX1_firstSignal_7 : decode cX1_firstSignal 7 = .ok (.bipush 24, 2) := by decide +kernel
theorem dX1_firstSignal_9 : decode cX1_firstSignal 9 = .ok (.imul, 1) := by decide +kernel
theorem dX1_firstSignal_10 : decode cX1_firstSignal 10 = .ok (.aload_n 0, 1) := by decide +kernel
theorem dX1_firstSignal_11 : decode cX1_firstSignal 11 = .ok (.getfield 40, 3) := by decide +kernel
theorem dX1_firstSignal_14 : decode cX1_firstSignal 14 = .ok (.iload_n 1, 1) := by decide +kernel
theorem dX1_firstSignal_15 : decode cX1_firstSignal 15 = .ok (.iaload, 1) := by decide +kernel
theorem dX1_firstSignal_16 : decode cX1_firstSignal 16 = .ok (.iadd, 1) := by decide +kernel
theorem dX1_firstSignal_17 : decode cX1_firstSignal 17 = .ok (.if_icmp .ge 30, 3) := by decide +kernel
theorem dX1_firstSignal_20 : decode cX1_firstSignal 20 = .ok (.aload_n 0, 1) := by decide +kernel
theorem dX1_firstSignal_21 : decode cX1_firstSignal 21 = .ok (.getfield 43, 3) := by decide +kernel
theorem dX1_firstSignal_24 : decode cX1_firstSignal 24 = .ok (.iload_n 3, 1) := by decide +kernel
theorem dX1_firstSignal_25 : decode cX1_firstSignal 25 = .ok (.iaload, 1) := by decide +kernel
theorem dX1_firstSignal_26 : decode cX1_firstSignal 26 = .ok (.iload_n 2, 1) := by decide +kernel
theorem dX1_firstSignal_27 : decode cX1_firstSignal 27 = .ok (.if_icmp .ne 14, 3) := by decide +kernel
theorem dX1_firstSignal_30 : decode cX1_firstSignal 30 = .ok (.aload_n 0, 1) := by decide +kernel
theorem dX1_firstSignal_31 : decode cX1_firstSignal 31 = .ok (.getfield 49, 3) := by decide +kernel
theorem dX1_firstSignal_34 : decode cX1_firstSignal 34 = .ok (.iload_n 3, 1) := by decide +kernel
theorem dX1_firstSignal_35 : decode cX1_firstSignal 35 = .ok (.baload, 1) := by decide +kernel
theorem dX1_firstSignal_36 : decode cX1_firstSignal 36 = .ok (.ifCond .ne 5, 3) := by decide +kernel
theorem dX1_firstSignal_39 : decode cX1_firstSignal 39 = .ok (.iload_n 3, 1) := by decide +kernel
theorem dX1_firstSignal_40 : decode cX1_firstSignal 40 = .ok (.ireturn, 1) := by decide +kernel
theorem dX1_firstSignal_41 : decode cX1_firstSignal 41 = .ok (.iinc 3 1, 3) := by decide +kernel
theorem dX1_firstSignal_44 : decode cX1_firstSignal 44 = .ok (.goto (-39), 3) := by decide +kernel
theorem dX1_firstSignal_47 : decode cX1_firstSignal 47 = .ok (.iconst (-1), 1) := by decide +kernel
theorem dX1_firstSignal_48 : decode cX1_firstSignal 48 = .ok (.ireturn, 1) := by decide +kernel
abbrev cX1_pastWait : ByteArray := prog_3_method_7_code
def yX1_pastWait : MethodName := ⟨RX1, "pastWait", "(IZI)V"⟩
theorem dX1_pastWait_0 : decode cX1_pastWait 0 = .ok (.iload_n 2, 1) := by decide +kernel
theorem dX1_pastWait_1 : decode cX1_pastWait 1 = .ok (.ifCond .eq 24, 3) := by decide +kernel
theorem dX1_pastWait_4 : decode cX1_pastWait 4 = .ok (.aload_n 0, 1) := by decide +kernel
theorem dX1_pastWait_5 : decode cX1_pastWait 5 = .ok (.getfield 28, 3) := by decide +kernel
theorem dX1_pastWait_8 : decode cX1_pastWait 8 = .ok (.iload_n 1, 1) := by decide +kernel
theorem dX1_pastWait_9 : decode cX1_pastWait 9 = .ok (.iconst 4, 1) := by decide +kernel
theorem dX1_pastWait_10 : decode cX1_pastWait 10 = .ok (.imul, 1) := by decide +kernel
theorem dX1_pastWait_11 : decode cX1_pastWait 11 = .ok (.aload_n 0, 1) := by decide +kernel
theorem dX1_pastWait_12 : decode cX1_pastWait 12 = .ok (.getfield 13, 3) := by decide +kernel
theorem dX1_pastWait_15 : decode cX1_pastWait 15 = .ok (.aload_n 0, 1) := by decide +kernel
theorem dX1_pastWait_16 : decode cX1_pastWait 16 = .ok (.getfield 22, 3) := by decide +kernel
theorem dX1_pastWait_19 : decode cX1_pastWait 19 = .ok (.iload_n 1, 1) := by decide +kernel
theorem dX1_pastWait_20 : decode cX1_pastWait 20 = .ok (.iaload, 1) := by decide +kernel
theorem dX1_pastWait_21 : decode cX1_pastWait 21 = .ok (.iaload, 1) := by decide +kernel
theorem dX1_pastWait_22 : decode cX1_pastWait 22 = .ok (.iadd, 1) := by decide +kernel
theorem dX1_pastWait_23 : decode cX1_pastWait 23 = .ok (.iload_n 3, 1) := by decide +kernel
theorem dX1_pastWait_24 : decode cX1_pastWait 24 = .ok (.iastore, 1) := by decide +kernel
theorem dX1_pastWait_25 : decode cX1_pastWait 25 = .ok (.aload_n 0, 1) := by decide +kernel
theorem dX1_pastWait_26 : decode cX1_pastWait 26 = .ok (.getfield 22, 3) := by decide +kernel
theorem dX1_pastWait_29 : decode cX1_pastWait 29 = .ok (.iload_n 1, 1) := by decide +kernel
theorem dX1_pastWait_30 : decode cX1_pastWait 30 = .ok (.dup2, 1) := by decide +kernel
theorem dX1_pastWait_31 : decode cX1_pastWait 31 = .ok (.iaload, 1) := by decide +kernel
theorem dX1_pastWait_32 : decode cX1_pastWait 32 = .ok (.iconst 1, 1) := by decide +kernel
theorem dX1_pastWait_33 : decode cX1_pastWait 33 = .ok (.iadd, 1) := by decide +kernel
theorem dX1_pastWait_34 : decode cX1_pastWait 34 = .ok (.iastore, 1) := by decide +kernel
theorem dX1_pastWait_35 : decode cX1_pastWait 35 = .ok (.aload_n 0, 1) := by decide +kernel
theorem dX1_pastWait_36 : decode cX1_pastWait 36 = .ok (.getfield 25, 3) := by decide +kernel
theorem dX1_pastWait_39 : decode cX1_pastWait 39 = .ok (.iload_n 1, 1) := by decide +kernel
theorem dX1_pastWait_40 : decode cX1_pastWait 40 = .ok (.iconst 0, 1) := by decide +kernel
theorem dX1_pastWait_41 : decode cX1_pastWait 41 = .ok (.iastore, 1) := by decide +kernel
theorem dX1_pastWait_42 : decode cX1_pastWait 42 = .ok (.aload_n 0, 1) := by decide +kernel
theorem dX1_pastWait_43 : decode cX1_pastWait 43 = .ok (.getfield 37, 3) := by decide +kernel
theorem dX1_pastWait_46 : decode cX1_pastWait 46 = .ok (.iload_n 1, 1) := by decide +kernel
theorem dX1_pastWait_47 : decode cX1_pastWait 47 = .ok (.dup2, 1) := by decide +kernel
theorem dX1_pastWait_48 : decode cX1_pastWait 48 = .ok (.iaload, 1) := by decide +kernel
theorem dX1_pastWait_49 : decode cX1_pastWait 49 = .ok (.iconst 1, 1) := by decide +kernel
theorem dX1_pastWait_50 : decode cX1_pastWait 50 = .ok (.iadd, 1) := by decide +kernel
theorem dX1_pastWait_51 : decode cX1_pastWait 51 = .ok (.iastore, 1) := by decide +kernel
theorem dX1_pastWait_52 : decode cX1_pastWait 52 = .ok (.return_, 1) := by decide +kernel
abbrev cX1_plain : ByteArray := prog_3_method_11_code
def yX1_plain : MethodName := ⟨RX1, "plain", "(I)V"⟩
theorem dX1_plain_0 : decode cX1_plain 0 = .ok (.aload_n 0, 1) := by decide +kernel
theorem dX1_plain_1 : decode cX1_plain 1 = .ok (.getfield 22, 3) := by decide +kernel
theorem dX1_plain_4 : decode cX1_plain 4 = .ok (.iload_n 1, 1) := by decide +kernel
theorem dX1_plain_5 : decode cX1_plain 5 = .ok (.iaload, 1) := by decide +kernel
theorem dX1_plain_6 : decode cX1_plain 6 = .ok (.istore_n 2, 1) := by decide +kernel
theorem dX1_plain_7 : decode cX1_plain 7 = .ok (.iload_n 1, 1) := by decide +kernel
theorem dX1_plain_8 : decode cX1_plain 8 = .ok (.iconst 4, 1) := by decide +kernel
theorem dX1_plain_9 : decode cX1_plain 9 = .ok (.imul, 1) := by decide +kernel
theorem dX1_plain_10 : decode cX1_plain 10 = .ok (.aload_n 0, 1) := by decide +kernel
theorem dX1_plain_11 : decode cX1_plain 11 = .ok (.getfield 13, 3) := by decide +kernel
theorem dX1_plain_14 : decode cX1_plain 14 = .ok (.iload_n 2, 1) := by decide +kernel
theorem dX1_plain_15 : decode cX1_plain 15 = .ok (.iaload, 1) := by decide +kernel
theorem dX1_plain_16 : decode cX1_plain 16 = .ok (.iadd, 1) := by decide +kernel
theorem dX1_plain_17 : decode cX1_plain 17 = .ok (.istore_n 3, 1) := by decide +kernel
theorem dX1_plain_18 : decode cX1_plain 18 = .ok (.aload_n 0, 1) := by decide +kernel
theorem dX1_plain_19 : decode cX1_plain 19 = .ok (.getfield 16, 3) := by decide +kernel
theorem dX1_plain_22 : decode cX1_plain 22 = .ok (.iload_n 2, 1) := by decide +kernel
theorem dX1_plain_23 : decode cX1_plain 23 = .ok (.iaload, 1) := by decide +kernel
theorem dX1_plain_24 : decode cX1_plain 24 = .ok (.istore 4, 2) := by decide +kernel
theorem dX1_plain_26 : decode cX1_plain 26 = .ok (.aload_n 0, 1) := by decide +kernel
theorem dX1_plain_27 : decode cX1_plain 27 = .ok (.getfield 28, 3) := by decide +kernel
theorem dX1_plain_30 : decode cX1_plain 30 = .ok (.iload_n 1, 1) := by decide +kernel
theorem dX1_plain_31 : decode cX1_plain 31 = .ok (.iconst 4, 1) := by decide +kernel
theorem dX1_plain_32 : decode cX1_plain 32 = .ok (.imul, 1) := by decide +kernel
theorem dX1_plain_33 : decode cX1_plain 33 = .ok (.iload 4, 2) := by decide +kernel
theorem dX1_plain_35 : decode cX1_plain 35 = .ok (.iconst 3, 1) := by decide +kernel
theorem dX1_plain_36 : decode cX1_plain 36 = .ok (.iand, 1) := by decide +kernel
theorem dX1_plain_37 : decode cX1_plain 37 = .ok (.iadd, 1) := by decide +kernel
theorem dX1_plain_38 : decode cX1_plain 38 = .ok (.iaload, 1) := by decide +kernel
theorem dX1_plain_39 : decode cX1_plain 39 = .ok (.istore 5, 2) := by decide +kernel
theorem dX1_plain_41 : decode cX1_plain 41 = .ok (.aload_n 0, 1) := by decide +kernel
theorem dX1_plain_42 : decode cX1_plain 42 = .ok (.getfield 22, 3) := by decide +kernel
theorem dX1_plain_45 : decode cX1_plain 45 = .ok (.iload_n 1, 1) := by decide +kernel
theorem dX1_plain_46 : decode cX1_plain 46 = .ok (.iload_n 2, 1) := by decide +kernel
theorem dX1_plain_47 : decode cX1_plain 47 = .ok (.iconst 1, 1) := by decide +kernel
theorem dX1_plain_48 : decode cX1_plain 48 = .ok (.iadd, 1) := by decide +kernel
theorem dX1_plain_49 : decode cX1_plain 49 = .ok (.iastore, 1) := by decide +kernel
theorem dX1_plain_50 : decode cX1_plain 50 = .ok (.aload_n 0, 1) := by decide +kernel
theorem dX1_plain_51 : decode cX1_plain 51 = .ok (.getfield 7, 3) := by decide +kernel
theorem dX1_plain_54 : decode cX1_plain 54 = .ok (.iload_n 2, 1) := by decide +kernel
theorem dX1_plain_55 : decode cX1_plain 55 = .ok (.iaload, 1) := by decide +kernel
theorem dX1_plain_56 : decode cX1_plain 56 = .ok (.ifCond .ne 11, 3) := by decide +kernel
theorem dX1_plain_59 : decode cX1_plain 59 = .ok (.aload_n 0, 1) := by decide +kernel
theorem dX1_plain_60 : decode cX1_plain 60 = .ok (.getfield 28, 3) := by decide +kernel
theorem dX1_plain_63 : decode cX1_plain 63 = .ok (.iload_n 3, 1) := by decide +kernel
theorem dX1_plain_64 : decode cX1_plain 64 = .ok (.iload 4, 2) := by decide +kernel
theorem dX1_plain_66 : decode cX1_plain 66 = .ok (.iastore, 1) := by decide +kernel
theorem dX1_plain_67 : decode cX1_plain 67 = .ok (.aload_n 0, 1) := by decide +kernel
theorem dX1_plain_68 : decode cX1_plain 68 = .ok (.getfield 7, 3) := by decide +kernel
theorem dX1_plain_71 : decode cX1_plain 71 = .ok (.iload_n 2, 1) := by decide +kernel
theorem dX1_plain_72 : decode cX1_plain 72 = .ok (.iaload, 1) := by decide +kernel
theorem dX1_plain_73 : decode cX1_plain 73 = .ok (.iconst 1, 1) := by decide +kernel
theorem dX1_plain_74 : decode cX1_plain 74 = .ok (.if_icmp .ne 14, 3) := by decide +kernel
theorem dX1_plain_77 : decode cX1_plain 77 = .ok (.aload_n 0, 1) := by decide +kernel
theorem dX1_plain_78 : decode cX1_plain 78 = .ok (.getfield 28, 3) := by decide +kernel
theorem dX1_plain_81 : decode cX1_plain 81 = .ok (.iload_n 3, 1) := by decide +kernel
theorem dX1_plain_82 : decode cX1_plain 82 = .ok (.dup2, 1) := by decide +kernel
theorem dX1_plain_83 : decode cX1_plain 83 = .ok (.iaload, 1) := by decide +kernel
theorem dX1_plain_84 : decode cX1_plain 84 = .ok (.iload 5, 2) := by decide +kernel
theorem dX1_plain_86 : decode cX1_plain 86 = .ok (.iadd, 1) := by decide +kernel
theorem dX1_plain_87 : decode cX1_plain 87 = .ok (.iastore, 1) := by decide +kernel
theorem dX1_plain_88 : decode cX1_plain 88 = .ok (.aload_n 0, 1) := by decide +kernel
theorem dX1_plain_89 : decode cX1_plain 89 = .ok (.getfield 7, 3) := by decide +kernel
theorem dX1_plain_92 : decode cX1_plain 92 = .ok (.iload_n 2, 1) := by decide +kernel
theorem dX1_plain_93 : decode cX1_plain 93 = .ok (.iaload, 1) := by decide +kernel
theorem dX1_plain_94 : decode cX1_plain 94 = .ok (.iconst 2, 1) := by decide +kernel
theorem dX1_plain_95 : decode cX1_plain 95 = .ok (.if_icmp .ne 14, 3) := by decide +kernel
theorem dX1_plain_98 : decode cX1_plain 98 = .ok (.aload_n 0, 1) := by decide +kernel
theorem dX1_plain_99 : decode cX1_plain 99 = .ok (.getfield 28, 3) := by decide +kernel
theorem dX1_plain_102 : decode cX1_plain 102 = .ok (.iload_n 3, 1) := by decide +kernel
theorem dX1_plain_103 : decode cX1_plain 103 = .ok (.dup2, 1) := by decide +kernel
theorem dX1_plain_104 : decode cX1_plain 104 = .ok (.iaload, 1) := by decide +kernel
theorem dX1_plain_105 : decode cX1_plain 105 = .ok (.iload 5, 2) := by decide +kernel
theorem dX1_plain_107 : decode cX1_plain 107 = .ok (.isub, 1) := by decide +kernel
theorem dX1_plain_108 : decode cX1_plain 108 = .ok (.iastore, 1) := by decide +kernel
theorem dX1_plain_109 : decode cX1_plain 109 = .ok (.aload_n 0, 1) := by decide +kernel
theorem dX1_plain_110 : decode cX1_plain 110 = .ok (.getfield 7, 3) := by decide +kernel
theorem dX1_plain_113 : decode cX1_plain 113 = .ok (.iload_n 2, 1) := by decide +kernel
theorem dX1_plain_114 : decode cX1_plain 114 = .ok (.iaload, 1) := by decide +kernel
theorem dX1_plain_115 : decode cX1_plain 115 = .ok (.iconst 3, 1) := by decide +kernel
theorem dX1_plain_116 : decode cX1_plain 116 = .ok (.if_icmp .eq 22, 3) := by decide +kernel
theorem dX1_plain_119 : decode cX1_plain 119 = .ok (.aload_n 0, 1) := by decide +kernel
theorem dX1_plain_120 : decode cX1_plain 120 = .ok (.getfield 7, 3) := by decide +kernel
theorem dX1_plain_123 : decode cX1_plain 123 = .ok (.iload_n 2, 1) := by decide +kernel
theorem dX1_plain_124 : decode cX1_plain 124 = .ok (.iaload, 1) := by decide +kernel
theorem dX1_plain_125 : decode cX1_plain 125 = .ok (.iconst 4, 1) := by decide +kernel
theorem dX1_plain_126 : decode cX1_plain 126 = .ok (.if_icmp .ne 20, 3) := by decide +kernel
theorem dX1_plain_129 : decode cX1_plain 129 = .ok (.aload_n 0, 1) := by decide +kernel
theorem dX1_plain_130 : decode cX1_plain 130 = .ok (.getfield 28, 3) := by decide +kernel
theorem dX1_plain_133 : decode cX1_plain 133 = .ok (.iload_n 3, 1) := by decide +kernel
theorem dX1_plain_134 : decode cX1_plain 134 = .ok (.iaload, 1) := by decide +kernel
theorem dX1_plain_135 : decode cX1_plain 135 = .ok (.ifCond .le 11, 3) := by decide +kernel
theorem dX1_plain_138 : decode cX1_plain 138 = .ok (.aload_n 0, 1) := by decide +kernel
theorem dX1_plain_139 : decode cX1_plain 139 = .ok (.getfield 22, 3) := by decide +kernel
theorem dX1_plain_142 : decode cX1_plain 142 = .ok (.iload_n 1, 1) := by decide +kernel
theorem dX1_plain_143 : decode cX1_plain 143 = .ok (.iload 4, 2) := by decide +kernel
theorem dX1_plain_145 : decode cX1_plain 145 = .ok (.iastore, 1) := by decide +kernel
theorem dX1_plain_146 : decode cX1_plain 146 = .ok (.return_, 1) := by decide +kernel
abbrev cX1_answer : ByteArray := prog_3_method_12_code
def yX1_answer : MethodName := ⟨RX1, "answer", "(II)I"⟩
theorem dX1_answer_0 : decode cX1_answer 0 = .ok (.aload_n 0, 1) := by decide +kernel
theorem dX1_answer_1 : decode cX1_answer 1 = .ok (.iload_n 1, 1) := by decide +kernel
theorem dX1_answer_2 : decode cX1_answer 2 = .ok (.invokevirtual 61, 3) := by decide +kernel
theorem dX1_answer_5 : decode cX1_answer 5 = .ok (.ifCond .ne 6, 3) := by decide +kernel
theorem dX1_answer_8 : decode cX1_answer 8 = .ok (.bipush (-3), 2) := by decide +kernel
theorem dX1_answer_10 : decode cX1_answer 10 = .ok (.ireturn, 1) := by decide +kernel
theorem dX1_answer_11 : decode cX1_answer 11 = .ok (.aload_n 0, 1) := by decide +kernel
theorem dX1_answer_12 : decode cX1_answer 12 = .ok (.getfield 19, 3) := by decide +kernel
theorem dX1_answer_15 : decode cX1_answer 15 = .ok (.iload_n 1, 1) := by decide +kernel
theorem dX1_answer_16 : decode cX1_answer 16 = .ok (.iaload, 1) := by decide +kernel
theorem dX1_answer_17 : decode cX1_answer 17 = .ok (.iconst 1, 1) := by decide +kernel
theorem dX1_answer_18 : decode cX1_answer 18 = .ok (.if_icmp .eq 6, 3) := by decide +kernel
theorem dX1_answer_21 : decode cX1_answer 21 = .ok (.bipush (-4), 2) := by decide +kernel
theorem dX1_answer_23 : decode cX1_answer 23 = .ok (.ireturn, 1) := by decide +kernel
theorem dX1_answer_24 : decode cX1_answer 24 = .ok (.aload_n 0, 1) := by decide +kernel
theorem dX1_answer_25 : decode cX1_answer 25 = .ok (.iload_n 1, 1) := by decide +kernel
theorem dX1_answer_26 : decode cX1_answer 26 = .ok (.iconst 1, 1) := by decide +kernel
theorem dX1_answer_27 : decode cX1_answer 27 = .ok (.iload_n 2, 1) := by decide +kernel
theorem dX1_answer_28 : decode cX1_answer 28 = .ok (.invokevirtual 89, 3) := by decide +kernel
theorem dX1_answer_31 : decode cX1_answer 31 = .ok (.aload_n 0, 1) := by decide +kernel
theorem dX1_answer_32 : decode cX1_answer 32 = .ok (.iload_n 1, 1) := by decide +kernel
theorem dX1_answer_33 : decode cX1_answer 33 = .ok (.invokevirtual 65, 3) := by decide +kernel
theorem dX1_answer_36 : decode cX1_answer 36 = .ok (.aload_n 0, 1) := by decide +kernel
theorem dX1_answer_37 : decode cX1_answer 37 = .ok (.getfield 19, 3) := by decide +kernel
theorem dX1_answer_40 : decode cX1_answer 40 = .ok (.iload_n 1, 1) := by decide +kernel
theorem dX1_answer_41 : decode cX1_answer 41 = .ok (.iaload, 1) := by decide +kernel
theorem dX1_answer_42 : decode cX1_answer 42 = .ok (.ireturn, 1) := by decide +kernel
abbrev cX1_signal : ByteArray := prog_3_method_13_code
def yX1_signal : MethodName := ⟨RX1, "signal", "(III)I"⟩
theorem dX1_signal_0 : decode cX1_signal 0 = .ok (.aload_n 0, 1) := by decide +kernel
theorem dX1_signal_1 : decode cX1_signal 1 = .ok (.iload_n 1, 1) := by decide +kernel
theorem dX1_signal_2 : decode cX1_signal 2 = .ok (.invokevirtual 61, 3) := by decide +kernel
theorem dX1_signal_5 : decode cX1_signal 5 = .ok (.ifCond .ne 6, 3) := by decide +kernel
theorem dX1_signal_8 : decode cX1_signal 8 = .ok (.bipush (-3), 2) := by decide +kernel
theorem dX1_signal_10 : decode cX1_signal 10 = .ok (.ireturn, 1) := by decide +kernel
theorem dX1_signal_11 : decode cX1_signal 11 = .ok (.aload_n 0, 1) := by decide +kernel
theorem dX1_signal_12 : decode cX1_signal 12 = .ok (.getfield 19, 3) := by decide +kernel
theorem dX1_signal_15 : decode cX1_signal 15 = .ok (.iload_n 1, 1) := by decide +kernel
theorem dX1_signal_16 : decode cX1_signal 16 = .ok (.iaload, 1) := by decide +kernel
theorem dX1_signal_17 : decode cX1_signal 17 = .ok (.ifCond .eq 13, 3) := by decide +kernel
theorem dX1_signal_20 : decode cX1_signal 20 = .ok (.aload_n 0, 1) := by decide +kernel
theorem dX1_signal_21 : decode cX1_signal 21 = .ok (.getfield 19, 3) := by decide +kernel
theorem dX1_signal_24 : decode cX1_signal 24 = .ok (.iload_n 1, 1) := by decide +kernel
theorem dX1_signal_25 : decode cX1_signal 25 = .ok (.iaload, 1) := by decide +kernel
theorem dX1_signal_26 : decode cX1_signal 26 = .ok (.iconst 4, 1) := by decide +kernel
theorem dX1_signal_27 : decode cX1_signal 27 = .ok (.if_icmp .ne 6, 3) := by decide +kernel
theorem dX1_signal_30 : decode cX1_signal 30 = .ok (.bipush (-4), 2) := by decide +kernel
theorem dX1_signal_32 : decode cX1_signal 32 = .ok (.ireturn, 1) := by decide +kernel
theorem dX1_signal_33 : decode cX1_signal 33 = .ok (.aload_n 0, 1) := by decide +kernel
theorem dX1_signal_34 : decode cX1_signal 34 = .ok (.getfield 40, 3) := by decide +kernel
theorem dX1_signal_37 : decode cX1_signal 37 = .ok (.iload_n 1, 1) := by decide +kernel
theorem dX1_signal_38 : decode cX1_signal 38 = .ok (.iaload, 1) := by decide +kernel
theorem dX1_signal_39 : decode cX1_signal 39 = .ok (.bipush 24, 2) := by decide +kernel
theorem dX1_signal_41 : decode cX1_signal 41 = .ok (.if_icmp .ne 6, 3) := by decide +kernel
theorem dX1_signal_44 : decode cX1_signal 44 = .ok (.bipush (-2), 2) := by decide +kernel
theorem dX1_signal_46 : decode cX1_signal 46 = .ok (.ireturn, 1) := by decide +kernel
theorem dX1_signal_47 : decode cX1_signal 47 = .ok (.iload_n 1, 1) := by decide +kernel
theorem dX1_signal_48 : decode cX1_signal 48 = .ok (.bipush 24, 2) := by decide +kernel
theorem dX1_signal_50 : decode cX1_signal 50 = .ok (.imul, 1) := by decide +kernel
theorem dX1_signal_51 : decode cX1_signal 51 = .ok (.aload_n 0, 1) := by decide +kernel
theorem dX1_signal_52 : decode cX1_signal 52 = .ok (.getfield 40, 3) := by decide +kernel
theorem dX1_signal_55 : decode cX1_signal 55 = .ok (.iload_n 1, 1) := by decide +kernel
theorem dX1_signal_56 : decode cX1_signal 56 = .ok (.iaload, 1) := by decide +kernel
theorem dX1_signal_57 : decode cX1_signal 57 = .ok (.iadd, 1) := by decide +kernel
theorem dX1_signal_58 : decode cX1_signal 58 = .ok (.istore 4, 2) := by decide +kernel
theorem dX1_signal_60 : decode cX1_signal 60 = .ok (.aload_n 0, 1) := by decide +kernel
theorem dX1_signal_61 : decode cX1_signal 61 = .ok (.getfield 43, 3) := by decide +kernel
theorem dX1_signal_64 : decode cX1_signal 64 = .ok (.iload 4, 2) := by decide +kernel
theorem dX1_signal_66 : decode cX1_signal 66 = .ok (.iload_n 2, 1) := by decide +kernel
theorem dX1_signal_67 : decode cX1_signal 67 = .ok (.iconst 1, 1) := by decide +kernel
theorem dX1_signal_68 : decode cX1_signal 68 = .ok (.iand, 1) := by decide +kernel
theorem dX1_signal_69 : decode cX1_signal 69 = .ok (.iastore, 1) := by decide +kernel
theorem dX1_signal_70 : decode cX1_signal 70 = .ok (.aload_n 0, 1) := by decide +kernel
theorem dX1_signal_71 : decode cX1_signal 71 = .ok (.getfield 46, 3) := by decide +kernel
theorem dX1_signal_74 : decode cX1_signal 74 = .ok (.iload 4, 2) := by decide +kernel
theorem dX1_signal_76 : decode cX1_signal 76 = .ok (.iload_n 3, 1) := by decide +kernel
theorem dX1_signal_77 : decode cX1_signal 77 = .ok (.iastore, 1) := by decide +kernel
theorem dX1_signal_78 : decode cX1_signal 78 = .ok (.aload_n 0, 1) := by decide +kernel
theorem dX1_signal_79 : decode cX1_signal 79 = .ok (.getfield 49, 3) := by decide +kernel
theorem dX1_signal_82 : decode cX1_signal 82 = .ok (.iload 4, 2) := by decide +kernel
theorem dX1_signal_84 : decode cX1_signal 84 = .ok (.iconst 0, 1) := by decide +kernel
theorem dX1_signal_85 : decode cX1_signal 85 = .ok (.bastore, 1) := by decide +kernel
theorem dX1_signal_86 : decode cX1_signal 86 = .ok (.aload_n 0, 1) := by decide +kernel
theorem dX1_signal_87 : decode cX1_signal 87 = .ok (.getfield 40, 3) := by decide +kernel
theorem dX1_signal_90 : decode cX1_signal 90 = .ok (.iload_n 1, 1) := by decide +kernel
theorem dX1_signal_91 : decode cX1_signal 91 = .ok (.dup2, 1) := by decide +kernel
theorem dX1_signal_92 : decode cX1_signal 92 = .ok (.iaload, 1) := by decide +kernel
theorem dX1_signal_93 : decode cX1_signal 93 = .ok (.iconst 1, 1) := by decide +kernel
theorem dX1_signal_94 : decode cX1_signal 94 = .ok (.iadd, 1) := by decide +kernel
theorem dX1_signal_95 : decode cX1_signal 95 = .ok (.iastore, 1) := by decide +kernel
theorem dX1_signal_96 : decode cX1_signal 96 = .ok (.aload_n 0, 1) := by decide +kernel
theorem dX1_signal_97 : decode cX1_signal 97 = .ok (.getfield 19, 3) := by decide +kernel
theorem dX1_signal_100 : decode cX1_signal 100 = .ok (.iload_n 1, 1) := by decide +kernel
theorem dX1_signal_101 : decode cX1_signal 101 = .ok (.iaload, 1) := by decide +kernel
theorem dX1_signal_102 : decode cX1_signal 102 = .ok (.iconst 3, 1) := by decide +kernel
theorem dX1_signal_103 : decode cX1_signal 103 = .ok (.if_icmp .ne 8, 3) := by decide +kernel
theorem dX1_signal_106 : decode cX1_signal 106 = .ok (.aload_n 0, 1) := by decide +kernel
theorem dX1_signal_107 : decode cX1_signal 107 = .ok (.iload_n 1, 1) := by decide +kernel
theorem dX1_signal_108 : decode cX1_signal 108 = .ok (.invokevirtual 65, 3) := by decide +kernel
theorem dX1_signal_111 : decode cX1_signal 111 = .ok (.aload_n 0, 1) := by decide +kernel
theorem dX1_signal_112 : decode cX1_signal 112 = .ok (.getfield 19, 3) := by decide +kernel
theorem dX1_signal_115 : decode cX1_signal 115 = .ok (.iload_n 1, 1) := by decide +kernel
theorem dX1_signal_116 : decode cX1_signal 116 = .ok (.iaload, 1) := by decide +kernel
theorem dX1_signal_117 : decode cX1_signal 117 = .ok (.ireturn, 1) := by decide +kernel
abbrev cX1_pass : ByteArray := prog_3_method_14_code
def yX1_pass : MethodName := ⟨RX1, "pass", "(I)I"⟩
theorem dX1_pass_0 : decode cX1_pass 0 = .ok (.iload_n 1, 1) := by decide +kernel
theorem dX1_pass_1 : decode cX1_pass 1 = .ok (.ifCond .lt 10, 3) := by decide +kernel
theorem dX1_pass_4 : decode cX1_pass 4 = .ok (.iload_n 1, 1) := by decide +kernel
theorem dX1_pass_5 : decode cX1_pass 5 = .ok (.sipush 1000, 3) := by decide +kernel
theorem dX1_pass_8 : decode cX1_pass 8 = .ok (.if_icmp .le 6, 3) := by decide +kernel
theorem dX1_pass_11 : decode cX1_pass 11 = .ok (.bipush (-6), 2) := by decide +kernel
theorem dX1_pass_13 : decode cX1_pass 13 = .ok (.ireturn, 1) := by decide +kernel
theorem dX1_pass_14 : decode cX1_pass 14 = .ok (.aload_n 0, 1) := by decide +kernel
theorem dX1_pass_15 : decode cX1_pass 15 = .ok (.dup, 1) := by decide +kernel
theorem dX1_pass_16 : decode cX1_pass 16 = .ok (.getfield 82, 3) := by decide +kernel
theorem dX1_pass_19 : decode cX1_pass 19 = .ok (.iload_n 1, 1) := by decide +kernel
theorem dX1_pass_20 : decode cX1_pass 20 = .ok (.iadd, 1) := by decide +kernel
theorem dX1_pass_21 : decode cX1_pass 21 = .ok (.putfield 82, 3) := by decide +kernel
theorem dX1_pass_24 : decode cX1_pass 24 = .ok (.iconst 0, 1) := by decide +kernel
theorem dX1_pass_25 : decode cX1_pass 25 = .ok (.istore_n 2, 1) := by decide +kernel
theorem dX1_pass_26 : decode cX1_pass 26 = .ok (.iconst 0, 1) := by decide +kernel
theorem dX1_pass_27 : decode cX1_pass 27 = .ok (.istore_n 3, 1) := by decide +kernel
theorem dX1_pass_28 : decode cX1_pass 28 = .ok (.iload_n 3, 1) := by decide +kernel
theorem dX1_pass_29 : decode cX1_pass 29 = .ok (.iconst 3, 1) := by decide +kernel
theorem dX1_pass_30 : decode cX1_pass 30 = .ok (.if_icmp .ge 47, 3) := by decide +kernel
theorem dX1_pass_33 : decode cX1_pass 33 = .ok (.aload_n 0, 1) := by decide +kernel
theorem dX1_pass_34 : decode cX1_pass 34 = .ok (.getfield 19, 3) := by decide +kernel
theorem dX1_pass_37 : decode cX1_pass 37 = .ok (.iload_n 3, 1) := by decide +kernel
theorem dX1_pass_38 : decode cX1_pass 38 = .ok (.iaload, 1) := by decide +kernel
theorem dX1_pass_39 : decode cX1_pass 39 = .ok (.iconst 2, 1) := by decide +kernel
theorem dX1_pass_40 : decode cX1_pass 40 = .ok (.if_icmp .ne 31, 3) := by decide +kernel
theorem dX1_pass_43 : decode cX1_pass 43 = .ok (.aload_n 0, 1) := by decide +kernel
theorem dX1_pass_44 : decode cX1_pass 44 = .ok (.getfield 34, 3) := by decide +kernel
theorem dX1_pass_47 : decode cX1_pass 47 = .ok (.iload_n 3, 1) := by decide +kernel
theorem dX1_pass_48 : decode cX1_pass 48 = .ok (.iaload, 1) := by decide +kernel
theorem dX1_pass_49 : decode cX1_pass 49 = .ok (.aload_n 0, 1) := by decide +kernel
theorem dX1_pass_50 : decode cX1_pass 50 = .ok (.getfield 82, 3) := by decide +kernel
theorem dX1_pass_53 : decode cX1_pass 53 = .ok (.if_icmp .gt 18, 3) := by decide +kernel
theorem dX1_pass_56 : decode cX1_pass 56 = .ok (.iinc 2 1, 3) := by decide +kernel
theorem dX1_pass_59 : decode cX1_pass 59 = .ok (.aload_n 0, 1) := by decide +kernel
theorem dX1_pass_60 : decode cX1_pass 60 = .ok (.iload_n 3, 1) := by decide +kernel
theorem dX1_pass_61 : decode cX1_pass 61 = .ok (.iconst 0, 1) := by decide +kernel
theorem dX1_pass_62 : decode cX1_pass 62 = .ok (.iconst 0, 1) := by decide +kernel
theorem dX1_pass_63 : decode cX1_pass 63 = .ok (.invokevirtual 89, 3) := by decide +kernel
theorem dX1_pass_66 : decode cX1_pass 66 = .ok (.aload_n 0, 1) := by decide +kernel
theorem dX1_pass_67 : decode cX1_pass 67 = .ok (.iload_n 3, 1) := by decide +kernel
theorem dX1_pass_68 : decode cX1_pass 68 = .ok (.invokevirtual 65, 3) := by decide +kernel
theorem dX1_pass_71 : decode cX1_pass 71 = .ok (.iinc 3 1, 3) := by decide +kernel
theorem dX1_pass_74 : decode cX1_pass 74 = .ok (.goto (-46), 3) := by decide +kernel
theorem dX1_pass_77 : decode cX1_pass 77 = .ok (.iload_n 2, 1) := by decide +kernel
theorem dX1_pass_78 : decode cX1_pass 78 = .ok (.ireturn, 1) := by decide +kernel
abbrev cX1_forget : ByteArray := prog_3_method_15_code
def yX1_forget : MethodName := ⟨RX1, "forget", "(I)I"⟩
theorem dX1_forget_0 : decode cX1_forget 0 = .ok (.aload_n 0, 1) := by decide +kernel
theorem dX1_forget_1 : decode cX1_forget 1 = .ok (.iload_n 1, 1) := by decide +kernel
theorem dX1_forget_2 : decode cX1_forget 2 = .ok (.invokevirtual 61, 3) := by decide +kernel
theorem dX1_forget_5 : decode cX1_forget 5 = .ok (.ifCond .eq 7, 3) := by decide +kernel
theorem dX1_forget_8 : decode cX1_forget 8 = .ok (.iconst 0, 1) := by decide +kernel
theorem dX1_forget_9 : decode cX1_forget 9 = .ok (.goto 5, 3) := by decide +kernel
theorem dX1_forget_12 : decode cX1_forget 12 = .ok (.bipush (-3), 2) := by decide +kernel
theorem dX1_forget_14 : decode cX1_forget 14 = .ok (.ireturn, 1) := by decide +kernel
abbrev cX1_clear : ByteArray := prog_3_method_16_code
def yX1_clear : MethodName := ⟨RX1, "clear", "()V"⟩
theorem dX1_clear_0 : decode cX1_clear 0 = .ok (.aload_n 0, 1) := by decide +kernel
theorem dX1_clear_1 : decode cX1_clear 1 = .ok (.iconst 0, 1) := by decide +kernel
theorem dX1_clear_2 : decode cX1_clear 2 = .ok (.putfield 53, 3) := by decide +kernel
theorem dX1_clear_5 : decode cX1_clear 5 = .ok (.aload_n 0, 1) := by decide +kernel
theorem dX1_clear_6 : decode cX1_clear 6 = .ok (.iconst 0, 1) := by decide +kernel
theorem dX1_clear_7 : decode cX1_clear 7 = .ok (.putfield 57, 3) := by decide +kernel
theorem dX1_clear_10 : decode cX1_clear 10 = .ok (.aload_n 0, 1) := by decide +kernel
theorem dX1_clear_11 : decode cX1_clear 11 = .ok (.iconst 0, 1) := by decide +kernel
theorem dX1_clear_12 : decode cX1_clear 12 = .ok (.putfield 82, 3) := by decide +kernel
theorem dX1_clear_15 : decode cX1_clear 15 = .ok (.iconst 0, 1) := by decide +kernel
theorem dX1_clear_16 : decode cX1_clear 16 = .ok (.istore_n 1, 1) := by decide +kernel
theorem dX1_clear_17 : decode cX1_clear 17 = .ok (.iload_n 1, 1) := by decide +kernel
theorem dX1_clear_18 : decode cX1_clear 18 = .ok (.iconst 3, 1) := by decide +kernel
theorem dX1_clear_19 : decode cX1_clear 19 = .ok (.if_icmp .ge 16, 3) := by decide +kernel
theorem dX1_clear_22 : decode cX1_clear 22 = .ok (.aload_n 0, 1) := by decide +kernel
theorem dX1_clear_23 : decode cX1_clear 23 = .ok (.getfield 19, 3) := by decide +kernel
theorem dX1_clear_26 : decode cX1_clear 26 = .ok (.iload_n 1, 1) := by decide +kernel
theorem dX1_clear_27 : decode cX1_clear 27 = .ok (.iconst 0, 1) := by decide +kernel
theorem dX1_clear_28 : decode cX1_clear 28 = .ok (.iastore, 1) := by decide +kernel
theorem dX1_clear_29 : decode cX1_clear 29 = .ok (.iinc 1 1, 3) := by decide +kernel
theorem dX1_clear_32 : decode cX1_clear 32 = .ok (.goto (-15), 3) := by decide +kernel
theorem dX1_clear_35 : decode cX1_clear 35 = .ok (.return_, 1) := by decide +kernel
abbrev cX1_state : ByteArray := prog_3_method_17_code
def yX1_state : MethodName := ⟨RX1, "state", "(I)I"⟩
theorem dX1_state_0 : decode cX1_state 0 = .ok (.aload_n 0, 1) := by decide +kernel
theorem dX1_state_1 : decode cX1_state 1 = .ok (.iload_n 1, 1) := by decide +kernel
theorem dX1_state_2 : decode cX1_state 2 = .ok (.invokevirtual 61, 3) := by decide +kernel
theorem dX1_state_5 : decode cX1_state 5 = .ok (.ifCond .eq 12, 3) := by decide +kernel
theorem dX1_state_8 : decode cX1_state 8 = .ok (.aload_n 0, 1) := by decide +kernel
theorem dX1_state_9 : decode cX1_state 9 = .ok (.getfield 19, 3) := by decide +kernel
theorem dX1_state_12 : decode cX1_state 12 = .ok (.iload_n 1, 1) := by decide +kernel
theorem dX1_state_13 : decode cX1_state 13 = .ok (.iaload, 1) := by decide +kernel
theorem dX1_state_14 : decode cX1_state 14 = .ok (.goto 5, 3) := by decide +kernel
theorem dX1_state_17 : decode cX1_state 17 = .ok (.bipush (-3), 2) := by decide +kernel
theorem dX1_state_19 : decode cX1_state 19 = .ok (.ireturn, 1) := by decide +kernel
abbrev cX1_register : ByteArray := prog_3_method_18_code
def yX1_register : MethodName := ⟨RX1, "register", "(II)I"⟩
theorem dX1_register_0 : decode cX1_register 0 = .ok (.aload_n 0, 1) := by decide +kernel
theorem dX1_register_1 : decode cX1_register 1 = .ok (.iload_n 1, 1) := by decide +kernel
theorem dX1_register_2 : decode cX1_register 2 = .ok (.invokevirtual 61, 3) := by decide +kernel
theorem dX1_register_5 : decode cX1_register 5 = .ok (.ifCond .eq 27, 3) := by decide +kernel
theorem dX1_register_8 : decode cX1_register 8 = .ok (.aload_n 0, 1) := by decide +kernel
theorem dX1_register_9 : decode cX1_register 9 = .ok (.getfield 19, 3) := by decide +kernel
theorem dX1_register_12 : decode cX1_register 12 = .ok (.iload_n 1, 1) := by decide +kernel
theorem dX1_register_13 : decode cX1_register 13 = .ok (.iaload, 1) := by decide +kernel
theorem dX1_register_14 : decode cX1_register 14 = .ok (.ifCond .eq 18, 3) := by decide +kernel
theorem dX1_register_17 : decode cX1_register 17 = .ok (.aload_n 0, 1) := by decide +kernel
theorem dX1_register_18 : decode cX1_register 18 = .ok (.getfield 28, 3) := by decide +kernel
theorem dX1_register_21 : decode cX1_register 21 = .ok (.iload_n 1, 1) := by decide +kernel
theorem dX1_register_22 : decode cX1_register 22 = .ok (.iconst 4, 1) := by decide +kernel
theorem dX1_register_23 : decode cX1_register 23 = .ok (.imul, 1) := by decide +kernel
theorem dX1_register_24 : decode cX1_register 24 = .ok (.iload_n 2, 1) := by decide +kernel
theorem dX1_register_25 : decode cX1_register 25 = .ok (.iconst 3, 1) := by decide +kernel
theorem dX1_register_26 : decode cX1_register 26 = .ok (.iand, 1) := by decide +kernel
theorem dX1_register_27 : decode cX1_register 27 = .ok (.iadd, 1) := by decide +kernel
theorem dX1_register_28 : decode cX1_register 28 = .ok (.iaload, 1) := by decide +kernel
theorem dX1_register_29 : decode cX1_register 29 = .ok (.goto 4, 3) := by decide +kernel
theorem dX1_register_32 : decode cX1_register 32 = .ok (.iconst 0, 1) := by decide +kernel
theorem dX1_register_33 : decode cX1_register 33 = .ok (.ireturn, 1) := by decide +kernel
abbrev cX1_activity : ByteArray := prog_3_method_19_code
def yX1_activity : MethodName := ⟨RX1, "activity", "(I)I"⟩
theorem dX1_activity_0 : decode cX1_activity 0 = .ok (.aload_n 0, 1) := by decide +kernel
theorem dX1_activity_1 : decode cX1_activity 1 = .ok (.iload_n 1, 1) := by decide +kernel
theorem dX1_activity_2 : decode cX1_activity 2 = .ok (.invokevirtual 61, 3) := by decide +kernel
theorem dX1_activity_5 : decode cX1_activity 5 = .ok (.ifCond .ne 6, 3) := by decide +kernel
theorem dX1_activity_8 : decode cX1_activity 8 = .ok (.bipush (-3), 2) := by decide +kernel
theorem dX1_activity_10 : decode cX1_activity 10 = .ok (.ireturn, 1) := by decide +kernel
theorem dX1_activity_11 : decode cX1_activity 11 = .ok (.aload_n 0, 1) := by decide +kernel
theorem dX1_activity_12 : decode cX1_activity 12 = .ok (.getfield 19, 3) := by decide +kernel
theorem dX1_activity_15 : decode cX1_activity 15 = .ok (.iload_n 1, 1) := by decide +kernel
theorem dX1_activity_16 : decode cX1_activity 16 = .ok (.iaload, 1) := by decide +kernel
theorem dX1_activity_17 : decode cX1_activity 17 = .ok (.iconst 1, 1) := by decide +kernel
theorem dX1_activity_18 : decode cX1_activity 18 = .ok (.if_icmp .ne 17, 3) := by decide +kernel
theorem dX1_activity_21 : decode cX1_activity 21 = .ok (.aload_n 0, 1) := by decide +kernel
theorem dX1_activity_22 : decode cX1_activity 22 = .ok (.getfield 16, 3) := by decide +kernel
theorem dX1_activity_25 : decode cX1_activity 25 = .ok (.aload_n 0, 1) := by decide +kernel
theorem dX1_activity_26 : decode cX1_activity 26 = .ok (.getfield 22, 3) := by decide +kernel
theorem dX1_activity_29 : decode cX1_activity 29 = .ok (.iload_n 1, 1) := by decide +kernel
theorem dX1_activity_30 : decode cX1_activity 30 = .ok (.iaload, 1) := by decide +kernel
theorem dX1_activity_31 : decode cX1_activity 31 = .ok (.iaload, 1) := by decide +kernel
theorem dX1_activity_32 : decode cX1_activity 32 = .ok (.goto 4, 3) := by decide +kernel
theorem dX1_activity_35 : decode cX1_activity 35 = .ok (.iconst 0, 1) := by decide +kernel
theorem dX1_activity_36 : decode cX1_activity 36 = .ok (.ireturn, 1) := by decide +kernel
abbrev cX1_result : ByteArray := prog_3_method_20_code
def yX1_result : MethodName := ⟨RX1, "result", "(I)I"⟩
theorem dX1_result_0 : decode cX1_result 0 = .ok (.aload_n 0, 1) := by decide +kernel
theorem dX1_result_1 : decode cX1_result 1 = .ok (.iload_n 1, 1) := by decide +kernel
theorem dX1_result_2 : decode cX1_result 2 = .ok (.invokevirtual 61, 3) := by decide +kernel
theorem dX1_result_5 : decode cX1_result 5 = .ok (.ifCond .ne 6, 3) := by decide +kernel
theorem dX1_result_8 : decode cX1_result 8 = .ok (.bipush (-3), 2) := by decide +kernel
theorem dX1_result_10 : decode cX1_result 10 = .ok (.ireturn, 1) := by decide +kernel
theorem dX1_result_11 : decode cX1_result 11 = .ok (.aload_n 0, 1) := by decide +kernel
theorem dX1_result_12 : decode cX1_result 12 = .ok (.getfield 19, 3) := by decide +kernel
theorem dX1_result_15 : decode cX1_result 15 = .ok (.iload_n 1, 1) := by decide +kernel
theorem dX1_result_16 : decode cX1_result 16 = .ok (.iaload, 1) := by decide +kernel
theorem dX1_result_17 : decode cX1_result 17 = .ok (.iconst 4, 1) := by decide +kernel
theorem dX1_result_18 : decode cX1_result 18 = .ok (.if_icmp .ne 12, 3) := by decide +kernel
theorem dX1_result_21 : decode cX1_result 21 = .ok (.aload_n 0, 1) := by decide +kernel
theorem dX1_result_22 : decode cX1_result 22 = .ok (.getfield 31, 3) := by decide +kernel
theorem dX1_result_25 : decode cX1_result 25 = .ok (.iload_n 1, 1) := by decide +kernel
theorem dX1_result_26 : decode cX1_result 26 = .ok (.iaload, 1) := by decide +kernel
theorem dX1_result_27 : decode cX1_result 27 = .ok (.goto 4, 3) := by decide +kernel
theorem dX1_result_30 : decode cX1_result 30 = .ok (.iconst 0, 1) := by decide +kernel
theorem dX1_result_31 : decode cX1_result 31 = .ok (.ireturn, 1) := by decide +kernel
abbrev cX1_untaken : ByteArray := prog_3_method_21_code
def yX1_untaken : MethodName := ⟨RX1, "untaken", "(I)I"⟩
theorem dX1_untaken_0 : decode cX1_untaken 0 = .ok (.aload_n 0, 1) := by decide +kernel
theorem dX1_untaken_1 : decode cX1_untaken 1 = .ok (.iload_n 1, 1) := by decide +kernel
theorem dX1_untaken_2 : decode cX1_untaken 2 = .ok (.invokevirtual 61, 3) := by decide +kernel
theorem dX1_untaken_5 : decode cX1_untaken 5 = .ok (.ifCond .ne 6, 3) := by decide +kernel
theorem dX1_untaken_8 : decode cX1_untaken 8 = .ok (.bipush (-3), 2) := by decide +kernel
theorem dX1_untaken_10 : decode cX1_untaken 10 = .ok (.ireturn, 1) := by decide +kernel
theorem dX1_untaken_11 : decode cX1_untaken 11 = .ok (.iconst 0, 1) := by decide +kernel
theorem dX1_untaken_12 : decode cX1_untaken 12 = .ok (.istore_n 2, 1) := by decide +kernel
theorem dX1_untaken_13 : decode cX1_untaken 13 = .ok (.iload_n 1, 1) := by decide +kernel
theorem dX1_untaken_14 : decode cX1_untaken 14 = .ok (.bipush 24, 2) := by decide +kernel
theorem dX1_untaken_16 : decode cX1_untaken 16 = .ok (.imul, 1) := by decide +kernel
theorem dX1_untaken_17 : decode cX1_untaken 17 = .ok (.istore_n 3, 1) := by decide +kernel
theorem dX1_untaken_18 : decode cX1_untaken 18 = .ok (.iload_n 3, 1) := by decide +kernel
theorem dX1_untaken_19 : decode cX1_untaken 19 = .ok (.iload_n 1, 1) := by decide +kernel
theorem dX1_untaken_20 : decode cX1_untaken 20 = .ok (.bipush 24, 2) := by decide +kernel
theorem dX1_untaken_22 : decode cX1_untaken 22 = .ok (.imul, 1) := by decide +kernel
theorem dX1_untaken_23 : decode cX1_untaken 23 = .ok (.aload_n 0, 1) := by decide +kernel
theorem dX1_untaken_24 : decode cX1_untaken 24 = .ok (.getfield 40, 3) := by decide +kernel
theorem dX1_untaken_27 : decode cX1_untaken 27 = .ok (.iload_n 1, 1) := by decide +kernel
theorem dX1_untaken_28 : decode cX1_untaken 28 = .ok (.iaload, 1) := by decide +kernel
theorem dX1_untaken_29 : decode cX1_untaken 29 = .ok (.iadd, 1) := by decide +kernel
theorem dX1_untaken_30 : decode cX1_untaken 30 = .ok (.if_icmp .ge 30, 3) := by decide +kernel
theorem dX1_untaken_33 : decode cX1_untaken 33 = .ok (.aload_n 0, 1) := by decide +kernel
theorem dX1_untaken_34 : decode cX1_untaken 34 = .ok (.getfield 49, 3) := by decide +kernel
theorem dX1_untaken_37 : decode cX1_untaken 37 = .ok (.iload_n 3, 1) := by decide +kernel
theorem dX1_untaken_38 : decode cX1_untaken 38 = .ok (.baload, 1) := by decide +kernel
theorem dX1_untaken_39 : decode cX1_untaken 39 = .ok (.ifCond .ne 15, 3) := by decide +kernel
theorem dX1_untaken_42 : decode cX1_untaken 42 = .ok (.aload_n 0, 1) := by decide +kernel
theorem dX1_untaken_43 : decode cX1_untaken 43 = .ok (.getfield 19, 3) := by decide +kernel
theorem dX1_untaken_46 : decode cX1_untaken 46 = .ok (.iload_n 1, 1) := by decide +kernel
theorem dX1_untaken_47 : decode cX1_untaken 47 = .ok (.iaload, 1) := by decide +kernel
theorem dX1_untaken_48 : decode cX1_untaken 48 = .ok (.ifCond .eq 6, 3) := by decide +kernel
theorem dX1_untaken_51 : decode cX1_untaken 51 = .ok (.iinc 2 1, 3) := by decide +kernel
theorem dX1_untaken_54 : decode cX1_untaken 54 = .ok (.iinc 3 1, 3) := by decide +kernel
theorem dX1_untaken_57 : decode cX1_untaken 57 = .ok (.goto (-39), 3) := by decide +kernel
theorem dX1_untaken_60 : decode cX1_untaken 60 = .ok (.iload_n 2, 1) := by decide +kernel
theorem dX1_untaken_61 : decode cX1_untaken 61 = .ok (.ireturn, 1) := by decide +kernel
abbrev cX1_time : ByteArray := prog_3_method_22_code
def yX1_time : MethodName := ⟨RX1, "time", "()I"⟩
theorem dX1_time_0 : decode cX1_time 0 = .ok (.aload_n 0, 1) := by decide +kernel
theorem dX1_time_1 : decode cX1_time 1 = .ok (.getfield 82, 3) := by decide +kernel
theorem dX1_time_4 : decode cX1_time 4 = .ok (.ireturn, 1) := by decide +kernel
theorem q22 : (Jvm.Cond.initialized "ReplayFlowModel") ∈ lw_all := lw_g (lw_at lw_m1 2 rfl) rfl
theorem q204 : (Jvm.Cond.instantiable "ReplayFlowModel" (17 : Nat)) ∈ lw_all := lw_g (lw_at lw_m1 184 rfl) rfl
theorem q206 : (Jvm.Cond.instanceMethod ({ cls := "ReplayFlowModel", name := "<init>", desc := "()V" } : Jvm.MethodName)) ∈ lw_all := lw_g (lw_at lw_m1 186 rfl) rfl
theorem q207 : (Jvm.Cond.code ({ cls := "ReplayFlowModel", name := "<init>", desc := "()V" } : Jvm.MethodName) prog_3_method_1_code (1 : Nat) (Option.none : Option Jvm.ClassFile.FieldType)) ∈ lw_all := lw_g (lw_at lw_m1 187 rfl) rfl
theorem q208 : (Jvm.Cond.methodLink "ReplayFlowModel" (1 : Nat) ({ cls := "java/lang/Object", name := "<init>", desc := "()V" } : Jvm.MethodName)) ∈ lw_all := lw_g (lw_at lw_m1 188 rfl) rfl
theorem q209 : (Jvm.Cond.fieldLink "ReplayFlowModel" (7 : Nat) "ReplayFlowModel" "ops" "[I") ∈ lw_all := lw_g (lw_at lw_m1 189 rfl) rfl
theorem q210 : (Jvm.Cond.fieldLink "ReplayFlowModel" (13 : Nat) "ReplayFlowModel" "as" "[I") ∈ lw_all := lw_g (lw_at lw_m1 190 rfl) rfl
theorem q211 : (Jvm.Cond.fieldLink "ReplayFlowModel" (16 : Nat) "ReplayFlowModel" "bs" "[I") ∈ lw_all := lw_g (lw_at lw_m1 191 rfl) rfl
theorem q212 : (Jvm.Cond.fieldLink "ReplayFlowModel" (53 : Nat) "ReplayFlowModel" "length" "I") ∈ lw_all := lw_g (lw_at lw_m1 192 rfl) rfl
theorem q213 : (Jvm.Cond.fieldLink "ReplayFlowModel" (57 : Nat) "ReplayFlowModel" "locked" "Z") ∈ lw_all := lw_g (lw_at lw_m1 193 rfl) rfl
theorem q214 : (Jvm.Cond.fieldLink "ReplayFlowModel" (82 : Nat) "ReplayFlowModel" "now" "I") ∈ lw_all := lw_g (lw_at lw_m1 194 rfl) rfl
theorem q215 : (Jvm.Cond.fieldLink "ReplayFlowModel" (19 : Nat) "ReplayFlowModel" "states" "[I") ∈ lw_all := lw_g (lw_at lw_m1 195 rfl) rfl
theorem q216 : (Jvm.Cond.fieldLink "ReplayFlowModel" (22 : Nat) "ReplayFlowModel" "places" "[I") ∈ lw_all := lw_g (lw_at lw_m1 196 rfl) rfl
theorem q217 : (Jvm.Cond.fieldLink "ReplayFlowModel" (25 : Nat) "ReplayFlowModel" "steps" "[I") ∈ lw_all := lw_g (lw_at lw_m1 197 rfl) rfl
theorem q218 : (Jvm.Cond.fieldLink "ReplayFlowModel" (28 : Nat) "ReplayFlowModel" "registers" "[I") ∈ lw_all := lw_g (lw_at lw_m1 198 rfl) rfl
theorem q219 : (Jvm.Cond.fieldLink "ReplayFlowModel" (31 : Nat) "ReplayFlowModel" "results" "[I") ∈ lw_all := lw_g (lw_at lw_m1 199 rfl) rfl
theorem q220 : (Jvm.Cond.fieldLink "ReplayFlowModel" (34 : Nat) "ReplayFlowModel" "wakes" "[I") ∈ lw_all := lw_g (lw_at lw_m1 200 rfl) rfl
theorem q221 : (Jvm.Cond.fieldLink "ReplayFlowModel" (37 : Nat) "ReplayFlowModel" "over" "[I") ∈ lw_all := lw_g (lw_at lw_m1 201 rfl) rfl
theorem q222 : (Jvm.Cond.fieldLink "ReplayFlowModel" (40 : Nat) "ReplayFlowModel" "signals" "[I") ∈ lw_all := lw_g (lw_at lw_m1 202 rfl) rfl
theorem q223 : (Jvm.Cond.fieldLink "ReplayFlowModel" (43 : Nat) "ReplayFlowModel" "signalChannel" "[I") ∈ lw_all := lw_g (lw_at lw_m1 203 rfl) rfl
theorem q224 : (Jvm.Cond.fieldLink "ReplayFlowModel" (46 : Nat) "ReplayFlowModel" "signalValue" "[I") ∈ lw_all := lw_g (lw_at lw_m1 204 rfl) rfl
theorem q225 : (Jvm.Cond.fieldLink "ReplayFlowModel" (49 : Nat) "ReplayFlowModel" "signalTaken" "[Z") ∈ lw_all := lw_g (lw_at lw_m1 205 rfl) rfl
theorem q226 : (Jvm.Cond.laysFinal "ReplayFlowModel" "ReplayFlowModel" "ops" "[I") ∈ lw_all := lw_g (lw_at lw_m1 206 rfl) rfl
theorem q227 : (Jvm.Cond.soleField "ReplayFlowModel" "ops") ∈ lw_all := lw_g (lw_at lw_m1 207 rfl) rfl
theorem q228 : (Jvm.Cond.laysFinal "ReplayFlowModel" "ReplayFlowModel" "as" "[I") ∈ lw_all := lw_g (lw_at lw_m1 208 rfl) rfl
theorem q229 : (Jvm.Cond.soleField "ReplayFlowModel" "as") ∈ lw_all := lw_g (lw_at lw_m1 209 rfl) rfl
theorem q230 : (Jvm.Cond.laysFinal "ReplayFlowModel" "ReplayFlowModel" "bs" "[I") ∈ lw_all := lw_g (lw_at lw_m1 210 rfl) rfl
theorem q231 : (Jvm.Cond.soleField "ReplayFlowModel" "bs") ∈ lw_all := lw_g (lw_at lw_m1 211 rfl) rfl
theorem q232 : (Jvm.Cond.lays "ReplayFlowModel" "ReplayFlowModel" "length" "I") ∈ lw_all := lw_g (lw_at lw_m1 212 rfl) rfl
theorem q233 : (Jvm.Cond.soleField "ReplayFlowModel" "length") ∈ lw_all := lw_g (lw_at lw_m1 213 rfl) rfl
theorem q234 : (Jvm.Cond.lays "ReplayFlowModel" "ReplayFlowModel" "locked" "Z") ∈ lw_all := lw_g (lw_at lw_m1 214 rfl) rfl
theorem q235 : (Jvm.Cond.soleField "ReplayFlowModel" "locked") ∈ lw_all := lw_g (lw_at lw_m1 215 rfl) rfl
theorem q236 : (Jvm.Cond.lays "ReplayFlowModel" "ReplayFlowModel" "now" "I") ∈ lw_all := lw_g (lw_at lw_m1 216 rfl) rfl
theorem q237 : (Jvm.Cond.soleField "ReplayFlowModel" "now") ∈ lw_all := lw_g (lw_at lw_m1 217 rfl) rfl
theorem q238 : (Jvm.Cond.laysFinal "ReplayFlowModel" "ReplayFlowModel" "states" "[I") ∈ lw_all := lw_g (lw_at lw_m1 218 rfl) rfl
theorem q239 : (Jvm.Cond.soleField "ReplayFlowModel" "states") ∈ lw_all := lw_g (lw_at lw_m1 219 rfl) rfl
theorem q240 : (Jvm.Cond.laysFinal "ReplayFlowModel" "ReplayFlowModel" "places" "[I") ∈ lw_all := lw_g (lw_at lw_m1 220 rfl) rfl
theorem q241 : (Jvm.Cond.soleField "ReplayFlowModel" "places") ∈ lw_all := lw_g (lw_at lw_m1 221 rfl) rfl
theorem q242 : (Jvm.Cond.laysFinal "ReplayFlowModel" "ReplayFlowModel" "steps" "[I") ∈ lw_all := lw_g (lw_at lw_m1 222 rfl) rfl
theorem q243 : (Jvm.Cond.soleField "ReplayFlowModel" "steps") ∈ lw_all := lw_g (lw_at lw_m1 223 rfl) rfl
theorem q244 : (Jvm.Cond.laysFinal "ReplayFlowModel" "ReplayFlowModel" "registers" "[I") ∈ lw_all := lw_g (lw_at lw_m1 224 rfl) rfl
theorem q245 : (Jvm.Cond.soleField "ReplayFlowModel" "registers") ∈ lw_all := lw_g (lw_at lw_m1 225 rfl) rfl
theorem q246 : (Jvm.Cond.laysFinal "ReplayFlowModel" "ReplayFlowModel" "results" "[I") ∈ lw_all := lw_g (lw_at lw_m1 226 rfl) rfl
theorem q247 : (Jvm.Cond.soleField "ReplayFlowModel" "results") ∈ lw_all := lw_g (lw_at lw_m1 227 rfl) rfl
theorem q248 : (Jvm.Cond.laysFinal "ReplayFlowModel" "ReplayFlowModel" "wakes" "[I") ∈ lw_all := lw_g (lw_at lw_m1 228 rfl) rfl
theorem q249 : (Jvm.Cond.soleField "ReplayFlowModel" "wakes") ∈ lw_all := lw_g (lw_at lw_m1 229 rfl) rfl
theorem q250 : (Jvm.Cond.laysFinal "ReplayFlowModel" "ReplayFlowModel" "over" "[I") ∈ lw_all := lw_g (lw_at lw_m1 230 rfl) rfl
theorem q251 : (Jvm.Cond.soleField "ReplayFlowModel" "over") ∈ lw_all := lw_g (lw_at lw_m1 231 rfl) rfl
theorem q252 : (Jvm.Cond.laysFinal "ReplayFlowModel" "ReplayFlowModel" "signals" "[I") ∈ lw_all := lw_g (lw_at lw_m1 232 rfl) rfl
theorem q253 : (Jvm.Cond.soleField "ReplayFlowModel" "signals") ∈ lw_all := lw_g (lw_at lw_m1 233 rfl) rfl
theorem q254 : (Jvm.Cond.laysFinal "ReplayFlowModel" "ReplayFlowModel" "signalChannel" "[I") ∈ lw_all := lw_g (lw_at lw_m1 234 rfl) rfl
theorem q255 : (Jvm.Cond.soleField "ReplayFlowModel" "signalChannel") ∈ lw_all := lw_g (lw_at lw_m1 235 rfl) rfl
theorem q256 : (Jvm.Cond.laysFinal "ReplayFlowModel" "ReplayFlowModel" "signalValue" "[I") ∈ lw_all := lw_g (lw_at lw_m1 236 rfl) rfl
theorem q257 : (Jvm.Cond.soleField "ReplayFlowModel" "signalValue") ∈ lw_all := lw_g (lw_at lw_m1 237 rfl) rfl
theorem q258 : (Jvm.Cond.laysFinal "ReplayFlowModel" "ReplayFlowModel" "signalTaken" "[Z") ∈ lw_all := lw_g (lw_at lw_m1 238 rfl) rfl
theorem q259 : (Jvm.Cond.soleField "ReplayFlowModel" "signalTaken") ∈ lw_all := lw_g (lw_at lw_m1 239 rfl) rfl
theorem q260 : (Jvm.Cond.superclass "ReplayFlowModel" "java/lang/Object") ∈ lw_all := lw_g (lw_at lw_m2 0 rfl) rfl
theorem q262 : (Jvm.Cond.instanceMethod ({ cls := "ReplayFlowModel", name := "emit", desc := "(III)I" } : Jvm.MethodName)) ∈ lw_all := lw_g (lw_at lw_m2 2 rfl) rfl
theorem q263 : (Jvm.Cond.selects "ReplayFlowModel" ({ cls := "ReplayFlowModel", name := "emit", desc := "(III)I" } : Jvm.MethodName) ({ cls := "ReplayFlowModel", name := "emit", desc := "(III)I" } : Jvm.MethodName)) ∈ lw_all := lw_g (lw_at lw_m2 3 rfl) rfl
theorem q264 : (Jvm.Cond.code ({ cls := "ReplayFlowModel", name := "emit", desc := "(III)I" } : Jvm.MethodName) prog_3_method_2_code (4 : Nat) (Option.some Jvm.ClassFile.FieldType.int)) ∈ lw_all := lw_g (lw_at lw_m2 4 rfl) rfl
theorem q266 : (Jvm.Cond.instanceMethod ({ cls := "ReplayFlowModel", name := "start", desc := "(II)I" } : Jvm.MethodName)) ∈ lw_all := lw_g (lw_at lw_m2 6 rfl) rfl
theorem q267 : (Jvm.Cond.selects "ReplayFlowModel" ({ cls := "ReplayFlowModel", name := "start", desc := "(II)I" } : Jvm.MethodName) ({ cls := "ReplayFlowModel", name := "start", desc := "(II)I" } : Jvm.MethodName)) ∈ lw_all := lw_g (lw_at lw_m2 7 rfl) rfl
theorem q268 : (Jvm.Cond.code ({ cls := "ReplayFlowModel", name := "start", desc := "(II)I" } : Jvm.MethodName) prog_3_method_4_code (4 : Nat) (Option.some Jvm.ClassFile.FieldType.int)) ∈ lw_all := lw_g (lw_at lw_m2 8 rfl) rfl
theorem q269 : (Jvm.Cond.methodLink "ReplayFlowModel" (61 : Nat) ({ cls := "ReplayFlowModel", name := "isRun", desc := "(I)Z" } : Jvm.MethodName)) ∈ lw_all := lw_g (lw_at lw_m2 9 rfl) rfl
theorem q270 : (Jvm.Cond.privateMethod ({ cls := "ReplayFlowModel", name := "isRun", desc := "(I)Z" } : Jvm.MethodName)) ∈ lw_tbl := lw_at lw_m2 10 rfl
theorem q271 : (Jvm.Cond.instanceMethod ({ cls := "ReplayFlowModel", name := "isRun", desc := "(I)Z" } : Jvm.MethodName)) ∈ lw_all := lw_g (lw_at lw_m2 11 rfl) rfl
theorem q272 : (Jvm.Cond.code ({ cls := "ReplayFlowModel", name := "isRun", desc := "(I)Z" } : Jvm.MethodName) prog_3_method_3_code (2 : Nat) (Option.some Jvm.ClassFile.FieldType.boolean)) ∈ lw_all := lw_g (lw_at lw_m2 12 rfl) rfl
theorem q273 : (Jvm.Cond.methodLink "ReplayFlowModel" (65 : Nat) ({ cls := "ReplayFlowModel", name := "goOn", desc := "(I)V" } : Jvm.MethodName)) ∈ lw_all := lw_g (lw_at lw_m2 13 rfl) rfl
theorem q274 : (Jvm.Cond.privateMethod ({ cls := "ReplayFlowModel", name := "goOn", desc := "(I)V" } : Jvm.MethodName)) ∈ lw_tbl := lw_at lw_m2 14 rfl
theorem q275 : (Jvm.Cond.instanceMethod ({ cls := "ReplayFlowModel", name := "goOn", desc := "(I)V" } : Jvm.MethodName)) ∈ lw_all := lw_g (lw_at lw_m2 15 rfl) rfl
theorem q276 : (Jvm.Cond.code ({ cls := "ReplayFlowModel", name := "goOn", desc := "(I)V" } : Jvm.MethodName) prog_3_method_9_code (5 : Nat) (Option.none : Option Jvm.ClassFile.FieldType)) ∈ lw_all := lw_g (lw_at lw_m2 16 rfl) rfl
theorem q277 : (Jvm.Cond.methodLink "ReplayFlowModel" (69 : Nat) ({ cls := "ReplayFlowModel", name := "isWait", desc := "(I)Z" } : Jvm.MethodName)) ∈ lw_all := lw_g (lw_at lw_m2 17 rfl) rfl
theorem q278 : (Jvm.Cond.privateMethod ({ cls := "ReplayFlowModel", name := "isWait", desc := "(I)Z" } : Jvm.MethodName)) ∈ lw_tbl := lw_at lw_m2 18 rfl
theorem q279 : (Jvm.Cond.instanceMethod ({ cls := "ReplayFlowModel", name := "isWait", desc := "(I)Z" } : Jvm.MethodName)) ∈ lw_all := lw_g (lw_at lw_m2 19 rfl) rfl
theorem q280 : (Jvm.Cond.code ({ cls := "ReplayFlowModel", name := "isWait", desc := "(I)Z" } : Jvm.MethodName) prog_3_method_8_code (2 : Nat) (Option.some Jvm.ClassFile.FieldType.boolean)) ∈ lw_all := lw_g (lw_at lw_m2 20 rfl) rfl
theorem q281 : (Jvm.Cond.methodLink "ReplayFlowModel" (72 : Nat) ({ cls := "ReplayFlowModel", name := "end", desc := "(II)V" } : Jvm.MethodName)) ∈ lw_all := lw_g (lw_at lw_m2 21 rfl) rfl
theorem q282 : (Jvm.Cond.privateMethod ({ cls := "ReplayFlowModel", name := "end", desc := "(II)V" } : Jvm.MethodName)) ∈ lw_tbl := lw_at lw_m2 22 rfl
theorem q283 : (Jvm.Cond.instanceMethod ({ cls := "ReplayFlowModel", name := "end", desc := "(II)V" } : Jvm.MethodName)) ∈ lw_all := lw_g (lw_at lw_m2 23 rfl) rfl
theorem q284 : (Jvm.Cond.code ({ cls := "ReplayFlowModel", name := "end", desc := "(II)V" } : Jvm.MethodName) prog_3_method_5_code (3 : Nat) (Option.none : Option Jvm.ClassFile.FieldType)) ∈ lw_all := lw_g (lw_at lw_m2 24 rfl) rfl
theorem q285 : (Jvm.Cond.methodLink "ReplayFlowModel" (76 : Nat) ({ cls := "ReplayFlowModel", name := "waits", desc := "(I)Z" } : Jvm.MethodName)) ∈ lw_all := lw_g (lw_at lw_m2 25 rfl) rfl
theorem q286 : (Jvm.Cond.privateMethod ({ cls := "ReplayFlowModel", name := "waits", desc := "(I)Z" } : Jvm.MethodName)) ∈ lw_tbl := lw_at lw_m2 26 rfl
theorem q287 : (Jvm.Cond.instanceMethod ({ cls := "ReplayFlowModel", name := "waits", desc := "(I)Z" } : Jvm.MethodName)) ∈ lw_all := lw_g (lw_at lw_m2 27 rfl) rfl
theorem q288 : (Jvm.Cond.code ({ cls := "ReplayFlowModel", name := "waits", desc := "(I)Z" } : Jvm.MethodName) prog_3_method_10_code (5 : Nat) (Option.some Jvm.ClassFile.FieldType.boolean)) ∈ lw_all := lw_g (lw_at lw_m2 28 rfl) rfl
theorem q289 : (Jvm.Cond.methodLink "ReplayFlowModel" (85 : Nat) ({ cls := "ReplayFlowModel", name := "firstSignal", desc := "(II)I" } : Jvm.MethodName)) ∈ lw_all := lw_g (lw_at lw_m2 29 rfl) rfl
theorem q290 : (Jvm.Cond.privateMethod ({ cls := "ReplayFlowModel", name := "firstSignal", desc := "(II)I" } : Jvm.MethodName)) ∈ lw_tbl := lw_at lw_m2 30 rfl
theorem q291 : (Jvm.Cond.instanceMethod ({ cls := "ReplayFlowModel", name := "firstSignal", desc := "(II)I" } : Jvm.MethodName)) ∈ lw_all := lw_g (lw_at lw_m2 31 rfl) rfl
theorem q292 : (Jvm.Cond.code ({ cls := "ReplayFlowModel", name := "firstSignal", desc := "(II)I" } : Jvm.MethodName) prog_3_method_6_code (4 : Nat) (Option.some Jvm.ClassFile.FieldType.int)) ∈ lw_all := lw_g (lw_at lw_m2 32 rfl) rfl
theorem q293 : (Jvm.Cond.methodLink "ReplayFlowModel" (89 : Nat) ({ cls := "ReplayFlowModel", name := "pastWait", desc := "(IZI)V" } : Jvm.MethodName)) ∈ lw_all := lw_g (lw_at lw_m2 33 rfl) rfl
theorem q294 : (Jvm.Cond.privateMethod ({ cls := "ReplayFlowModel", name := "pastWait", desc := "(IZI)V" } : Jvm.MethodName)) ∈ lw_tbl := lw_at lw_m2 34 rfl
theorem q295 : (Jvm.Cond.instanceMethod ({ cls := "ReplayFlowModel", name := "pastWait", desc := "(IZI)V" } : Jvm.MethodName)) ∈ lw_all := lw_g (lw_at lw_m2 35 rfl) rfl
theorem q296 : (Jvm.Cond.code ({ cls := "ReplayFlowModel", name := "pastWait", desc := "(IZI)V" } : Jvm.MethodName) prog_3_method_7_code (4 : Nat) (Option.none : Option Jvm.ClassFile.FieldType)) ∈ lw_all := lw_g (lw_at lw_m2 36 rfl) rfl
theorem q297 : (Jvm.Cond.methodLink "ReplayFlowModel" (79 : Nat) ({ cls := "ReplayFlowModel", name := "plain", desc := "(I)V" } : Jvm.MethodName)) ∈ lw_all := lw_g (lw_at lw_m2 37 rfl) rfl
theorem q298 : (Jvm.Cond.privateMethod ({ cls := "ReplayFlowModel", name := "plain", desc := "(I)V" } : Jvm.MethodName)) ∈ lw_tbl := lw_at lw_m2 38 rfl
theorem q299 : (Jvm.Cond.instanceMethod ({ cls := "ReplayFlowModel", name := "plain", desc := "(I)V" } : Jvm.MethodName)) ∈ lw_all := lw_g (lw_at lw_m2 39 rfl) rfl
theorem q300 : (Jvm.Cond.code ({ cls := "ReplayFlowModel", name := "plain", desc := "(I)V" } : Jvm.MethodName) prog_3_method_11_code (6 : Nat) (Option.none : Option Jvm.ClassFile.FieldType)) ∈ lw_all := lw_g (lw_at lw_m2 40 rfl) rfl
theorem q302 : (Jvm.Cond.instanceMethod ({ cls := "ReplayFlowModel", name := "answer", desc := "(II)I" } : Jvm.MethodName)) ∈ lw_all := lw_g (lw_at lw_m2 42 rfl) rfl
theorem q303 : (Jvm.Cond.selects "ReplayFlowModel" ({ cls := "ReplayFlowModel", name := "answer", desc := "(II)I" } : Jvm.MethodName) ({ cls := "ReplayFlowModel", name := "answer", desc := "(II)I" } : Jvm.MethodName)) ∈ lw_all := lw_g (lw_at lw_m2 43 rfl) rfl
theorem q304 : (Jvm.Cond.code ({ cls := "ReplayFlowModel", name := "answer", desc := "(II)I" } : Jvm.MethodName) prog_3_method_12_code (3 : Nat) (Option.some Jvm.ClassFile.FieldType.int)) ∈ lw_all := lw_g (lw_at lw_m2 44 rfl) rfl
theorem q306 : (Jvm.Cond.instanceMethod ({ cls := "ReplayFlowModel", name := "signal", desc := "(III)I" } : Jvm.MethodName)) ∈ lw_all := lw_g (lw_at lw_m2 46 rfl) rfl
theorem q307 : (Jvm.Cond.selects "ReplayFlowModel" ({ cls := "ReplayFlowModel", name := "signal", desc := "(III)I" } : Jvm.MethodName) ({ cls := "ReplayFlowModel", name := "signal", desc := "(III)I" } : Jvm.MethodName)) ∈ lw_all := lw_g (lw_at lw_m2 47 rfl) rfl
theorem q308 : (Jvm.Cond.code ({ cls := "ReplayFlowModel", name := "signal", desc := "(III)I" } : Jvm.MethodName) prog_3_method_13_code (5 : Nat) (Option.some Jvm.ClassFile.FieldType.int)) ∈ lw_all := lw_g (lw_at lw_m2 48 rfl) rfl
theorem q310 : (Jvm.Cond.instanceMethod ({ cls := "ReplayFlowModel", name := "pass", desc := "(I)I" } : Jvm.MethodName)) ∈ lw_all := lw_g (lw_at lw_m2 50 rfl) rfl
theorem q311 : (Jvm.Cond.selects "ReplayFlowModel" ({ cls := "ReplayFlowModel", name := "pass", desc := "(I)I" } : Jvm.MethodName) ({ cls := "ReplayFlowModel", name := "pass", desc := "(I)I" } : Jvm.MethodName)) ∈ lw_all := lw_g (lw_at lw_m2 51 rfl) rfl
theorem q312 : (Jvm.Cond.code ({ cls := "ReplayFlowModel", name := "pass", desc := "(I)I" } : Jvm.MethodName) prog_3_method_14_code (4 : Nat) (Option.some Jvm.ClassFile.FieldType.int)) ∈ lw_all := lw_g (lw_at lw_m2 52 rfl) rfl
theorem q314 : (Jvm.Cond.instanceMethod ({ cls := "ReplayFlowModel", name := "forget", desc := "(I)I" } : Jvm.MethodName)) ∈ lw_all := lw_g (lw_at lw_m2 54 rfl) rfl
theorem q315 : (Jvm.Cond.selects "ReplayFlowModel" ({ cls := "ReplayFlowModel", name := "forget", desc := "(I)I" } : Jvm.MethodName) ({ cls := "ReplayFlowModel", name := "forget", desc := "(I)I" } : Jvm.MethodName)) ∈ lw_all := lw_g (lw_at lw_m2 55 rfl) rfl
theorem q316 : (Jvm.Cond.code ({ cls := "ReplayFlowModel", name := "forget", desc := "(I)I" } : Jvm.MethodName) prog_3_method_15_code (2 : Nat) (Option.some Jvm.ClassFile.FieldType.int)) ∈ lw_all := lw_g (lw_at lw_m2 56 rfl) rfl
theorem q318 : (Jvm.Cond.instanceMethod ({ cls := "ReplayFlowModel", name := "clear", desc := "()V" } : Jvm.MethodName)) ∈ lw_all := lw_g (lw_at lw_m2 58 rfl) rfl
theorem q319 : (Jvm.Cond.selects "ReplayFlowModel" ({ cls := "ReplayFlowModel", name := "clear", desc := "()V" } : Jvm.MethodName) ({ cls := "ReplayFlowModel", name := "clear", desc := "()V" } : Jvm.MethodName)) ∈ lw_all := lw_g (lw_at lw_m2 59 rfl) rfl
theorem q320 : (Jvm.Cond.code ({ cls := "ReplayFlowModel", name := "clear", desc := "()V" } : Jvm.MethodName) prog_3_method_16_code (2 : Nat) (Option.none : Option Jvm.ClassFile.FieldType)) ∈ lw_all := lw_g (lw_at lw_m2 60 rfl) rfl
theorem q322 : (Jvm.Cond.instanceMethod ({ cls := "ReplayFlowModel", name := "state", desc := "(I)I" } : Jvm.MethodName)) ∈ lw_all := lw_g (lw_at lw_m2 62 rfl) rfl
theorem q323 : (Jvm.Cond.selects "ReplayFlowModel" ({ cls := "ReplayFlowModel", name := "state", desc := "(I)I" } : Jvm.MethodName) ({ cls := "ReplayFlowModel", name := "state", desc := "(I)I" } : Jvm.MethodName)) ∈ lw_all := lw_g (lw_at lw_m2 63 rfl) rfl
theorem q324 : (Jvm.Cond.code ({ cls := "ReplayFlowModel", name := "state", desc := "(I)I" } : Jvm.MethodName) prog_3_method_17_code (2 : Nat) (Option.some Jvm.ClassFile.FieldType.int)) ∈ lw_all := lw_g (lw_at lw_m2 64 rfl) rfl
theorem q326 : (Jvm.Cond.instanceMethod ({ cls := "ReplayFlowModel", name := "register", desc := "(II)I" } : Jvm.MethodName)) ∈ lw_all := lw_g (lw_at lw_m2 66 rfl) rfl
theorem q327 : (Jvm.Cond.selects "ReplayFlowModel" ({ cls := "ReplayFlowModel", name := "register", desc := "(II)I" } : Jvm.MethodName) ({ cls := "ReplayFlowModel", name := "register", desc := "(II)I" } : Jvm.MethodName)) ∈ lw_all := lw_g (lw_at lw_m2 67 rfl) rfl
theorem q328 : (Jvm.Cond.code ({ cls := "ReplayFlowModel", name := "register", desc := "(II)I" } : Jvm.MethodName) prog_3_method_18_code (3 : Nat) (Option.some Jvm.ClassFile.FieldType.int)) ∈ lw_all := lw_g (lw_at lw_m2 68 rfl) rfl
theorem q330 : (Jvm.Cond.instanceMethod ({ cls := "ReplayFlowModel", name := "activity", desc := "(I)I" } : Jvm.MethodName)) ∈ lw_all := lw_g (lw_at lw_m2 70 rfl) rfl
theorem q331 : (Jvm.Cond.selects "ReplayFlowModel" ({ cls := "ReplayFlowModel", name := "activity", desc := "(I)I" } : Jvm.MethodName) ({ cls := "ReplayFlowModel", name := "activity", desc := "(I)I" } : Jvm.MethodName)) ∈ lw_all := lw_g (lw_at lw_m2 71 rfl) rfl
theorem q332 : (Jvm.Cond.code ({ cls := "ReplayFlowModel", name := "activity", desc := "(I)I" } : Jvm.MethodName) prog_3_method_19_code (2 : Nat) (Option.some Jvm.ClassFile.FieldType.int)) ∈ lw_all := lw_g (lw_at lw_m2 72 rfl) rfl
theorem q334 : (Jvm.Cond.instanceMethod ({ cls := "ReplayFlowModel", name := "result", desc := "(I)I" } : Jvm.MethodName)) ∈ lw_all := lw_g (lw_at lw_m2 74 rfl) rfl
theorem q335 : (Jvm.Cond.selects "ReplayFlowModel" ({ cls := "ReplayFlowModel", name := "result", desc := "(I)I" } : Jvm.MethodName) ({ cls := "ReplayFlowModel", name := "result", desc := "(I)I" } : Jvm.MethodName)) ∈ lw_all := lw_g (lw_at lw_m2 75 rfl) rfl
theorem q336 : (Jvm.Cond.code ({ cls := "ReplayFlowModel", name := "result", desc := "(I)I" } : Jvm.MethodName) prog_3_method_20_code (2 : Nat) (Option.some Jvm.ClassFile.FieldType.int)) ∈ lw_all := lw_g (lw_at lw_m2 76 rfl) rfl
theorem q338 : (Jvm.Cond.instanceMethod ({ cls := "ReplayFlowModel", name := "untaken", desc := "(I)I" } : Jvm.MethodName)) ∈ lw_all := lw_g (lw_at lw_m2 78 rfl) rfl
theorem q339 : (Jvm.Cond.selects "ReplayFlowModel" ({ cls := "ReplayFlowModel", name := "untaken", desc := "(I)I" } : Jvm.MethodName) ({ cls := "ReplayFlowModel", name := "untaken", desc := "(I)I" } : Jvm.MethodName)) ∈ lw_all := lw_g (lw_at lw_m2 79 rfl) rfl
theorem q340 : (Jvm.Cond.code ({ cls := "ReplayFlowModel", name := "untaken", desc := "(I)I" } : Jvm.MethodName) prog_3_method_21_code (4 : Nat) (Option.some Jvm.ClassFile.FieldType.int)) ∈ lw_all := lw_g (lw_at lw_m2 80 rfl) rfl
theorem q342 : (Jvm.Cond.instanceMethod ({ cls := "ReplayFlowModel", name := "time", desc := "()I" } : Jvm.MethodName)) ∈ lw_all := lw_g (lw_at lw_m2 82 rfl) rfl
theorem q343 : (Jvm.Cond.selects "ReplayFlowModel" ({ cls := "ReplayFlowModel", name := "time", desc := "()I" } : Jvm.MethodName) ({ cls := "ReplayFlowModel", name := "time", desc := "()I" } : Jvm.MethodName)) ∈ lw_all := lw_g (lw_at lw_m2 83 rfl) rfl
theorem q344 : (Jvm.Cond.code ({ cls := "ReplayFlowModel", name := "time", desc := "()I" } : Jvm.MethodName) prog_3_method_22_code (1 : Nat) (Option.some Jvm.ClassFile.FieldType.int)) ∈ lw_all := lw_g (lw_at lw_m2 84 rfl) rfl
theorem in_X1 : ∀ w ∈ wsX10, w ∈ lw_all := lw_in wsX10 [226, 228, 230, 232, 234, 236, 238, 240, 242, 244, 246, 248, 250, 252, 254, 256, 258] (by decide +kernel) (by decide +kernel)
end
section
/-! the law's own entry -/
set_option maxRecDepth 100000
abbrev cL_law : ByteArray := code
theorem dL_law_0 : decode cL_law 0 = .ok (.new 7, 3) := by decide +kernel
theorem dL_law_3 : decode cL_law 3 = .ok (.dup, 1) := by decide +kernel
theorem dL_law_4 : decode cL_law 4 = .ok (.invokespecial 9, 3) := by decide +kernel
theorem dL_law_7 : decode cL_law 7 = .ok (.astore_n 1, 1) := by decide +kernel
theorem dL_law_8 : decode cL_law 8 = .ok (.new 10, 3) := by decide +kernel
theorem dL_law_11 : decode cL_law 11 = .ok (.dup, 1) := by decide +kernel
theorem dL_law_12 : decode cL_law 12 = .ok (.invokespecial 12, 3) := by decide +kernel
theorem dL_law_15 : decode cL_law 15 = .ok (.astore_n 2, 1) := by decide +kernel
theorem dL_law_16 : decode cL_law 16 = .ok (.iconst 0, 1) := by decide +kernel
theorem dL_law_17 : decode cL_law 17 = .ok (.istore_n 3, 1) := by decide +kernel
theorem dL_law_18 : decode cL_law 18 = .ok (.iload_n 3, 1) := by decide +kernel
theorem dL_law_19 : decode cL_law 19 = .ok (.aload_n 0, 1) := by decide +kernel
theorem dL_law_20 : decode cL_law 20 = .ok (.arraylength, 1) := by decide +kernel
theorem dL_law_21 : decode cL_law 21 = .ok (.iconst 4, 1) := by decide +kernel
theorem dL_law_22 : decode cL_law 22 = .ok (.isub, 1) := by decide +kernel
theorem dL_law_23 : decode cL_law 23 = .ok (.if_icmp .gt 430, 3) := by decide +kernel
theorem dL_law_26 : decode cL_law 26 = .ok (.aload_n 0, 1) := by decide +kernel
theorem dL_law_27 : decode cL_law 27 = .ok (.iload_n 3, 1) := by decide +kernel
theorem dL_law_28 : decode cL_law 28 = .ok (.iaload, 1) := by decide +kernel
theorem dL_law_29 : decode cL_law 29 = .ok (.bipush 15, 2) := by decide +kernel
theorem dL_law_31 : decode cL_law 31 = .ok (.iand, 1) := by decide +kernel
theorem dL_law_32 : decode cL_law 32 = .ok (.tableswitch 415 0 12 #[68, 111, 144, 177, 220, 243, 266, 277, 300, 333, 356, 379, 402], 68) := by decide +kernel
theorem dL_law_100 : decode cL_law 100 = .ok (.aload_n 1, 1) := by decide +kernel
theorem dL_law_101 : decode cL_law 101 = .ok (.aload_n 0, 1) := by decide +kernel
theorem dL_law_102 : decode cL_law 102 = .ok (.iload_n 3, 1) := by decide +kernel
theorem dL_law_103 : decode cL_law 103 = .ok (.iconst 1, 1) := by decide +kernel
theorem dL_law_104 : decode cL_law 104 = .ok (.iadd, 1) := by decide +kernel
theorem dL_law_105 : decode cL_law 105 = .ok (.iaload, 1) := by decide +kernel
theorem dL_law_106 : decode cL_law 106 = .ok (.aload_n 0, 1) := by decide +kernel
theorem dL_law_107 : decode cL_law 107 = .ok (.iload_n 3, 1) := by decide +kernel
theorem dL_law_108 : decode cL_law 108 = .ok (.iconst 2, 1) := by decide +kernel
theorem dL_law_109 : decode cL_law 109 = .ok (.iadd, 1) := by decide +kernel
theorem dL_law_110 : decode cL_law 110 = .ok (.iaload, 1) := by decide +kernel
theorem dL_law_111 : decode cL_law 111 = .ok (.aload_n 0, 1) := by decide +kernel
theorem dL_law_112 : decode cL_law 112 = .ok (.iload_n 3, 1) := by decide +kernel
theorem dL_law_113 : decode cL_law 113 = .ok (.iconst 3, 1) := by decide +kernel
theorem dL_law_114 : decode cL_law 114 = .ok (.iadd, 1) := by decide +kernel
theorem dL_law_115 : decode cL_law 115 = .ok (.iaload, 1) := by decide +kernel
theorem dL_law_116 : decode cL_law 116 = .ok (.invokevirtual 13, 3) := by decide +kernel
theorem dL_law_119 : decode cL_law 119 = .ok (.aload_n 2, 1) := by decide +kernel
theorem dL_law_120 : decode cL_law 120 = .ok (.aload_n 0, 1) := by decide +kernel
theorem dL_law_121 : decode cL_law 121 = .ok (.iload_n 3, 1) := by decide +kernel
theorem dL_law_122 : decode cL_law 122 = .ok (.iconst 1, 1) := by decide +kernel
theorem dL_law_123 : decode cL_law 123 = .ok (.iadd, 1) := by decide +kernel
theorem dL_law_124 : decode cL_law 124 = .ok (.iaload, 1) := by decide +kernel
theorem dL_law_125 : decode cL_law 125 = .ok (.aload_n 0, 1) := by decide +kernel
theorem dL_law_126 : decode cL_law 126 = .ok (.iload_n 3, 1) := by decide +kernel
theorem dL_law_127 : decode cL_law 127 = .ok (.iconst 2, 1) := by decide +kernel
theorem dL_law_128 : decode cL_law 128 = .ok (.iadd, 1) := by decide +kernel
theorem dL_law_129 : decode cL_law 129 = .ok (.iaload, 1) := by decide +kernel
theorem dL_law_130 : decode cL_law 130 = .ok (.aload_n 0, 1) := by decide +kernel
theorem dL_law_131 : decode cL_law 131 = .ok (.iload_n 3, 1) := by decide +kernel
theorem dL_law_132 : decode cL_law 132 = .ok (.iconst 3, 1) := by decide +kernel
theorem dL_law_133 : decode cL_law 133 = .ok (.iadd, 1) := by decide +kernel
theorem dL_law_134 : decode cL_law 134 = .ok (.iaload, 1) := by decide +kernel
theorem dL_law_135 : decode cL_law 135 = .ok (.invokevirtual 17, 3) := by decide +kernel
theorem dL_law_138 : decode cL_law 138 = .ok (.if_icmp .eq 309, 3) := by decide +kernel
theorem dL_law_141 : decode cL_law 141 = .ok (.iconst 0, 1) := by decide +kernel
theorem dL_law_142 : decode cL_law 142 = .ok (.ireturn, 1) := by decide +kernel
theorem dL_law_143 : decode cL_law 143 = .ok (.aload_n 1, 1) := by decide +kernel
theorem dL_law_144 : decode cL_law 144 = .ok (.aload_n 0, 1) := by decide +kernel
theorem dL_law_145 : decode cL_law 145 = .ok (.iload_n 3, 1) := by decide +kernel
theorem dL_law_146 : decode cL_law 146 = .ok (.iconst 1, 1) := by decide +kernel
theorem dL_law_147 : decode cL_law 147 = .ok (.iadd, 1) := by decide +kernel
theorem dL_law_148 : decode cL_law 148 = .ok (.iaload, 1) := by decide +kernel
theorem dL_law_149 : decode cL_law 149 = .ok (.aload_n 0, 1) := by decide +kernel
theorem dL_law_150 : decode cL_law 150 = .ok (.iload_n 3, 1) := by decide +kernel
theorem dL_law_151 : decode cL_law 151 = .ok (.iconst 2, 1) := by decide +kernel
theorem dL_law_152 : decode cL_law 152 = .ok (.iadd, 1) := by decide +kernel
theorem dL_law_153 : decode cL_law 153 = .ok (.iaload, 1) := by decide +kernel
theorem dL_law_154 : decode cL_law 154 = .ok (.invokevirtual 18, 3) := by decide +kernel
theorem dL_law_157 : decode cL_law 157 = .ok (.aload_n 2, 1) := by decide +kernel
theorem dL_law_158 : decode cL_law 158 = .ok (.aload_n 0, 1) := by decide +kernel
theorem dL_law_159 : decode cL_law 159 = .ok (.iload_n 3, 1) := by decide +kernel
theorem dL_law_160 : decode cL_law 160 = .ok (.iconst 1, 1) := by decide +kernel
theorem dL_law_161 : decode cL_law 161 = .ok (.iadd, 1) := by decide +kernel
theorem dL_law_162 : decode cL_law 162 = .ok (.iaload, 1) := by decide +kernel
theorem dL_law_163 : decode cL_law 163 = .ok (.aload_n 0, 1) := by decide +kernel
theorem dL_law_164 : decode cL_law 164 = .ok (.iload_n 3, 1) := by decide +kernel
theorem dL_law_165 : decode cL_law 165 = .ok (.iconst 2, 1) := by decide +kernel
theorem dL_law_166 : decode cL_law 166 = .ok (.iadd, 1) := by decide +kernel
theorem dL_law_167 : decode cL_law 167 = .ok (.iaload, 1) := by decide +kernel
theorem dL_law_168 : decode cL_law 168 = .ok (.invokevirtual 22, 3) := by decide +kernel
theorem dL_law_171 : decode cL_law 171 = .ok (.if_icmp .eq 276, 3) := by decide +kernel
theorem dL_law_174 : decode cL_law 174 = .ok (.iconst 0, 1) := by decide +kernel
theorem dL_law_175 : decode cL_law 175 = .ok (.ireturn, 1) := by decide +kernel
theorem dL_law_176 : decode cL_law 176 = .ok (.aload_n 1, 1) := by decide +kernel
theorem dL_law_177 : decode cL_law 177 = .ok (.aload_n 0, 1) := by decide +kernel
theorem dL_law_178 : decode cL_law 178 = .ok (.iload_n 3, 1) := by decide +kernel
theorem dL_law_179 : decode cL_law 179 = .ok (.iconst 1, 1) := by decide +kernel
theorem dL_law_180 : decode cL_law 180 = .ok (.iadd, 1) := by decide +kernel
theorem dL_law_181 : decode cL_law 181 = .ok (.iaload, 1) := by decide +kernel
theorem dL_law_182 : decode cL_law 182 = .ok (.aload_n 0, 1) := by decide +kernel
theorem dL_law_183 : decode cL_law 183 = .ok (.iload_n 3, 1) := by decide +kernel
theorem dL_law_184 : decode cL_law 184 = .ok (.iconst 2, 1) := by decide +kernel
theorem dL_law_185 : decode cL_law 185 = .ok (.iadd, 1) := by decide +kernel
theorem dL_law_186 : decode cL_law 186 = .ok (.iaload, 1) := by decide +kernel
theorem dL_law_187 : decode cL_law 187 = .ok (.invokevirtual 23, 3) := by decide +kernel
theorem dL_law_190 : decode cL_law 190 = .ok (.aload_n 2, 1) := by decide +kernel
theorem dL_law_191 : decode cL_law 191 = .ok (.aload_n 0, 1) := by decide +kernel
theorem dL_law_192 : decode cL_law 192 = .ok (.iload_n 3, 1) := by decide +kernel
theorem dL_law_193 : decode cL_law 193 = .ok (.iconst 1, 1) := by decide +kernel
theorem dL_law_194 : decode cL_law 194 = .ok (.iadd, 1) := by decide +kernel
theorem dL_law_195 : decode cL_law 195 = .ok (.iaload, 1) := by decide +kernel
theorem dL_law_196 : decode cL_law 196 = .ok (.aload_n 0, 1) := by decide +kernel
theorem dL_law_197 : decode cL_law 197 = .ok (.iload_n 3, 1) := by decide +kernel
theorem dL_law_198 : decode cL_law 198 = .ok (.iconst 2, 1) := by decide +kernel
theorem dL_law_199 : decode cL_law 199 = .ok (.iadd, 1) := by decide +kernel
theorem dL_law_200 : decode cL_law 200 = .ok (.iaload, 1) := by decide +kernel
theorem dL_law_201 : decode cL_law 201 = .ok (.invokevirtual 26, 3) := by decide +kernel
theorem dL_law_204 : decode cL_law 204 = .ok (.if_icmp .eq 243, 3) := by decide +kernel
theorem dL_law_207 : decode cL_law 207 = .ok (.iconst 0, 1) := by decide +kernel
theorem dL_law_208 : decode cL_law 208 = .ok (.ireturn, 1) := by decide +kernel
theorem dL_law_209 : decode cL_law 209 = .ok (.aload_n 1, 1) := by decide +kernel
theorem dL_law_210 : decode cL_law 210 = .ok (.aload_n 0, 1) := by decide +kernel
theorem dL_law_211 : decode cL_law 211 = .ok (.iload_n 3, 1) := by decide +kernel
theorem dL_law_212 : decode cL_law 212 = .ok (.iconst 1, 1) := by decide +kernel
theorem dL_law_213 : decode cL_law 213 = .ok (.iadd, 1) := by decide +kernel
theorem dL_law_214 : decode cL_law 214 = .ok (.iaload, 1) := by decide +kernel
theorem dL_law_215 : decode cL_law 215 = .ok (.aload_n 0, 1) := by decide +kernel
theorem dL_law_216 : decode cL_law 216 = .ok (.iload_n 3, 1) := by decide +kernel
theorem dL_law_217 : decode cL_law 217 = .ok (.iconst 2, 1) := by decide +kernel
theorem dL_law_218 : decode cL_law 218 = .ok (.iadd, 1) := by decide +kernel
theorem dL_law_219 : decode cL_law 219 = .ok (.iaload, 1) := by decide +kernel
theorem dL_law_220 : decode cL_law 220 = .ok (.aload_n 0, 1) := by decide +kernel
theorem dL_law_221 : decode cL_law 221 = .ok (.iload_n 3, 1) := by decide +kernel
theorem dL_law_222 : decode cL_law 222 = .ok (.iconst 3, 1) := by decide +kernel
theorem dL_law_223 : decode cL_law 223 = .ok (.iadd, 1) := by decide +kernel
theorem dL_law_224 : decode cL_law 224 = .ok (.iaload, 1) := by decide +kernel
theorem dL_law_225 : decode cL_law 225 = .ok (.invokevirtual 27, 3) := by decide +kernel
theorem dL_law_228 : decode cL_law 228 = .ok (.aload_n 2, 1) := by decide +kernel
theorem dL_law_229 : decode cL_law 229 = .ok (.aload_n 0, 1) := by decide +kernel
theorem dL_law_230 : decode cL_law 230 = .ok (.iload_n 3, 1) := by decide +kernel
theorem dL_law_231 : decode cL_law 231 = .ok (.iconst 1, 1) := by decide +kernel
theorem dL_law_232 : decode cL_law 232 = .ok (.iadd, 1) := by decide +kernel
theorem dL_law_233 : decode cL_law 233 = .ok (.iaload, 1) := by decide +kernel
theorem dL_law_234 : decode cL_law 234 = .ok (.aload_n 0, 1) := by decide +kernel
theorem dL_law_235 : decode cL_law 235 = .ok (.iload_n 3, 1) := by decide +kernel
theorem dL_law_236 : decode cL_law 236 = .ok (.iconst 2, 1) := by decide +kernel
theorem dL_law_237 : decode cL_law 237 = .ok (.iadd, 1) := by decide +kernel
theorem dL_law_238 : decode cL_law 238 = .ok (.iaload, 1) := by decide +kernel
theorem dL_law_239 : decode cL_law 239 = .ok (.aload_n 0, 1) := by decide +kernel
theorem dL_law_240 : decode cL_law 240 = .ok (.iload_n 3, 1) := by decide +kernel
theorem dL_law_241 : decode cL_law 241 = .ok (.iconst 3, 1) := by decide +kernel
theorem dL_law_242 : decode cL_law 242 = .ok (.iadd, 1) := by decide +kernel
theorem dL_law_243 : decode cL_law 243 = .ok (.iaload, 1) := by decide +kernel
theorem dL_law_244 : decode cL_law 244 = .ok (.invokevirtual 30, 3) := by decide +kernel
theorem dL_law_247 : decode cL_law 247 = .ok (.if_icmp .eq 200, 3) := by decide +kernel
theorem dL_law_250 : decode cL_law 250 = .ok (.iconst 0, 1) := by decide +kernel
theorem dL_law_251 : decode cL_law 251 = .ok (.ireturn, 1) := by decide +kernel
theorem dL_law_252 : decode cL_law 252 = .ok (.aload_n 1, 1) := by decide +kernel
theorem dL_law_253 : decode cL_law 253 = .ok (.aload_n 0, 1) := by decide +kernel
theorem dL_law_254 : decode cL_law 254 = .ok (.iload_n 3, 1) := by decide +kernel
theorem dL_law_255 : decode cL_law 255 = .ok (.iconst 1, 1) := by decide +kernel
theorem dL_law_256 : decode cL_law 256 = .ok (.iadd, 1) := by decide +kernel
theorem dL_law_257 : decode cL_law 257 = .ok (.iaload, 1) := by decide +kernel
theorem dL_law_258 : decode cL_law 258 = .ok (.invokevirtual 31, 3) := by decide +kernel
theorem dL_law_261 : decode cL_law 261 = .ok (.aload_n 2, 1) := by decide +kernel
theorem dL_law_262 : decode cL_law 262 = .ok (.aload_n 0, 1) := by decide +kernel
theorem dL_law_263 : decode cL_law 263 = .ok (.iload_n 3, 1) := by decide +kernel
theorem dL_law_264 : decode cL_law 264 = .ok (.iconst 1, 1) := by decide +kernel
theorem dL_law_265 : decode cL_law 265 = .ok (.iadd, 1) := by decide +kernel
theorem dL_law_266 : decode cL_law 266 = .ok (.iaload, 1) := by decide +kernel
theorem dL_law_267 : decode cL_law 267 = .ok (.invokevirtual 35, 3) := by decide +kernel
theorem dL_law_270 : decode cL_law 270 = .ok (.if_icmp .eq 177, 3) := by decide +kernel
theorem dL_law_273 : decode cL_law 273 = .ok (.iconst 0, 1) := by decide +kernel
theorem dL_law_274 : decode cL_law 274 = .ok (.ireturn, 1) := by decide +kernel
theorem dL_law_275 : decode cL_law 275 = .ok (.aload_n 1, 1) := by decide +kernel
theorem dL_law_276 : decode cL_law 276 = .ok (.aload_n 0, 1) := by decide +kernel
theorem dL_law_277 : decode cL_law 277 = .ok (.iload_n 3, 1) := by decide +kernel
theorem dL_law_278 : decode cL_law 278 = .ok (.iconst 1, 1) := by decide +kernel
theorem dL_law_279 : decode cL_law 279 = .ok (.iadd, 1) := by decide +kernel
theorem dL_law_280 : decode cL_law 280 = .ok (.iaload, 1) := by decide +kernel
theorem dL_law_281 : decode cL_law 281 = .ok (.invokevirtual 36, 3) := by decide +kernel
theorem dL_law_284 : decode cL_law 284 = .ok (.aload_n 2, 1) := by decide +kernel
theorem dL_law_285 : decode cL_law 285 = .ok (.aload_n 0, 1) := by decide +kernel
theorem dL_law_286 : decode cL_law 286 = .ok (.iload_n 3, 1) := by decide +kernel
theorem dL_law_287 : decode cL_law 287 = .ok (.iconst 1, 1) := by decide +kernel
theorem dL_law_288 : decode cL_law 288 = .ok (.iadd, 1) := by decide +kernel
theorem dL_law_289 : decode cL_law 289 = .ok (.iaload, 1) := by decide +kernel
theorem dL_law_290 : decode cL_law 290 = .ok (.invokevirtual 39, 3) := by decide +kernel
theorem dL_law_293 : decode cL_law 293 = .ok (.if_icmp .eq 154, 3) := by decide +kernel
theorem dL_law_296 : decode cL_law 296 = .ok (.iconst 0, 1) := by decide +kernel
theorem dL_law_297 : decode cL_law 297 = .ok (.ireturn, 1) := by decide +kernel
theorem dL_law_298 : decode cL_law 298 = .ok (.aload_n 1, 1) := by decide +kernel
theorem dL_law_299 : decode cL_law 299 = .ok (.invokevirtual 40, 3) := by decide +kernel
theorem dL_law_302 : decode cL_law 302 = .ok (.aload_n 2, 1) := by decide +kernel
theorem dL_law_303 : decode cL_law 303 = .ok (.invokevirtual 43, 3) := by decide +kernel
theorem dL_law_306 : decode cL_law 306 = .ok (.goto 141, 3) := by decide +kernel
theorem dL_law_309 : decode cL_law 309 = .ok (.aload_n 1, 1) := by decide +kernel
theorem dL_law_310 : decode cL_law 310 = .ok (.aload_n 0, 1) := by decide +kernel
theorem dL_law_311 : decode cL_law 311 = .ok (.iload_n 3, 1) := by decide +kernel
theorem dL_law_312 : decode cL_law 312 = .ok (.iconst 1, 1) := by decide +kernel
theorem dL_law_313 : decode cL_law 313 = .ok (.iadd, 1) := by decide +kernel
theorem dL_law_314 : decode cL_law 314 = .ok (.iaload, 1) := by decide +kernel
theorem dL_law_315 : decode cL_law 315 = .ok (.invokevirtual 44, 3) := by decide +kernel
theorem dL_law_318 : decode cL_law 318 = .ok (.aload_n 2, 1) := by decide +kernel
theorem dL_law_319 : decode cL_law 319 = .ok (.aload_n 0, 1) := by decide +kernel
theorem dL_law_320 : decode cL_law 320 = .ok (.iload_n 3, 1) := by decide +kernel
theorem dL_law_321 : decode cL_law 321 = .ok (.iconst 1, 1) := by decide +kernel
theorem dL_law_322 : decode cL_law 322 = .ok (.iadd, 1) := by decide +kernel
theorem dL_law_323 : decode cL_law 323 = .ok (.iaload, 1) := by decide +kernel
theorem dL_law_324 : decode cL_law 324 = .ok (.invokevirtual 47, 3) := by decide +kernel
theorem dL_law_327 : decode cL_law 327 = .ok (.if_icmp .eq 120, 3) := by decide +kernel
theorem dL_law_330 : decode cL_law 330 = .ok (.iconst 0, 1) := by decide +kernel
theorem dL_law_331 : decode cL_law 331 = .ok (.ireturn, 1) := by decide +kernel
theorem dL_law_332 : decode cL_law 332 = .ok (.aload_n 1, 1) := by decide +kernel
theorem dL_law_333 : decode cL_law 333 = .ok (.aload_n 0, 1) := by decide +kernel
theorem dL_law_334 : decode cL_law 334 = .ok (.iload_n 3, 1) := by decide +kernel
theorem dL_law_335 : decode cL_law 335 = .ok (.iconst 1, 1) := by decide +kernel
theorem dL_law_336 : decode cL_law 336 = .ok (.iadd, 1) := by decide +kernel
theorem dL_law_337 : decode cL_law 337 = .ok (.iaload, 1) := by decide +kernel
theorem dL_law_338 : decode cL_law 338 = .ok (.aload_n 0, 1) := by decide +kernel
theorem dL_law_339 : decode cL_law 339 = .ok (.iload_n 3, 1) := by decide +kernel
theorem dL_law_340 : decode cL_law 340 = .ok (.iconst 2, 1) := by decide +kernel
theorem dL_law_341 : decode cL_law 341 = .ok (.iadd, 1) := by decide +kernel
theorem dL_law_342 : decode cL_law 342 = .ok (.iaload, 1) := by decide +kernel
theorem dL_law_343 : decode cL_law 343 = .ok (.invokevirtual 48, 3) := by decide +kernel
theorem dL_law_346 : decode cL_law 346 = .ok (.aload_n 2, 1) := by decide +kernel
theorem dL_law_347 : decode cL_law 347 = .ok (.aload_n 0, 1) := by decide +kernel
theorem dL_law_348 : decode cL_law 348 = .ok (.iload_n 3, 1) := by decide +kernel
theorem dL_law_349 : decode cL_law 349 = .ok (.iconst 1, 1) := by decide +kernel
theorem dL_law_350 : decode cL_law 350 = .ok (.iadd, 1) := by decide +kernel
theorem dL_law_351 : decode cL_law 351 = .ok (.iaload, 1) := by decide +kernel
theorem dL_law_352 : decode cL_law 352 = .ok (.aload_n 0, 1) := by decide +kernel
theorem dL_law_353 : decode cL_law 353 = .ok (.iload_n 3, 1) := by decide +kernel
theorem dL_law_354 : decode cL_law 354 = .ok (.iconst 2, 1) := by decide +kernel
theorem dL_law_355 : decode cL_law 355 = .ok (.iadd, 1) := by decide +kernel
theorem dL_law_356 : decode cL_law 356 = .ok (.iaload, 1) := by decide +kernel
theorem dL_law_357 : decode cL_law 357 = .ok (.invokevirtual 51, 3) := by decide +kernel
theorem dL_law_360 : decode cL_law 360 = .ok (.if_icmp .eq 87, 3) := by decide +kernel
theorem dL_law_363 : decode cL_law 363 = .ok (.iconst 0, 1) := by decide +kernel
theorem dL_law_364 : decode cL_law 364 = .ok (.ireturn, 1) := by decide +kernel
theorem dL_law_365 : decode cL_law 365 = .ok (.aload_n 1, 1) := by decide +kernel
theorem dL_law_366 : decode cL_law 366 = .ok (.aload_n 0, 1) := by decide +kernel
theorem dL_law_367 : decode cL_law 367 = .ok (.iload_n 3, 1) := by decide +kernel
theorem dL_law_368 : decode cL_law 368 = .ok (.iconst 1, 1) := by decide +kernel
theorem dL_law_369 : decode cL_law 369 = .ok (.iadd, 1) := by decide +kernel
theorem dL_law_370 : decode cL_law 370 = .ok (.iaload, 1) := by decide +kernel
theorem dL_law_371 : decode cL_law 371 = .ok (.invokevirtual 52, 3) := by decide +kernel
theorem dL_law_374 : decode cL_law 374 = .ok (.aload_n 2, 1) := by decide +kernel
theorem dL_law_375 : decode cL_law 375 = .ok (.aload_n 0, 1) := by decide +kernel
theorem dL_law_376 : decode cL_law 376 = .ok (.iload_n 3, 1) := by decide +kernel
theorem dL_law_377 : decode cL_law 377 = .ok (.iconst 1, 1) := by decide +kernel
theorem dL_law_378 : decode cL_law 378 = .ok (.iadd, 1) := by decide +kernel
theorem dL_law_379 : decode cL_law 379 = .ok (.iaload, 1) := by decide +kernel
theorem dL_law_380 : decode cL_law 380 = .ok (.invokevirtual 55, 3) := by decide +kernel
theorem dL_law_383 : decode cL_law 383 = .ok (.if_icmp .eq 64, 3) := by decide +kernel
theorem dL_law_386 : decode cL_law 386 = .ok (.iconst 0, 1) := by decide +kernel
theorem dL_law_387 : decode cL_law 387 = .ok (.ireturn, 1) := by decide +kernel
theorem dL_law_388 : decode cL_law 388 = .ok (.aload_n 1, 1) := by decide +kernel
theorem dL_law_389 : decode cL_law 389 = .ok (.aload_n 0, 1) := by decide +kernel
theorem dL_law_390 : decode cL_law 390 = .ok (.iload_n 3, 1) := by decide +kernel
theorem dL_law_391 : decode cL_law 391 = .ok (.iconst 1, 1) := by decide +kernel
theorem dL_law_392 : decode cL_law 392 = .ok (.iadd, 1) := by decide +kernel
theorem dL_law_393 : decode cL_law 393 = .ok (.iaload, 1) := by decide +kernel
theorem dL_law_394 : decode cL_law 394 = .ok (.invokevirtual 56, 3) := by decide +kernel
theorem dL_law_397 : decode cL_law 397 = .ok (.aload_n 2, 1) := by decide +kernel
theorem dL_law_398 : decode cL_law 398 = .ok (.aload_n 0, 1) := by decide +kernel
theorem dL_law_399 : decode cL_law 399 = .ok (.iload_n 3, 1) := by decide +kernel
theorem dL_law_400 : decode cL_law 400 = .ok (.iconst 1, 1) := by decide +kernel
theorem dL_law_401 : decode cL_law 401 = .ok (.iadd, 1) := by decide +kernel
theorem dL_law_402 : decode cL_law 402 = .ok (.iaload, 1) := by decide +kernel
theorem dL_law_403 : decode cL_law 403 = .ok (.invokevirtual 59, 3) := by decide +kernel
theorem dL_law_406 : decode cL_law 406 = .ok (.if_icmp .eq 41, 3) := by decide +kernel
theorem dL_law_409 : decode cL_law 409 = .ok (.iconst 0, 1) := by decide +kernel
theorem dL_law_410 : decode cL_law 410 = .ok (.ireturn, 1) := by decide +kernel
theorem dL_law_411 : decode cL_law 411 = .ok (.aload_n 1, 1) := by decide +kernel
theorem dL_law_412 : decode cL_law 412 = .ok (.aload_n 0, 1) := by decide +kernel
theorem dL_law_413 : decode cL_law 413 = .ok (.iload_n 3, 1) := by decide +kernel
theorem dL_law_414 : decode cL_law 414 = .ok (.iconst 1, 1) := by decide +kernel
theorem dL_law_415 : decode cL_law 415 = .ok (.iadd, 1) := by decide +kernel
theorem dL_law_416 : decode cL_law 416 = .ok (.iaload, 1) := by decide +kernel
theorem dL_law_417 : decode cL_law 417 = .ok (.invokevirtual 60, 3) := by decide +kernel
theorem dL_law_420 : decode cL_law 420 = .ok (.aload_n 2, 1) := by decide +kernel
theorem dL_law_421 : decode cL_law 421 = .ok (.aload_n 0, 1) := by decide +kernel
theorem dL_law_422 : decode cL_law 422 = .ok (.iload_n 3, 1) := by decide +kernel
theorem dL_law_423 : decode cL_law 423 = .ok (.iconst 1, 1) := by decide +kernel
theorem dL_law_424 : decode cL_law 424 = .ok (.iadd, 1) := by decide +kernel
theorem dL_law_425 : decode cL_law 425 = .ok (.iaload, 1) := by decide +kernel
theorem dL_law_426 : decode cL_law 426 = .ok (.invokevirtual 63, 3) := by decide +kernel
theorem dL_law_429 : decode cL_law 429 = .ok (.if_icmp .eq 18, 3) := by decide +kernel
theorem dL_law_432 : decode cL_law 432 = .ok (.iconst 0, 1) := by decide +kernel
theorem dL_law_433 : decode cL_law 433 = .ok (.ireturn, 1) := by decide +kernel
theorem dL_law_434 : decode cL_law 434 = .ok (.aload_n 1, 1) := by decide +kernel
theorem dL_law_435 : decode cL_law 435 = .ok (.invokevirtual 64, 3) := by decide +kernel
theorem dL_law_438 : decode cL_law 438 = .ok (.aload_n 2, 1) := by decide +kernel
theorem dL_law_439 : decode cL_law 439 = .ok (.invokevirtual 68, 3) := by decide +kernel
theorem dL_law_442 : decode cL_law 442 = .ok (.if_icmp .eq 5, 3) := by decide +kernel
theorem dL_law_445 : decode cL_law 445 = .ok (.iconst 0, 1) := by decide +kernel
theorem dL_law_446 : decode cL_law 446 = .ok (.ireturn, 1) := by decide +kernel
theorem dL_law_447 : decode cL_law 447 = .ok (.iinc 3 4, 3) := by decide +kernel
theorem dL_law_450 : decode cL_law 450 = .ok (.goto (-432), 3) := by decide +kernel
theorem dL_law_453 : decode cL_law 453 = .ok (.iconst 1, 1) := by decide +kernel
theorem dL_law_454 : decode cL_law 454 = .ok (.ireturn, 1) := by decide +kernel
end
section
/-! worlds of ONE object with its int and boolean arrays: memory σ a i: array a (0: the object's own numbers), place i -/
abbrev rf_Mem : Type := Nat → Nat → Int32
def rf_wr (σ : rf_Mem) (a i : Nat) (v : Int32) : rf_Mem := fun b => if b = a then upd (σ b) i v else σ b
theorem rf_wr_same (σ : rf_Mem) (a i : Nat) (v : Int32) : rf_wr σ a i v a = upd (σ a) i v := by simp [rf_wr]
theorem rf_wr_ne (σ : rf_Mem) {a b : Nat} (i : Nat) (v : Int32) (h : b ≠ a) : rf_wr σ a i v b = σ b := by simp [rf_wr, h]
theorem rf_wr_at (σ : rf_Mem) (a i b j : Nat) (v : Int32) : rf_wr σ a i v b j = if b = a ∧ j = i then v else σ b j := by
  by_cases h : b = a
  · subst h
    by_cases h2 : j = i
    · simp [rf_wr, upd, h2]
    · simp [rf_wr, upd, h2]
  · simp [rf_wr, h]
/-- a shape: how many arrays, how long, of what type, the class's number, its fields out of addresses and numbers -/
abbrev rf_Sh : Type := Nat × (Nat → Nat) × (Nat → FieldType) × Nat × ((Nat → Nat) → (Nat → Int32) → List Value)
def rf_ow (S : rf_Sh) (g : Nat → Nat) (ca : Nat → ClassId) (σ : rf_Mem) : va_W := (g 0, .inr (S.2.2.2.1, S.2.2.2.2 g (σ 0))) :: (List.range S.1).map (fun j => (g (j + 1), .inl (ca (j + 1), S.2.1 (j + 1), .inl (σ (j + 1)))))
def rf_ty (S : rf_Sh) (ca : Nat → ClassId) : List (ClassId × FieldType) := (List.range S.1).map (fun j => (ca (j + 1), S.2.2.1 (j + 1)))
def rf_A (S : rf_Sh) (g : Nat → Nat) : Nat → Prop := fun q => ∃ j, j ≤ S.1 ∧ q = g j
def rf_g (S : rf_Sh) (g : Nat → Nat) : Prop := ∀ i j, i ≤ S.1 → j ≤ S.1 → g i = g j → i = j
def rf_J (D : va_G) (cl : List vw_C) (S : rf_Sh) (g : Nat → Nat) (ca : Nat → ClassId) (σ : rf_Mem) (U : State) : Prop := va_K D cl (rf_ty S ca) U ∧ va_P D cl (rf_ow S g ca σ) U.heap
def rf_w (D : va_G) (cl : List vw_C) (S : rf_Sh) (g : Nat → Nat) (ca : Nat → ClassId) (σ : rf_Mem) (A : Nat → Prop) (s : State) (H : Heap) (locs : List Loc) : Prop := va_K D cl (rf_ty S ca) s ∧ va_P D cl (rf_ow S g ca σ) H ∧ va_S A s.heap H locs
section RFA
variable {S : rf_Sh} {g : Nat → Nat} {ca : Nat → ClassId} {σ : rf_Mem} {A : Nat → Prop}
theorem rf_ow_0 : (rf_ow S g ca σ)[0]? = some (g 0, .inr (S.2.2.2.1, S.2.2.2.2 g (σ 0))) := rfl
theorem rf_ow_s {i : Nat} (h : i < S.1) : (rf_ow S g ca σ)[i + 1]? = some (g (i + 1), .inl (ca (i + 1), S.2.1 (i + 1), .inl (σ (i + 1)))) := by
  simp [rf_ow, List.getElem?_range h]
theorem rf_ow_n {i : Nat} (h : ¬ i < S.1) : (rf_ow S g ca σ)[i + 1]? = none := by
  have h2 : (rf_ow S g ca σ).length ≤ i + 1 := by simp [rf_ow]; omega
  exact List.getElem?_eq_none h2
theorem rf_ow_j {j : Nat} (h1 : 1 ≤ j) (h2 : j ≤ S.1) : (rf_ow S g ca σ)[j]? = some (g j, .inl (ca j, S.2.1 j, .inl (σ j))) := by
  obtain ⟨i, rfl⟩ : ∃ i, j = i + 1 := ⟨j - 1, by omega⟩
  exact rf_ow_s (by omega)
theorem rf_ty_j {j : Nat} (h1 : 1 ≤ j) (h2 : j ≤ S.1) : (rf_ty S ca)[j - 1]? = some (ca j, S.2.2.1 j) := by
  obtain ⟨i, rfl⟩ : ∃ i, j = i + 1 := ⟨j - 1, by omega⟩
  have h : i < S.1 := by omega
  simp [rf_ty, List.getElem?_range h]
theorem rf_ow_at {k : Nat} {q : Nat × va_E} (h : (rf_ow S g ca σ)[k]? = some q) : k ≤ S.1 ∧ q.1 = g k := by
  cases k with
  | zero => rw [rf_ow_0] at h; cases h; exact ⟨Nat.zero_le _, rfl⟩
  | succ i =>
    by_cases hi : i < S.1
    · rw [rf_ow_s hi] at h; cases h; exact ⟨hi, rfl⟩
    · rw [rf_ow_n hi] at h; cases h
theorem rf_D (hg : rf_g S g) (hA : ∀ q, rf_A S g q → A q) : va_D A (rf_ow S g ca σ) :=
  ⟨fun i j p q hi hj he => hg i j (rf_ow_at hi).1 (rf_ow_at hj).1 (by rw [← (rf_ow_at hi).2, ← (rf_ow_at hj).2, he]), fun k q hk => hA _ ⟨k, (rf_ow_at hk).1, (rf_ow_at hk).2⟩⟩
theorem rf_set_j {j i : Nat} {v : Int32} (h1 : 1 ≤ j) (h2 : j ≤ S.1) : (rf_ow S g ca σ).set j (g j, .inl (ca j, S.2.1 j, .inl (upd (σ j) i v))) = rf_ow S g ca (rf_wr σ j i v) := by
  apply List.ext_getElem?
  intro k
  by_cases hk : j = k
  · subst hk
    have hl : j < (rf_ow S g ca σ).length := by simp [rf_ow]; omega
    rw [List.getElem?_set_self hl, rf_ow_j h1 h2, rf_wr_same]
  · rw [List.getElem?_set_ne hk]
    cases k with
    | zero => rw [rf_ow_0, rf_ow_0, rf_wr_ne σ i v (by omega : (0 : Nat) ≠ j)]
    | succ i' =>
      by_cases hi : i' < S.1
      · rw [rf_ow_s hi, rf_ow_s hi, rf_wr_ne σ i v (by omega : i' + 1 ≠ j)]
      · rw [rf_ow_n hi, rf_ow_n hi]
theorem rf_set_0 {i : Nat} {v : Int32} {fs : List Value} (hf : fs = S.2.2.2.2 g (upd (σ 0) i v)) : (rf_ow S g ca σ).set 0 (g 0, .inr (S.2.2.2.1, fs)) = rf_ow S g ca (rf_wr σ 0 i v) := by
  subst hf
  apply List.ext_getElem?
  intro k
  cases k with
  | zero => rw [rf_ow_0, rf_wr_same, List.getElem?_set_self (by simp [rf_ow])]
  | succ i' =>
    rw [List.getElem?_set_ne (by omega)]
    by_cases hi : i' < S.1
    · rw [rf_ow_s hi, rf_ow_s hi, rf_wr_ne σ i v (by omega : i' + 1 ≠ 0)]
    · rw [rf_ow_n hi, rf_ow_n hi]
theorem rf_put0 {D : va_G} {cl : List vw_C} {H1 : Heap} {i : Nat} {v : Int32} {fs : List Value} (hP : va_P D cl ((rf_ow S g ca σ).set 0 (g 0, .inr (S.2.2.2.1, fs))) H1) (hf : fs = S.2.2.2.2 g (upd (σ 0) i v)) : va_P D cl (rf_ow S g ca (rf_wr σ 0 i v)) H1 := by
  rw [rf_set_0 hf] at hP
  exact hP
end RFA
section RFW
variable {p : Program} {l : Launch} {e : Env} {R : Room} {s : State} {m : MethodId} {args : Array Value} {below : List Frame} {meth : Method} {c : Code} {H : Heap} {locs : List Loc} {cells slots : Nat} {Q : State → Prop}
variable {cc : ByteArray} {pc : Nat} {ls : Array Slot} {rest : List Value} {D : va_G} {cl : List vw_C} {S : rf_Sh} {g : Nat → Nat} {ca : Nat → ClassId} {σ : rf_Mem} {A : Nat → Prop}
theorem rf_iald (hx : p.tables.exec = Jvm.exec) (hb : c.code = cc) (hw : rf_w D cl S g ca σ A s H locs) {j : Nat} (h1 : 1 ≤ j) (h2 : j ≤ S.1) (hty : S.2.2.1 j = .int) {i : Int32} (hin : vp_in i (S.2.1 j)) (hdg : decode cc pc = .ok (.iaload, 1))
    (kk : W p l e R s m args below meth c H locs cells slots Q (F0 m (pc + 1) ls (.int (σ j i.toNatClampNeg) :: rest))) : W p l e R s m args below meth c H locs cells slots Q (F0 m pc ls (.int i :: .ref (g j) :: rest)) :=
  va_iald hx hb hw.1 hw.2.1 j (j - 1) (rf_ow_j h1 h2) (by rw [rf_ty_j h1 h2, hty]) hin hdg kk
theorem rf_zald (hx : p.tables.exec = Jvm.exec) (hb : c.code = cc) (hw : rf_w D cl S g ca σ A s H locs) {j : Nat} (h1 : 1 ≤ j) (h2 : j ≤ S.1) (hty : S.2.2.1 j = .boolean) {i : Int32} (hin : vp_in i (S.2.1 j)) (hdg : decode cc pc = .ok (.baload, 1))
    (kk : W p l e R s m args below meth c H locs cells slots Q (F0 m (pc + 1) ls (.int (σ j i.toNatClampNeg) :: rest))) : W p l e R s m args below meth c H locs cells slots Q (F0 m pc ls (.int i :: .ref (g j) :: rest)) :=
  va_zald hx hb hw.1 hw.2.1 j (j - 1) (rf_ow_j h1 h2) (by rw [rf_ty_j h1 h2, hty]) hin hdg kk
theorem rf_iast (hx : p.tables.exec = Jvm.exec) (hb : c.code = cc) (hg : rf_g S g) (hA : ∀ q, rf_A S g q → A q) (hw : rf_w D cl S g ca σ A s H locs) {j : Nat} (h1 : 1 ≤ j) (h2 : j ≤ S.1) (hty : S.2.2.1 j = .int) {i x : Int32} (hin : vp_in i (S.2.1 j)) (hdg : decode cc pc = .ok (.iastore, 1))
    (kk : ∀ (H1 : Heap) (locs1 : List Loc), rf_w D cl S g ca (rf_wr σ j i.toNatClampNeg x) A s H1 locs1 → W p l e R s m args below meth c H1 locs1 cells slots Q (F0 m (pc + 1) ls rest)) : W p l e R s m args below meth c H locs cells slots Q (F0 m pc ls (.int x :: .int i :: .ref (g j) :: rest)) := by
  refine va_iast hx hb hw.1 hw.2.1 (rf_D hg hA) hw.2.2 j (j - 1) (rf_ow_j h1 h2) (by rw [rf_ty_j h1 h2, hty]) hin hdg (fun H1 locs1 hP _ hS => ?_)
  rw [rf_set_j h1 h2] at hP
  exact kk H1 locs1 ⟨hw.1, hP, hS⟩
theorem rf_zast (hx : p.tables.exec = Jvm.exec) (hb : c.code = cc) (hg : rf_g S g) (hA : ∀ q, rf_A S g q → A q) (hw : rf_w D cl S g ca σ A s H locs) {j : Nat} (h1 : 1 ≤ j) (h2 : j ≤ S.1) (hty : S.2.2.1 j = .boolean) {i x : Int32} (hz : vp_nar .boolean x = x) (hin : vp_in i (S.2.1 j)) (hdg : decode cc pc = .ok (.bastore, 1))
    (kk : ∀ (H1 : Heap) (locs1 : List Loc), rf_w D cl S g ca (rf_wr σ j i.toNatClampNeg x) A s H1 locs1 → W p l e R s m args below meth c H1 locs1 cells slots Q (F0 m (pc + 1) ls rest)) : W p l e R s m args below meth c H locs cells slots Q (F0 m pc ls (.int x :: .int i :: .ref (g j) :: rest)) := by
  refine va_zast hx hb hw.1 hw.2.1 (rf_D hg hA) hw.2.2 j (j - 1) (rf_ow_j h1 h2) (by rw [rf_ty_j h1 h2, hty]) hin hdg (fun H1 locs1 hP _ hS => ?_)
  rw [hz, rf_set_j h1 h2] at hP
  exact kk H1 locs1 ⟨hw.1, hP, hS⟩
/-! the same, at a known place -/
theorem rf_ialdn (hx : p.tables.exec = Jvm.exec) (hb : c.code = cc) (hw : rf_w D cl S g ca σ A s H locs) {j : Nat} (jx : Nat) (h1 : 1 ≤ j) (h2 : j ≤ S.1) (hty : S.2.2.1 j = .int) {i : Int32} (hi : i = nI jx) (hlt : jx < S.2.1 j) (hL : S.2.1 j < 2 ^ 31) (hdg : decode cc pc = .ok (.iaload, 1))
    (kk : W p l e R s m args below meth c H locs cells slots Q (F0 m (pc + 1) ls (.int (σ j jx) :: rest))) : W p l e R s m args below meth c H locs cells slots Q (F0 m pc ls (.int i :: .ref (g j) :: rest)) := by
  subst hi
  refine rf_iald hx hb hw h1 h2 hty (vp_in_nI hlt hL) hdg ?_
  rw [nI_clamp (Nat.lt_trans hlt hL)]
  exact kk
theorem rf_zaldn (hx : p.tables.exec = Jvm.exec) (hb : c.code = cc) (hw : rf_w D cl S g ca σ A s H locs) {j : Nat} (jx : Nat) (h1 : 1 ≤ j) (h2 : j ≤ S.1) (hty : S.2.2.1 j = .boolean) {i : Int32} (hi : i = nI jx) (hlt : jx < S.2.1 j) (hL : S.2.1 j < 2 ^ 31) (hdg : decode cc pc = .ok (.baload, 1))
    (kk : W p l e R s m args below meth c H locs cells slots Q (F0 m (pc + 1) ls (.int (σ j jx) :: rest))) : W p l e R s m args below meth c H locs cells slots Q (F0 m pc ls (.int i :: .ref (g j) :: rest)) := by
  subst hi
  refine rf_zald hx hb hw h1 h2 hty (vp_in_nI hlt hL) hdg ?_
  rw [nI_clamp (Nat.lt_trans hlt hL)]
  exact kk
theorem rf_iastn (hx : p.tables.exec = Jvm.exec) (hb : c.code = cc) (hg : rf_g S g) (hA : ∀ q, rf_A S g q → A q) (hw : rf_w D cl S g ca σ A s H locs) {j : Nat} (jx : Nat) (h1 : 1 ≤ j) (h2 : j ≤ S.1) (hty : S.2.2.1 j = .int) {i x : Int32} (hi : i = nI jx) (hlt : jx < S.2.1 j) (hL : S.2.1 j < 2 ^ 31) (hdg : decode cc pc = .ok (.iastore, 1))
    (kk : ∀ (H1 : Heap) (locs1 : List Loc), rf_w D cl S g ca (rf_wr σ j jx x) A s H1 locs1 → W p l e R s m args below meth c H1 locs1 cells slots Q (F0 m (pc + 1) ls rest)) : W p l e R s m args below meth c H locs cells slots Q (F0 m pc ls (.int x :: .int i :: .ref (g j) :: rest)) := by
  subst hi
  refine rf_iast hx hb hg hA hw h1 h2 hty (vp_in_nI hlt hL) hdg ?_
  rw [nI_clamp (Nat.lt_trans hlt hL)]
  exact kk
theorem rf_zastn (hx : p.tables.exec = Jvm.exec) (hb : c.code = cc) (hg : rf_g S g) (hA : ∀ q, rf_A S g q → A q) (hw : rf_w D cl S g ca σ A s H locs) {j : Nat} (jx : Nat) (h1 : 1 ≤ j) (h2 : j ≤ S.1) (hty : S.2.2.1 j = .boolean) {i x : Int32} (hz : vp_nar .boolean x = x) (hi : i = nI jx) (hlt : jx < S.2.1 j) (hL : S.2.1 j < 2 ^ 31) (hdg : decode cc pc = .ok (.bastore, 1))
    (kk : ∀ (H1 : Heap) (locs1 : List Loc), rf_w D cl S g ca (rf_wr σ j jx x) A s H1 locs1 → W p l e R s m args below meth c H1 locs1 cells slots Q (F0 m (pc + 1) ls rest)) : W p l e R s m args below meth c H locs cells slots Q (F0 m pc ls (.int x :: .int i :: .ref (g j) :: rest)) := by
  subst hi
  refine rf_zast hx hb hg hA hw h1 h2 hty hz (vp_in_nI hlt hL) hdg ?_
  rw [nI_clamp (Nat.lt_trans hlt hL)]
  exact kk
end RFW
/-! contracts of the object's methods: void, and with an answer -/
def rf_Mv (l : Launch) (y : MethodName) (b : ByteArray) (L : Nat) (rm : Room) (D : va_G) (cl : List vw_C) (S : rf_Sh) (g : Nat → Nat) (ca : Nat → ClassId) (σ : rf_Mem) (As : List Value) (σ1 : rf_Mem) : Prop :=
  Met l y (ws_ y b L none) rm (va_Pc (.ref (g 0) :: As) (rf_J D cl S g ca σ)) (va_Qv (fun σ' => σ' = σ1) (rf_J D cl S g ca) (rf_A S g)) 0 0 (rf_A S g)
def rf_Mi (l : Launch) (y : MethodName) (b : ByteArray) (L : Nat) (ret : FieldType) (rm : Room) (D : va_G) (cl : List vw_C) (S : rf_Sh) (g : Nat → Nat) (ca : Nat → ClassId) (σ : rf_Mem) (As : List Value) (r1 : Int32) (σ1 : rf_Mem) : Prop :=
  Met l y (ws_ y b L (some ret)) rm (va_Pc (.ref (g 0) :: As) (rf_J D cl S g ca σ)) (va_Qi (fun r σ' => r = r1 ∧ σ' = σ1) (rf_J D cl S g ca) (rf_A S g)) 0 0 (rf_A S g)
/-- a static method of numbers: it answers r1, and changes nothing -/
def rf_Ms (l : Launch) (y : MethodName) (b : ByteArray) (L : Nat) (ret : FieldType) (rm : Room) (As : List Value) (r1 : Int32) : Prop :=
  Met l y (ws_ y b L (some ret)) rm (va_Pc As (fun _ => True)) (va_Qi (fun r (_ : Unit) => r = r1) (fun _ _ => True) (fun _ => False)) 0 0 (fun _ => False)
abbrev rf_rm (f n : Nat) : Room := { frames := f, cells := 0, slots := 0, locals := n }
theorem rf_enter {l : Launch} {y : MethodName} {b : ByteArray} {L : Nat} {ret : Option FieldType} {rm : Room} {As : List Value} {Qc : Array Value → State → Outcome → State → Prop} {mc ms : Nat} {free : Addr → Prop} {B : State → Prop} (hy : plainName y.cls = true) (hlen : (lg_sl As).length ≤ L)
    (body : ∀ (p : Program) (e : Env) (s : State) (m : MethodId) (below : List Frame) (meth : Method) (c : Code) (ls : Array Slot), p.tables.exec = Jvm.exec → c.code = b → meth.sig.returnType = ret → meth.locks = false → c.maxLocals = L → s.vm.findClass y.cls = some m.cls → (∀ w ∈ lw_all, w.before As.toArray s = true) → meth.name = y.name → B s → lv_has ls L (lv_args 0 As) →
      W p l e rm s m As.toArray below meth c s.heap [] 0 0 (MQ below Qc As.toArray s mc ms free) (F0 m 0 ls [])) : Met l y (ws_ y b L ret) rm (va_Pc As B) Qc mc ms free := by
  refine Met.ofW (cc := b) (maxL := L) (ret := ret) hy rfl ?_
  intro p e s m args below meth c s₁ Bd hml hv
  obtain ⟨rfl, hB⟩ := hv
  have hts := atoms_spec (ws := ws_ y b L ret) Bd.pre
  have hts : ∀ w ∈ lw_all, w.before _ s = true := fun w h => hts w (List.mem_cons_of_mem _ h)
  have hl := lv_entry As (n := L) hlen
  rw [lg_entry_eq]
  exact body p e s m below meth c _ Bd.exec Bd.bytes Bd.returns Bd.notSynchronized hml (findClass_of_methodNamed Bd.named) hts (name_of_methodNamed Bd.named Bd.method).1 hB hl
section RFC
variable {p : Program} {l : Launch} {e : Env} {R : Room} {s : State} {m : MethodId} {args : Array Value} {below : List Frame} {meth : Method} {c : Code} {H : Heap} {locs : List Loc} {cells slots : Nat} {Q : State → Prop}
variable {cc : ByteArray} {pc : Nat} {ls : Array Slot} {rest : List Value} {D : va_G} {cl : List vw_C} {S : rf_Sh} {g : Nat → Nat} {ca : Nat → ClassId} {σ σ1 : rf_Mem} {A : Nat → Prop}
variable {y : MethodName} {b : ByteArray} {L nL n index N : Nat} {rm : Room} {As : List Value} {own C : String} {T : u_T} {ret : FieldType} {r1 : Int32}
theorem rf_blind {av : List Value} {σ : rf_Mem} : FrameBlind (va_Pc av (rf_J D cl S g ca σ)) := fun a U g' mk q => ⟨q.1, va_K.moved (u := U) (U := U.calling g' mk a) (Vm.Alike.refl U.vm) q.2.1, q.2.2⟩
theorem rf_callv (S0 : CallFix p m c cc nL s args lw_all own) (hM : rf_Mv l y b L rm D cl S g ca σ As σ1) (cw : CallW R s args own C index y b L none (ws_ y b L none) rm 0 0 n) (hw : rf_w D cl S g ca σ A s H locs) (hA : ∀ q, rf_A S g q → A q) (hc : cl[S.2.2.2.1]? = some (C, T, N)) (hn : As.length = n) (hls : ls.size = nL) (hst : (rest.map fun v => v.category).sum ≤ 8) (hdg : decode cc pc = .ok (.invokevirtual index, 3)) (hf : cells ≤ R.cells ∧ slots ≤ R.slots)
    {st0 : List Value} (hst0 : st0 = As.reverse ++ .ref (g 0) :: rest)
    (kk : ∀ (H1 : Heap) (locs1 : List Loc), rf_w D cl S g ca σ1 A s H1 locs1 → H.size ≤ H1.size → (∀ q : Nat, q < H.size → ¬ rf_A S g q → H1[q]? = H[q]?) → W p l e R s m args below meth c H1 locs1 cells slots Q (F0 m (pc + 3) ls rest)) : W p l e R s m args below meth c H locs cells slots Q (F0 m pc ls st0) := by
  refine va_callv (va_runV (g := F0 m pc ls st0) (As := As) (rest := rest) S0 hM cw ⟨rf_blind, va_recv hw.1 hw.2.1 hc rf_ow_0, fun U hU hW => ⟨rfl, va_K.moved hW.alike hw.1, by rw [hU]; exact hw.2.1⟩⟩ rfl hn hls hst0 (lv_room hst) hdg hf) hw.2.2 (fun q _ h => hA q h) hA (fun u t H1 locs1 ht hvm hpost hB hz hk hS => ?_)
  have hpost : u = σ1 := hpost
  subst hpost
  obtain ⟨hK1, hP1⟩ := hB
  rw [ht] at hP1
  exact kk H1 locs1 ⟨hw.1, hP1, hS⟩ hz hk
theorem rf_calli (S0 : CallFix p m c cc nL s args lw_all own) (hM : rf_Mi l y b L ret rm D cl S g ca σ As r1 σ1) (cw : CallW R s args own C index y b L (some ret) (ws_ y b L (some ret)) rm 0 0 n) (hw : rf_w D cl S g ca σ A s H locs) (hA : ∀ q, rf_A S g q → A q) (hc : cl[S.2.2.2.1]? = some (C, T, N)) (hn : As.length = n) (hls : ls.size = nL) (hst : (rest.map fun v => v.category).sum ≤ 8) (hdg : decode cc pc = .ok (.invokevirtual index, 3)) (hf : cells ≤ R.cells ∧ slots ≤ R.slots)
    {st0 : List Value} (hst0 : st0 = As.reverse ++ .ref (g 0) :: rest)
    (kk : ∀ (H1 : Heap) (locs1 : List Loc), rf_w D cl S g ca σ1 A s H1 locs1 → H.size ≤ H1.size → (∀ q : Nat, q < H.size → ¬ rf_A S g q → H1[q]? = H[q]?) → W p l e R s m args below meth c H1 locs1 cells slots Q (F0 m (pc + 3) ls (.int r1 :: rest))) : W p l e R s m args below meth c H locs cells slots Q (F0 m pc ls st0) := by
  refine va_calli (va_runV (g := F0 m pc ls st0) (As := As) (rest := rest) S0 hM cw ⟨rf_blind, va_recv hw.1 hw.2.1 hc rf_ow_0, fun U hU hW => ⟨rfl, va_K.moved hW.alike hw.1, by rw [hU]; exact hw.2.1⟩⟩ rfl hn hls hst0 (lv_room hst) hdg hf) hw.2.2 (fun q _ h => hA q h) hA (fun r u t H1 locs1 ht hvm hpost hB hz hk hS => ?_)
  obtain ⟨hr, hpost⟩ : r = r1 ∧ u = σ1 := hpost
  subst hpost
  subst hr
  obtain ⟨hK1, hP1⟩ := hB
  rw [ht] at hP1
  exact kk H1 locs1 ⟨hw.1, hP1, hS⟩ hz hk
theorem rf_calls (S0 : CallFix p m c cc nL s args lw_all own) (hM : rf_Ms l y b L ret rm As r1) (cw : CallB R s args own index y b L (some ret) (ws_ y b L (some ret)) rm 0 0 n ∧ (Cond.static y).before args s = true) (hw : rf_w D cl S g ca σ A s H locs) (hn : As.length = n) (hls : ls.size = nL) (hst : (rest.map fun v => v.category).sum ≤ 8) (hdg : decode cc pc = .ok (.invokestatic index, 3)) (hf : cells ≤ R.cells ∧ slots ≤ R.slots)
    {st0 : List Value} (hst0 : st0 = As.reverse ++ rest)
    (kk : ∀ (H1 : Heap) (locs1 : List Loc), rf_w D cl S g ca σ A s H1 locs1 → W p l e R s m args below meth c H1 locs1 cells slots Q (F0 m (pc + 3) ls (.int r1 :: rest))) : W p l e R s m args below meth c H locs cells slots Q (F0 m pc ls st0) := by
  refine va_calli (va_runS (g := F0 m pc ls st0) (As := As) (rest := rest) S0 hM cw ⟨fun a U g' mk q => q, fun U hU hW => ⟨rfl, trivial⟩⟩ rfl hn hls hst0 (lv_room hst) hdg hf) hw.2.2 (fun q _ h => h.elim) (fun q h => h.elim) (fun r u t H1 locs1 ht hvm hpost hB hz hk hS => ?_)
  have hpost : r = r1 := hpost
  subst hpost
  exact kk H1 locs1 ⟨hw.1, va_P.kept hw.2.1 (fun k q hq => hk q.1 ((hw.2.1 k q hq).lt) (fun h => h)), hS⟩
theorem rf_vret {σ' : rf_Mem} (hx : p.tables.exec = Jvm.exec) (hb : c.code = cc) (hr : meth.sig.returnType = none) (hlk : meth.locks = false) (hw : rf_w D cl S g ca σ' (rf_A S g) s H locs) (he : σ' = σ1) (hdg : decode cc pc = .ok (.return_, 1)) :
    W p l e R s m args below meth c H locs cells slots (MQ below (va_Qv (fun σ' => σ' = σ1) (rf_J D cl S g ca) (rf_A S g)) args s cells slots (rf_A S g)) (F0 m pc ls []) :=
  W.vret hx hb hr (fun t ht hW => ⟨⟨σ', rfl, he, va_K.moved hW.alike hw.1, by rw [ht]; exact hw.2.1⟩, hw.2.2.F ht⟩) hw.2.2.2.2 hdg hlk
theorem rf_iret {σ' : rf_Mem} {v : Int32} (hx : p.tables.exec = Jvm.exec) (hb : c.code = cc) (hr : meth.sig.returnType = some .int) (hlk : meth.locks = false) (hw : rf_w D cl S g ca σ' (rf_A S g) s H locs) (he : v = r1 ∧ σ' = σ1) (hdg : decode cc pc = .ok (.ireturn, 1)) :
    W p l e R s m args below meth c H locs cells slots (MQ below (va_Qi (fun r σ' => r = r1 ∧ σ' = σ1) (rf_J D cl S g ca) (rf_A S g)) args s cells slots (rf_A S g)) (F0 m pc ls [.int v]) :=
  W.iret hx hb hr (fun t ht hW => ⟨⟨v, σ', rfl, he, va_K.moved hW.alike hw.1, by rw [ht]; exact hw.2.1⟩, hw.2.2.F ht⟩) hw.2.2.2.2 hdg hlk
theorem rf_zret {σ' : rf_Mem} {v : Int32} (hx : p.tables.exec = Jvm.exec) (hb : c.code = cc) (hr : meth.sig.returnType = some .boolean) (hlk : meth.locks = false) (hn : narrow .boolean (.int v) = .int v) (hw : rf_w D cl S g ca σ' (rf_A S g) s H locs) (he : v = r1 ∧ σ' = σ1) (hdg : decode cc pc = .ok (.ireturn, 1)) :
    W p l e R s m args below meth c H locs cells slots (MQ below (va_Qi (fun r σ' => r = r1 ∧ σ' = σ1) (rf_J D cl S g ca) (rf_A S g)) args s cells slots (rf_A S g)) (F0 m pc ls [.int v]) :=
  W.zret hx hb hr hn (fun t ht hW => ⟨⟨v, σ', rfl, he, va_K.moved hW.alike hw.1, by rw [ht]; exact hw.2.1⟩, hw.2.2.F ht⟩) hw.2.2.2.2 hdg hlk
theorem rf_sret {v : Int32} (hx : p.tables.exec = Jvm.exec) (hb : c.code = cc) (hr : meth.sig.returnType = some .boolean) (hlk : meth.locks = false) (hn : narrow .boolean (.int v) = .int v) (hS : va_S (fun _ => False) s.heap H locs) (he : v = r1) (hdg : decode cc pc = .ok (.ireturn, 1)) :
    W p l e R s m args below meth c H locs cells slots (MQ below (va_Qi (fun r (_ : Unit) => r = r1) (fun _ _ => True) (fun _ => False)) args s cells slots (fun _ => False)) (F0 m pc ls [.int v]) :=
  W.zret hx hb hr hn (fun t ht hW => ⟨⟨v, (), rfl, he, trivial⟩, hS.F ht⟩) hS.2.2 hdg hlk
/-- a contract at another memory that is the same -/
theorem rf_weq {σ' : rf_Mem} (hw : rf_w D cl S g ca σ A s H locs) (h : σ = σ') : rf_w D cl S g ca σ' A s H locs := h ▸ hw
end RFC
/-! places -/
abbrev rf_ix (x : Int32) : Nat := x.toNatClampNeg
def rf_q (x : Int32) : Nat := (x &&& 3).toNatClampNeg
theorem rf_q_of (x : Int32) : rf_q x < 4 ∧ x &&& 3 = nI (rf_q x) := by
  obtain ⟨j, hj, e⟩ := pk_andE x (m := 3) 2 rfl
  have h : rf_q x = j := by
    unfold rf_q
    rw [e, nI_clamp (by omega)]
  rw [h]
  exact ⟨hj, e⟩
theorem rf_in {x : Int32} {n : Nat} (h : vp_in x n) (hn : n < 2 ^ 31) : rf_ix x < n ∧ x = nI (rf_ix x) := by
  obtain ⟨j, hj, e⟩ := vp_in_of h hn
  have h2 : rf_ix x = j := by
    show x.toNatClampNeg = j
    rw [e, nI_clamp (by omega)]
  rw [h2]
  exact ⟨hj, e⟩
theorem rf_ix4 (k : Nat) (x : Int32) : nI k * 4 + (x &&& 3) = nI (k * 4 + rf_q x) := by
  rw [(rf_q_of x).2, show (4 : Int32) = nI 4 from rfl, pk_mul, nI_add]
theorem rf_ix40 (k : Nat) {x : Int32} {n : Nat} (h : vp_in x n) (hn : n < 2 ^ 31) : nI k * 40 + x = nI (k * 40 + rf_ix x) := by
  conv => lhs; rw [(rf_in h hn).2]
  rw [show (40 : Int32) = nI 40 from rfl, pk_mul, nI_add]
theorem rf_ix24 (k : Nat) {x : Int32} {n : Nat} (h : vp_in x n) (hn : n < 2 ^ 31) : nI k * 24 + x = nI (k * 24 + rf_ix x) := by
  conv => lhs; rw [(rf_in h hn).2]
  rw [show (24 : Int32) = nI 24 from rfl, pk_mul, nI_add]
theorem rf_ix4n (k t : Nat) : nI k * 4 + nI t = nI (k * 4 + t) := by
  rw [show (4 : Int32) = nI 4 from rfl, pk_mul, nI_add]
theorem rf_ix24n (k : Nat) : nI k * 24 = nI (k * 24) := by
  rw [show (24 : Int32) = nI 24 from rfl, pk_mul]
/-- a number from 0 to n -/
def rf_le (x : Int32) (n : Nat) : Prop := ∃ j : Nat, j ≤ n ∧ x = nI j
theorem rf_le_in {x : Int32} {n : Nat} (h : rf_le x n) (hn : n < 2 ^ 31) (hx : x < nI n) : vp_in x n := by
  obtain ⟨j, hj, e⟩ := h
  rw [e] at hx ⊢
  exact vp_in_nI ((nI_ltI (by omega) hn).mp hx) hn
theorem rf_le_ix {x : Int32} {n : Nat} (h : rf_le x n) (hn : n < 2 ^ 31) : rf_ix x ≤ n ∧ x = nI (rf_ix x) := by
  obtain ⟨j, hj, e⟩ := h
  have h2 : rf_ix x = j := by
    show x.toNatClampNeg = j
    rw [e, nI_clamp (by omega)]
  rw [h2]
  exact ⟨hj, e⟩
/-- the first place, of n from t on behind base b, that is not taken and on the channel -/
def rf_find (tk chn : Nat → Int32) (ch : Int32) (b : Nat) : Nat → Nat → Option Nat
  | 0, _ => none
  | n + 1, t => if chn (b + t) = ch ∧ tk (b + t) = 0 then some (b + t) else rf_find tk chn ch b n (t + 1)
/-- how many of n places from t on behind base b are not taken -/
def rf_count (tk : Nat → Int32) (b : Nat) : Nat → Nat → Nat
  | 0, _ => 0
  | n + 1, t => (if tk (b + t) = 0 then 1 else 0) + rf_count tk b n (t + 1)
theorem rf_r4 {k : Nat} (hk : k < 3) (x : Int32) : k * 4 + rf_q x < 12 := by
  have := (rf_q_of x).1
  omega
theorem rf_r40 {k : Nat} (hk : k < 3) {x : Int32} (h : vp_in x 40) : k * 40 + rf_ix x < 120 := by
  have := (rf_in h (by decide)).1
  omega
theorem rf_r24 {k : Nat} (hk : k < 3) {x : Int32} (h : vp_in x 24) : k * 24 + rf_ix x < 72 := by
  have := (rf_in h (by decide)).1
  omega
theorem rf_ixk {k : Nat} (hk : k < 3) : rf_ix (nI k) = k := nI_clamp (by omega)
theorem rf_neT {x : Int32} (a : Int32) (h : ¬ x = a) : ¬ x.toInt = a.toInt := fun q => h (Int32.toInt_inj.mp q)
theorem rf_out4 {x : Int32} (h0 : ¬ x = 0) (h1 : ¬ x = 1) (h2 : ¬ x = 2) (h3 : ¬ x = 3) : x.toInt < 0 ∨ 3 < x.toInt := by
  have a0 : ¬ x.toInt = 0 := rf_neT 0 h0
  have a1 : ¬ x.toInt = 1 := rf_neT 1 h1
  have a2 : ¬ x.toInt = 2 := rf_neT 2 h2
  have a3 : ¬ x.toInt = 3 := rf_neT 3 h3
  omega
abbrev vwCl : List vw_C := [(RX0, TX0, 22), (RX1, TX1, 17)]
/-! the shape of ReplayFlow: 1 op, 2 first, 3 second, 4 started, 5 argument, 6 events, 7 event, 8 signals, 9 channelOf, 10 valueOf, 11 taken, 12 wakesAt, 13 known, 14 registers, 15 place, 16 states, 17 results, 18 met, 19 inARow -/
def xln : Nat → Nat := fun j => match j with
  | 1 => 16
  | 2 => 16
  | 3 => 16
  | 4 => 3
  | 5 => 3
  | 6 => 3
  | 7 => 120
  | 8 => 3
  | 9 => 72
  | 10 => 72
  | 11 => 72
  | 12 => 3
  | 13 => 3
  | 14 => 12
  | 15 => 3
  | 16 => 3
  | 17 => 3
  | 18 => 3
  | _ => 3
def xty : Nat → FieldType := fun j => match j with
  | 4 => .boolean
  | 11 => .boolean
  | 13 => .boolean
  | _ => .int
def xfs (g : Nat → Nat) (n : Nat → Int32) : List Value := [.int (n 0), .ref (g 1), .ref (g 2), .ref (g 3), .int (n 1), .int (n 2), .ref (g 4), .ref (g 5), .ref (g 6), .ref (g 7), .ref (g 8), .ref (g 9), .ref (g 10), .ref (g 11), .ref (g 12), .ref (g 13), .ref (g 14), .ref (g 15), .ref (g 16), .ref (g 17), .ref (g 18), .ref (g 19)]
abbrev xS : rf_Sh := (19, xln, xty, 0, xfs)
theorem xln_lt (j : Nat) : xln j < 2 ^ 31 := by
  unfold xln
  split <;> decide
section XF
variable {p : Program} {l : Launch} {e : Env} {R : Room} {s : State} {m : MethodId} {args : Array Value} {below : List Frame} {meth : Method} {c : Code} {H : Heap} {locs : List Loc} {cells slots : Nat} {Q : State → Prop}
variable {cc : ByteArray} {pc : Nat} {ls : Array Slot} {rest : List Value} {D : va_G} {g : Nat → Nat} {ca : Nat → ClassId} {σ : rf_Mem} {A : Nat → Prop}
theorem xg_length (hx : p.tables.exec = Jvm.exec) (hb : c.code = cc) (hts : ∀ w ∈ lw_all, w.before args s = true) (hown : s.vm.findClass RX0 = some m.cls) (hw : rf_w D vwCl xS g ca σ A s H locs) (hdg : decode cc pc = .ok (.getfield 72, 3)) (kk : W p l e R s m args below meth c H locs cells slots Q (F0 m (pc + 3) ls (.int (σ 0 0) :: rest))) : W p l e R s m args below meth c H locs cells slots Q (F0 m pc ls (.ref (g 0) :: rest)) :=
  va_get (D := D) (ci := 0) (v := .int (σ 0 0)) (C := RX0) (T := TX0) (N := 22) hx hb hts in_X0 hown hw.1 hw.2.1 0 rf_ow_0 rfl 0 (by decide) (hts _ q31) (fun _ h9 => h9) rfl hdg kk
theorem xp_length {v : Int32} (hx : p.tables.exec = Jvm.exec) (hb : c.code = cc) (hts : ∀ w ∈ lw_all, w.before args s = true) (hown : s.vm.findClass RX0 = some m.cls) (hg : rf_g xS g) (hA : ∀ q, rf_A xS g q → A q) (hw : rf_w D vwCl xS g ca σ A s H locs) (hdg : decode cc pc = .ok (.putfield 72, 3)) (kk : ∀ (H1 : Heap) (locs1 : List Loc), rf_w D vwCl xS g ca (rf_wr σ 0 0 v) A s H1 locs1 → W p l e R s m args below meth c H1 locs1 cells slots Q (F0 m (pc + 3) ls rest)) : W p l e R s m args below meth c H locs cells slots Q (F0 m pc ls (.int v :: .ref (g 0) :: rest)) := by
  refine va_put (D := D) (ci := 0) (v := .int v) (ty := .int) (C := RX0) (T := TX0) (N := 22) hx hb hts in_X0 tyX0 tyX0_ok nmX0 hown hw.1 hw.2.1 (rf_D hg hA) hw.2.2 0 rf_ow_0 rfl 0 (by decide) (hts _ q31) (fun _ h9 => h9) rfl (by decide +kernel) rfl rfl (Nat.le_of_ble_eq_true rfl) hdg (fun H1 locs1 hP _ hS => ?_)
  exact kk H1 locs1 ⟨hw.1, rf_put0 (S := xS) (i := 0) (v := v) hP rfl, hS⟩
theorem xg_op (hx : p.tables.exec = Jvm.exec) (hb : c.code = cc) (hts : ∀ w ∈ lw_all, w.before args s = true) (hown : s.vm.findClass RX0 = some m.cls) (hw : rf_w D vwCl xS g ca σ A s H locs) (hdg : decode cc pc = .ok (.getfield 7, 3)) (kk : W p l e R s m args below meth c H locs cells slots Q (F0 m (pc + 3) ls (.ref (g 1) :: rest))) : W p l e R s m args below meth c H locs cells slots Q (F0 m pc ls (.ref (g 0) :: rest)) :=
  va_get (D := D) (ci := 0) (v := .ref (g 1)) (C := RX0) (T := TX0) (N := 22) hx hb hts in_X0 hown hw.1 hw.2.1 0 rf_ow_0 rfl 1 (by decide) (hts _ q32) (fun _ h9 => h9) rfl hdg kk
theorem xg_first (hx : p.tables.exec = Jvm.exec) (hb : c.code = cc) (hts : ∀ w ∈ lw_all, w.before args s = true) (hown : s.vm.findClass RX0 = some m.cls) (hw : rf_w D vwCl xS g ca σ A s H locs) (hdg : decode cc pc = .ok (.getfield 13, 3)) (kk : W p l e R s m args below meth c H locs cells slots Q (F0 m (pc + 3) ls (.ref (g 2) :: rest))) : W p l e R s m args below meth c H locs cells slots Q (F0 m pc ls (.ref (g 0) :: rest)) :=
  va_get (D := D) (ci := 0) (v := .ref (g 2)) (C := RX0) (T := TX0) (N := 22) hx hb hts in_X0 hown hw.1 hw.2.1 0 rf_ow_0 rfl 2 (by decide) (hts _ q33) (fun _ h9 => h9) rfl hdg kk
theorem xg_second (hx : p.tables.exec = Jvm.exec) (hb : c.code = cc) (hts : ∀ w ∈ lw_all, w.before args s = true) (hown : s.vm.findClass RX0 = some m.cls) (hw : rf_w D vwCl xS g ca σ A s H locs) (hdg : decode cc pc = .ok (.getfield 16, 3)) (kk : W p l e R s m args below meth c H locs cells slots Q (F0 m (pc + 3) ls (.ref (g 3) :: rest))) : W p l e R s m args below meth c H locs cells slots Q (F0 m pc ls (.ref (g 0) :: rest)) :=
  va_get (D := D) (ci := 0) (v := .ref (g 3)) (C := RX0) (T := TX0) (N := 22) hx hb hts in_X0 hown hw.1 hw.2.1 0 rf_ow_0 rfl 3 (by decide) (hts _ q34) (fun _ h9 => h9) rfl hdg kk
theorem xg_locked (hx : p.tables.exec = Jvm.exec) (hb : c.code = cc) (hts : ∀ w ∈ lw_all, w.before args s = true) (hown : s.vm.findClass RX0 = some m.cls) (hw : rf_w D vwCl xS g ca σ A s H locs) (hdg : decode cc pc = .ok (.getfield 75, 3)) (kk : W p l e R s m args below meth c H locs cells slots Q (F0 m (pc + 3) ls (.int (σ 0 1) :: rest))) : W p l e R s m args below meth c H locs cells slots Q (F0 m pc ls (.ref (g 0) :: rest)) :=
  va_get (D := D) (ci := 0) (v := .int (σ 0 1)) (C := RX0) (T := TX0) (N := 22) hx hb hts in_X0 hown hw.1 hw.2.1 0 rf_ow_0 rfl 4 (by decide) (hts _ q35) (fun _ h9 => h9) rfl hdg kk
theorem xp_locked {v : Int32} (hx : p.tables.exec = Jvm.exec) (hb : c.code = cc) (hts : ∀ w ∈ lw_all, w.before args s = true) (hown : s.vm.findClass RX0 = some m.cls) (hg : rf_g xS g) (hA : ∀ q, rf_A xS g q → A q) (hw : rf_w D vwCl xS g ca σ A s H locs) (hn : narrow .boolean (.int v) = .int v) (hf : fits .boolean (.int v) = true) (hdg : decode cc pc = .ok (.putfield 75, 3)) (kk : ∀ (H1 : Heap) (locs1 : List Loc), rf_w D vwCl xS g ca (rf_wr σ 0 1 v) A s H1 locs1 → W p l e R s m args below meth c H1 locs1 cells slots Q (F0 m (pc + 3) ls rest)) : W p l e R s m args below meth c H locs cells slots Q (F0 m pc ls (.int v :: .ref (g 0) :: rest)) := by
  refine va_put (D := D) (ci := 0) (v := .int v) (ty := .boolean) (C := RX0) (T := TX0) (N := 22) hx hb hts in_X0 tyX0 tyX0_ok nmX0 hown hw.1 hw.2.1 (rf_D hg hA) hw.2.2 0 rf_ow_0 rfl 4 (by decide) (hts _ q35) (fun _ h9 => h9) rfl (by decide +kernel) hn hf (Nat.le_of_ble_eq_true rfl) hdg (fun H1 locs1 hP _ hS => ?_)
  exact kk H1 locs1 ⟨hw.1, rf_put0 (S := xS) (i := 1) (v := v) hP rfl, hS⟩
theorem xg_now (hx : p.tables.exec = Jvm.exec) (hb : c.code = cc) (hts : ∀ w ∈ lw_all, w.before args s = true) (hown : s.vm.findClass RX0 = some m.cls) (hw : rf_w D vwCl xS g ca σ A s H locs) (hdg : decode cc pc = .ok (.getfield 68, 3)) (kk : W p l e R s m args below meth c H locs cells slots Q (F0 m (pc + 3) ls (.int (σ 0 2) :: rest))) : W p l e R s m args below meth c H locs cells slots Q (F0 m pc ls (.ref (g 0) :: rest)) :=
  va_get (D := D) (ci := 0) (v := .int (σ 0 2)) (C := RX0) (T := TX0) (N := 22) hx hb hts in_X0 hown hw.1 hw.2.1 0 rf_ow_0 rfl 5 (by decide) (hts _ q36) (fun _ h9 => h9) rfl hdg kk
theorem xp_now {v : Int32} (hx : p.tables.exec = Jvm.exec) (hb : c.code = cc) (hts : ∀ w ∈ lw_all, w.before args s = true) (hown : s.vm.findClass RX0 = some m.cls) (hg : rf_g xS g) (hA : ∀ q, rf_A xS g q → A q) (hw : rf_w D vwCl xS g ca σ A s H locs) (hdg : decode cc pc = .ok (.putfield 68, 3)) (kk : ∀ (H1 : Heap) (locs1 : List Loc), rf_w D vwCl xS g ca (rf_wr σ 0 2 v) A s H1 locs1 → W p l e R s m args below meth c H1 locs1 cells slots Q (F0 m (pc + 3) ls rest)) : W p l e R s m args below meth c H locs cells slots Q (F0 m pc ls (.int v :: .ref (g 0) :: rest)) := by
  refine va_put (D := D) (ci := 0) (v := .int v) (ty := .int) (C := RX0) (T := TX0) (N := 22) hx hb hts in_X0 tyX0 tyX0_ok nmX0 hown hw.1 hw.2.1 (rf_D hg hA) hw.2.2 0 rf_ow_0 rfl 5 (by decide) (hts _ q36) (fun _ h9 => h9) rfl (by decide +kernel) rfl rfl (Nat.le_of_ble_eq_true rfl) hdg (fun H1 locs1 hP _ hS => ?_)
  exact kk H1 locs1 ⟨hw.1, rf_put0 (S := xS) (i := 2) (v := v) hP rfl, hS⟩
theorem xg_started (hx : p.tables.exec = Jvm.exec) (hb : c.code = cc) (hts : ∀ w ∈ lw_all, w.before args s = true) (hown : s.vm.findClass RX0 = some m.cls) (hw : rf_w D vwCl xS g ca σ A s H locs) (hdg : decode cc pc = .ok (.getfield 19, 3)) (kk : W p l e R s m args below meth c H locs cells slots Q (F0 m (pc + 3) ls (.ref (g 4) :: rest))) : W p l e R s m args below meth c H locs cells slots Q (F0 m pc ls (.ref (g 0) :: rest)) :=
  va_get (D := D) (ci := 0) (v := .ref (g 4)) (C := RX0) (T := TX0) (N := 22) hx hb hts in_X0 hown hw.1 hw.2.1 0 rf_ow_0 rfl 6 (by decide) (hts _ q37) (fun _ h9 => h9) rfl hdg kk
theorem xg_argument (hx : p.tables.exec = Jvm.exec) (hb : c.code = cc) (hts : ∀ w ∈ lw_all, w.before args s = true) (hown : s.vm.findClass RX0 = some m.cls) (hw : rf_w D vwCl xS g ca σ A s H locs) (hdg : decode cc pc = .ok (.getfield 23, 3)) (kk : W p l e R s m args below meth c H locs cells slots Q (F0 m (pc + 3) ls (.ref (g 5) :: rest))) : W p l e R s m args below meth c H locs cells slots Q (F0 m pc ls (.ref (g 0) :: rest)) :=
  va_get (D := D) (ci := 0) (v := .ref (g 5)) (C := RX0) (T := TX0) (N := 22) hx hb hts in_X0 hown hw.1 hw.2.1 0 rf_ow_0 rfl 7 (by decide) (hts _ q38) (fun _ h9 => h9) rfl hdg kk
theorem xg_events (hx : p.tables.exec = Jvm.exec) (hb : c.code = cc) (hts : ∀ w ∈ lw_all, w.before args s = true) (hown : s.vm.findClass RX0 = some m.cls) (hw : rf_w D vwCl xS g ca σ A s H locs) (hdg : decode cc pc = .ok (.getfield 26, 3)) (kk : W p l e R s m args below meth c H locs cells slots Q (F0 m (pc + 3) ls (.ref (g 6) :: rest))) : W p l e R s m args below meth c H locs cells slots Q (F0 m pc ls (.ref (g 0) :: rest)) :=
  va_get (D := D) (ci := 0) (v := .ref (g 6)) (C := RX0) (T := TX0) (N := 22) hx hb hts in_X0 hown hw.1 hw.2.1 0 rf_ow_0 rfl 8 (by decide) (hts _ q39) (fun _ h9 => h9) rfl hdg kk
theorem xg_event (hx : p.tables.exec = Jvm.exec) (hb : c.code = cc) (hts : ∀ w ∈ lw_all, w.before args s = true) (hown : s.vm.findClass RX0 = some m.cls) (hw : rf_w D vwCl xS g ca σ A s H locs) (hdg : decode cc pc = .ok (.getfield 29, 3)) (kk : W p l e R s m args below meth c H locs cells slots Q (F0 m (pc + 3) ls (.ref (g 7) :: rest))) : W p l e R s m args below meth c H locs cells slots Q (F0 m pc ls (.ref (g 0) :: rest)) :=
  va_get (D := D) (ci := 0) (v := .ref (g 7)) (C := RX0) (T := TX0) (N := 22) hx hb hts in_X0 hown hw.1 hw.2.1 0 rf_ow_0 rfl 9 (by decide) (hts _ q40) (fun _ h9 => h9) rfl hdg kk
theorem xg_signals (hx : p.tables.exec = Jvm.exec) (hb : c.code = cc) (hts : ∀ w ∈ lw_all, w.before args s = true) (hown : s.vm.findClass RX0 = some m.cls) (hw : rf_w D vwCl xS g ca σ A s H locs) (hdg : decode cc pc = .ok (.getfield 32, 3)) (kk : W p l e R s m args below meth c H locs cells slots Q (F0 m (pc + 3) ls (.ref (g 8) :: rest))) : W p l e R s m args below meth c H locs cells slots Q (F0 m pc ls (.ref (g 0) :: rest)) :=
  va_get (D := D) (ci := 0) (v := .ref (g 8)) (C := RX0) (T := TX0) (N := 22) hx hb hts in_X0 hown hw.1 hw.2.1 0 rf_ow_0 rfl 10 (by decide) (hts _ q41) (fun _ h9 => h9) rfl hdg kk
theorem xg_channelOf (hx : p.tables.exec = Jvm.exec) (hb : c.code = cc) (hts : ∀ w ∈ lw_all, w.before args s = true) (hown : s.vm.findClass RX0 = some m.cls) (hw : rf_w D vwCl xS g ca σ A s H locs) (hdg : decode cc pc = .ok (.getfield 35, 3)) (kk : W p l e R s m args below meth c H locs cells slots Q (F0 m (pc + 3) ls (.ref (g 9) :: rest))) : W p l e R s m args below meth c H locs cells slots Q (F0 m pc ls (.ref (g 0) :: rest)) :=
  va_get (D := D) (ci := 0) (v := .ref (g 9)) (C := RX0) (T := TX0) (N := 22) hx hb hts in_X0 hown hw.1 hw.2.1 0 rf_ow_0 rfl 11 (by decide) (hts _ q42) (fun _ h9 => h9) rfl hdg kk
theorem xg_valueOf (hx : p.tables.exec = Jvm.exec) (hb : c.code = cc) (hts : ∀ w ∈ lw_all, w.before args s = true) (hown : s.vm.findClass RX0 = some m.cls) (hw : rf_w D vwCl xS g ca σ A s H locs) (hdg : decode cc pc = .ok (.getfield 38, 3)) (kk : W p l e R s m args below meth c H locs cells slots Q (F0 m (pc + 3) ls (.ref (g 10) :: rest))) : W p l e R s m args below meth c H locs cells slots Q (F0 m pc ls (.ref (g 0) :: rest)) :=
  va_get (D := D) (ci := 0) (v := .ref (g 10)) (C := RX0) (T := TX0) (N := 22) hx hb hts in_X0 hown hw.1 hw.2.1 0 rf_ow_0 rfl 12 (by decide) (hts _ q43) (fun _ h9 => h9) rfl hdg kk
theorem xg_taken (hx : p.tables.exec = Jvm.exec) (hb : c.code = cc) (hts : ∀ w ∈ lw_all, w.before args s = true) (hown : s.vm.findClass RX0 = some m.cls) (hw : rf_w D vwCl xS g ca σ A s H locs) (hdg : decode cc pc = .ok (.getfield 41, 3)) (kk : W p l e R s m args below meth c H locs cells slots Q (F0 m (pc + 3) ls (.ref (g 11) :: rest))) : W p l e R s m args below meth c H locs cells slots Q (F0 m pc ls (.ref (g 0) :: rest)) :=
  va_get (D := D) (ci := 0) (v := .ref (g 11)) (C := RX0) (T := TX0) (N := 22) hx hb hts in_X0 hown hw.1 hw.2.1 0 rf_ow_0 rfl 13 (by decide) (hts _ q44) (fun _ h9 => h9) rfl hdg kk
theorem xg_wakesAt (hx : p.tables.exec = Jvm.exec) (hb : c.code = cc) (hts : ∀ w ∈ lw_all, w.before args s = true) (hown : s.vm.findClass RX0 = some m.cls) (hw : rf_w D vwCl xS g ca σ A s H locs) (hdg : decode cc pc = .ok (.getfield 44, 3)) (kk : W p l e R s m args below meth c H locs cells slots Q (F0 m (pc + 3) ls (.ref (g 12) :: rest))) : W p l e R s m args below meth c H locs cells slots Q (F0 m pc ls (.ref (g 0) :: rest)) :=
  va_get (D := D) (ci := 0) (v := .ref (g 12)) (C := RX0) (T := TX0) (N := 22) hx hb hts in_X0 hown hw.1 hw.2.1 0 rf_ow_0 rfl 14 (by decide) (hts _ q45) (fun _ h9 => h9) rfl hdg kk
theorem xg_known (hx : p.tables.exec = Jvm.exec) (hb : c.code = cc) (hts : ∀ w ∈ lw_all, w.before args s = true) (hown : s.vm.findClass RX0 = some m.cls) (hw : rf_w D vwCl xS g ca σ A s H locs) (hdg : decode cc pc = .ok (.getfield 47, 3)) (kk : W p l e R s m args below meth c H locs cells slots Q (F0 m (pc + 3) ls (.ref (g 13) :: rest))) : W p l e R s m args below meth c H locs cells slots Q (F0 m pc ls (.ref (g 0) :: rest)) :=
  va_get (D := D) (ci := 0) (v := .ref (g 13)) (C := RX0) (T := TX0) (N := 22) hx hb hts in_X0 hown hw.1 hw.2.1 0 rf_ow_0 rfl 15 (by decide) (hts _ q46) (fun _ h9 => h9) rfl hdg kk
theorem xg_registers (hx : p.tables.exec = Jvm.exec) (hb : c.code = cc) (hts : ∀ w ∈ lw_all, w.before args s = true) (hown : s.vm.findClass RX0 = some m.cls) (hw : rf_w D vwCl xS g ca σ A s H locs) (hdg : decode cc pc = .ok (.getfield 50, 3)) (kk : W p l e R s m args below meth c H locs cells slots Q (F0 m (pc + 3) ls (.ref (g 14) :: rest))) : W p l e R s m args below meth c H locs cells slots Q (F0 m pc ls (.ref (g 0) :: rest)) :=
  va_get (D := D) (ci := 0) (v := .ref (g 14)) (C := RX0) (T := TX0) (N := 22) hx hb hts in_X0 hown hw.1 hw.2.1 0 rf_ow_0 rfl 16 (by decide) (hts _ q47) (fun _ h9 => h9) rfl hdg kk
theorem xg_place (hx : p.tables.exec = Jvm.exec) (hb : c.code = cc) (hts : ∀ w ∈ lw_all, w.before args s = true) (hown : s.vm.findClass RX0 = some m.cls) (hw : rf_w D vwCl xS g ca σ A s H locs) (hdg : decode cc pc = .ok (.getfield 53, 3)) (kk : W p l e R s m args below meth c H locs cells slots Q (F0 m (pc + 3) ls (.ref (g 15) :: rest))) : W p l e R s m args below meth c H locs cells slots Q (F0 m pc ls (.ref (g 0) :: rest)) :=
  va_get (D := D) (ci := 0) (v := .ref (g 15)) (C := RX0) (T := TX0) (N := 22) hx hb hts in_X0 hown hw.1 hw.2.1 0 rf_ow_0 rfl 17 (by decide) (hts _ q48) (fun _ h9 => h9) rfl hdg kk
theorem xg_states (hx : p.tables.exec = Jvm.exec) (hb : c.code = cc) (hts : ∀ w ∈ lw_all, w.before args s = true) (hown : s.vm.findClass RX0 = some m.cls) (hw : rf_w D vwCl xS g ca σ A s H locs) (hdg : decode cc pc = .ok (.getfield 56, 3)) (kk : W p l e R s m args below meth c H locs cells slots Q (F0 m (pc + 3) ls (.ref (g 16) :: rest))) : W p l e R s m args below meth c H locs cells slots Q (F0 m pc ls (.ref (g 0) :: rest)) :=
  va_get (D := D) (ci := 0) (v := .ref (g 16)) (C := RX0) (T := TX0) (N := 22) hx hb hts in_X0 hown hw.1 hw.2.1 0 rf_ow_0 rfl 18 (by decide) (hts _ q49) (fun _ h9 => h9) rfl hdg kk
theorem xg_results (hx : p.tables.exec = Jvm.exec) (hb : c.code = cc) (hts : ∀ w ∈ lw_all, w.before args s = true) (hown : s.vm.findClass RX0 = some m.cls) (hw : rf_w D vwCl xS g ca σ A s H locs) (hdg : decode cc pc = .ok (.getfield 59, 3)) (kk : W p l e R s m args below meth c H locs cells slots Q (F0 m (pc + 3) ls (.ref (g 17) :: rest))) : W p l e R s m args below meth c H locs cells slots Q (F0 m pc ls (.ref (g 0) :: rest)) :=
  va_get (D := D) (ci := 0) (v := .ref (g 17)) (C := RX0) (T := TX0) (N := 22) hx hb hts in_X0 hown hw.1 hw.2.1 0 rf_ow_0 rfl 19 (by decide) (hts _ q50) (fun _ h9 => h9) rfl hdg kk
theorem xg_met (hx : p.tables.exec = Jvm.exec) (hb : c.code = cc) (hts : ∀ w ∈ lw_all, w.before args s = true) (hown : s.vm.findClass RX0 = some m.cls) (hw : rf_w D vwCl xS g ca σ A s H locs) (hdg : decode cc pc = .ok (.getfield 62, 3)) (kk : W p l e R s m args below meth c H locs cells slots Q (F0 m (pc + 3) ls (.ref (g 18) :: rest))) : W p l e R s m args below meth c H locs cells slots Q (F0 m pc ls (.ref (g 0) :: rest)) :=
  va_get (D := D) (ci := 0) (v := .ref (g 18)) (C := RX0) (T := TX0) (N := 22) hx hb hts in_X0 hown hw.1 hw.2.1 0 rf_ow_0 rfl 20 (by decide) (hts _ q51) (fun _ h9 => h9) rfl hdg kk
theorem xg_inARow (hx : p.tables.exec = Jvm.exec) (hb : c.code = cc) (hts : ∀ w ∈ lw_all, w.before args s = true) (hown : s.vm.findClass RX0 = some m.cls) (hw : rf_w D vwCl xS g ca σ A s H locs) (hdg : decode cc pc = .ok (.getfield 65, 3)) (kk : W p l e R s m args below meth c H locs cells slots Q (F0 m (pc + 3) ls (.ref (g 19) :: rest))) : W p l e R s m args below meth c H locs cells slots Q (F0 m pc ls (.ref (g 0) :: rest)) :=
  va_get (D := D) (ci := 0) (v := .ref (g 19)) (C := RX0) (T := TX0) (N := 22) hx hb hts in_X0 hown hw.1 hw.2.1 0 rf_ow_0 rfl 21 (by decide) (hts _ q52) (fun _ h9 => h9) rfl hdg kk
end XF
/-! the shape of ReplayFlowModel: 1 ops, 2 as, 3 bs, 4 states, 5 places, 6 steps, 7 registers, 8 results, 9 wakes, 10 over, 11 signals, 12 signalChannel, 13 signalValue, 14 signalTaken -/
def mln : Nat → Nat := fun j => match j with
  | 1 => 16
  | 2 => 16
  | 3 => 16
  | 4 => 3
  | 5 => 3
  | 6 => 3
  | 7 => 12
  | 8 => 3
  | 9 => 3
  | 10 => 3
  | 11 => 3
  | 12 => 72
  | 13 => 72
  | _ => 72
def mty : Nat → FieldType := fun j => match j with
  | 14 => .boolean
  | _ => .int
def mfs (g : Nat → Nat) (n : Nat → Int32) : List Value := [.ref (g 1), .ref (g 2), .ref (g 3), .int (n 0), .int (n 1), .int (n 2), .ref (g 4), .ref (g 5), .ref (g 6), .ref (g 7), .ref (g 8), .ref (g 9), .ref (g 10), .ref (g 11), .ref (g 12), .ref (g 13), .ref (g 14)]
abbrev mS : rf_Sh := (14, mln, mty, 1, mfs)
theorem mln_lt (j : Nat) : mln j < 2 ^ 31 := by
  unfold mln
  split <;> decide
section MF
variable {p : Program} {l : Launch} {e : Env} {R : Room} {s : State} {m : MethodId} {args : Array Value} {below : List Frame} {meth : Method} {c : Code} {H : Heap} {locs : List Loc} {cells slots : Nat} {Q : State → Prop}
variable {cc : ByteArray} {pc : Nat} {ls : Array Slot} {rest : List Value} {D : va_G} {g : Nat → Nat} {ca : Nat → ClassId} {σ : rf_Mem} {A : Nat → Prop}
theorem mg_ops (hx : p.tables.exec = Jvm.exec) (hb : c.code = cc) (hts : ∀ w ∈ lw_all, w.before args s = true) (hown : s.vm.findClass RX1 = some m.cls) (hw : rf_w D vwCl mS g ca σ A s H locs) (hdg : decode cc pc = .ok (.getfield 7, 3)) (kk : W p l e R s m args below meth c H locs cells slots Q (F0 m (pc + 3) ls (.ref (g 1) :: rest))) : W p l e R s m args below meth c H locs cells slots Q (F0 m pc ls (.ref (g 0) :: rest)) :=
  va_get (D := D) (ci := 1) (v := .ref (g 1)) (C := RX1) (T := TX1) (N := 17) hx hb hts in_X1 hown hw.1 hw.2.1 0 rf_ow_0 rfl 0 (by decide) (hts _ q209) (fun _ h9 => h9) rfl hdg kk
theorem mg_as (hx : p.tables.exec = Jvm.exec) (hb : c.code = cc) (hts : ∀ w ∈ lw_all, w.before args s = true) (hown : s.vm.findClass RX1 = some m.cls) (hw : rf_w D vwCl mS g ca σ A s H locs) (hdg : decode cc pc = .ok (.getfield 13, 3)) (kk : W p l e R s m args below meth c H locs cells slots Q (F0 m (pc + 3) ls (.ref (g 2) :: rest))) : W p l e R s m args below meth c H locs cells slots Q (F0 m pc ls (.ref (g 0) :: rest)) :=
  va_get (D := D) (ci := 1) (v := .ref (g 2)) (C := RX1) (T := TX1) (N := 17) hx hb hts in_X1 hown hw.1 hw.2.1 0 rf_ow_0 rfl 1 (by decide) (hts _ q210) (fun _ h9 => h9) rfl hdg kk
theorem mg_bs (hx : p.tables.exec = Jvm.exec) (hb : c.code = cc) (hts : ∀ w ∈ lw_all, w.before args s = true) (hown : s.vm.findClass RX1 = some m.cls) (hw : rf_w D vwCl mS g ca σ A s H locs) (hdg : decode cc pc = .ok (.getfield 16, 3)) (kk : W p l e R s m args below meth c H locs cells slots Q (F0 m (pc + 3) ls (.ref (g 3) :: rest))) : W p l e R s m args below meth c H locs cells slots Q (F0 m pc ls (.ref (g 0) :: rest)) :=
  va_get (D := D) (ci := 1) (v := .ref (g 3)) (C := RX1) (T := TX1) (N := 17) hx hb hts in_X1 hown hw.1 hw.2.1 0 rf_ow_0 rfl 2 (by decide) (hts _ q211) (fun _ h9 => h9) rfl hdg kk
theorem mg_length (hx : p.tables.exec = Jvm.exec) (hb : c.code = cc) (hts : ∀ w ∈ lw_all, w.before args s = true) (hown : s.vm.findClass RX1 = some m.cls) (hw : rf_w D vwCl mS g ca σ A s H locs) (hdg : decode cc pc = .ok (.getfield 53, 3)) (kk : W p l e R s m args below meth c H locs cells slots Q (F0 m (pc + 3) ls (.int (σ 0 0) :: rest))) : W p l e R s m args below meth c H locs cells slots Q (F0 m pc ls (.ref (g 0) :: rest)) :=
  va_get (D := D) (ci := 1) (v := .int (σ 0 0)) (C := RX1) (T := TX1) (N := 17) hx hb hts in_X1 hown hw.1 hw.2.1 0 rf_ow_0 rfl 3 (by decide) (hts _ q212) (fun _ h9 => h9) rfl hdg kk
theorem mp_length {v : Int32} (hx : p.tables.exec = Jvm.exec) (hb : c.code = cc) (hts : ∀ w ∈ lw_all, w.before args s = true) (hown : s.vm.findClass RX1 = some m.cls) (hg : rf_g mS g) (hA : ∀ q, rf_A mS g q → A q) (hw : rf_w D vwCl mS g ca σ A s H locs) (hdg : decode cc pc = .ok (.putfield 53, 3)) (kk : ∀ (H1 : Heap) (locs1 : List Loc), rf_w D vwCl mS g ca (rf_wr σ 0 0 v) A s H1 locs1 → W p l e R s m args below meth c H1 locs1 cells slots Q (F0 m (pc + 3) ls rest)) : W p l e R s m args below meth c H locs cells slots Q (F0 m pc ls (.int v :: .ref (g 0) :: rest)) := by
  refine va_put (D := D) (ci := 1) (v := .int v) (ty := .int) (C := RX1) (T := TX1) (N := 17) hx hb hts in_X1 tyX1 tyX1_ok nmX1 hown hw.1 hw.2.1 (rf_D hg hA) hw.2.2 0 rf_ow_0 rfl 3 (by decide) (hts _ q212) (fun _ h9 => h9) rfl (by decide +kernel) rfl rfl (Nat.le_of_ble_eq_true rfl) hdg (fun H1 locs1 hP _ hS => ?_)
  exact kk H1 locs1 ⟨hw.1, rf_put0 (S := mS) (i := 0) (v := v) hP rfl, hS⟩
theorem mg_locked (hx : p.tables.exec = Jvm.exec) (hb : c.code = cc) (hts : ∀ w ∈ lw_all, w.before args s = true) (hown : s.vm.findClass RX1 = some m.cls) (hw : rf_w D vwCl mS g ca σ A s H locs) (hdg : decode cc pc = .ok (.getfield 57, 3)) (kk : W p l e R s m args below meth c H locs cells slots Q (F0 m (pc + 3) ls (.int (σ 0 1) :: rest))) : W p l e R s m args below meth c H locs cells slots Q (F0 m pc ls (.ref (g 0) :: rest)) :=
  va_get (D := D) (ci := 1) (v := .int (σ 0 1)) (C := RX1) (T := TX1) (N := 17) hx hb hts in_X1 hown hw.1 hw.2.1 0 rf_ow_0 rfl 4 (by decide) (hts _ q213) (fun _ h9 => h9) rfl hdg kk
theorem mp_locked {v : Int32} (hx : p.tables.exec = Jvm.exec) (hb : c.code = cc) (hts : ∀ w ∈ lw_all, w.before args s = true) (hown : s.vm.findClass RX1 = some m.cls) (hg : rf_g mS g) (hA : ∀ q, rf_A mS g q → A q) (hw : rf_w D vwCl mS g ca σ A s H locs) (hn : narrow .boolean (.int v) = .int v) (hf : fits .boolean (.int v) = true) (hdg : decode cc pc = .ok (.putfield 57, 3)) (kk : ∀ (H1 : Heap) (locs1 : List Loc), rf_w D vwCl mS g ca (rf_wr σ 0 1 v) A s H1 locs1 → W p l e R s m args below meth c H1 locs1 cells slots Q (F0 m (pc + 3) ls rest)) : W p l e R s m args below meth c H locs cells slots Q (F0 m pc ls (.int v :: .ref (g 0) :: rest)) := by
  refine va_put (D := D) (ci := 1) (v := .int v) (ty := .boolean) (C := RX1) (T := TX1) (N := 17) hx hb hts in_X1 tyX1 tyX1_ok nmX1 hown hw.1 hw.2.1 (rf_D hg hA) hw.2.2 0 rf_ow_0 rfl 4 (by decide) (hts _ q213) (fun _ h9 => h9) rfl (by decide +kernel) hn hf (Nat.le_of_ble_eq_true rfl) hdg (fun H1 locs1 hP _ hS => ?_)
  exact kk H1 locs1 ⟨hw.1, rf_put0 (S := mS) (i := 1) (v := v) hP rfl, hS⟩
theorem mg_now (hx : p.tables.exec = Jvm.exec) (hb : c.code = cc) (hts : ∀ w ∈ lw_all, w.before args s = true) (hown : s.vm.findClass RX1 = some m.cls) (hw : rf_w D vwCl mS g ca σ A s H locs) (hdg : decode cc pc = .ok (.getfield 82, 3)) (kk : W p l e R s m args below meth c H locs cells slots Q (F0 m (pc + 3) ls (.int (σ 0 2) :: rest))) : W p l e R s m args below meth c H locs cells slots Q (F0 m pc ls (.ref (g 0) :: rest)) :=
  va_get (D := D) (ci := 1) (v := .int (σ 0 2)) (C := RX1) (T := TX1) (N := 17) hx hb hts in_X1 hown hw.1 hw.2.1 0 rf_ow_0 rfl 5 (by decide) (hts _ q214) (fun _ h9 => h9) rfl hdg kk
theorem mp_now {v : Int32} (hx : p.tables.exec = Jvm.exec) (hb : c.code = cc) (hts : ∀ w ∈ lw_all, w.before args s = true) (hown : s.vm.findClass RX1 = some m.cls) (hg : rf_g mS g) (hA : ∀ q, rf_A mS g q → A q) (hw : rf_w D vwCl mS g ca σ A s H locs) (hdg : decode cc pc = .ok (.putfield 82, 3)) (kk : ∀ (H1 : Heap) (locs1 : List Loc), rf_w D vwCl mS g ca (rf_wr σ 0 2 v) A s H1 locs1 → W p l e R s m args below meth c H1 locs1 cells slots Q (F0 m (pc + 3) ls rest)) : W p l e R s m args below meth c H locs cells slots Q (F0 m pc ls (.int v :: .ref (g 0) :: rest)) := by
  refine va_put (D := D) (ci := 1) (v := .int v) (ty := .int) (C := RX1) (T := TX1) (N := 17) hx hb hts in_X1 tyX1 tyX1_ok nmX1 hown hw.1 hw.2.1 (rf_D hg hA) hw.2.2 0 rf_ow_0 rfl 5 (by decide) (hts _ q214) (fun _ h9 => h9) rfl (by decide +kernel) rfl rfl (Nat.le_of_ble_eq_true rfl) hdg (fun H1 locs1 hP _ hS => ?_)
  exact kk H1 locs1 ⟨hw.1, rf_put0 (S := mS) (i := 2) (v := v) hP rfl, hS⟩
theorem mg_states (hx : p.tables.exec = Jvm.exec) (hb : c.code = cc) (hts : ∀ w ∈ lw_all, w.before args s = true) (hown : s.vm.findClass RX1 = some m.cls) (hw : rf_w D vwCl mS g ca σ A s H locs) (hdg : decode cc pc = .ok (.getfield 19, 3)) (kk : W p l e R s m args below meth c H locs cells slots Q (F0 m (pc + 3) ls (.ref (g 4) :: rest))) : W p l e R s m args below meth c H locs cells slots Q (F0 m pc ls (.ref (g 0) :: rest)) :=
  va_get (D := D) (ci := 1) (v := .ref (g 4)) (C := RX1) (T := TX1) (N := 17) hx hb hts in_X1 hown hw.1 hw.2.1 0 rf_ow_0 rfl 6 (by decide) (hts _ q215) (fun _ h9 => h9) rfl hdg kk
theorem mg_places (hx : p.tables.exec = Jvm.exec) (hb : c.code = cc) (hts : ∀ w ∈ lw_all, w.before args s = true) (hown : s.vm.findClass RX1 = some m.cls) (hw : rf_w D vwCl mS g ca σ A s H locs) (hdg : decode cc pc = .ok (.getfield 22, 3)) (kk : W p l e R s m args below meth c H locs cells slots Q (F0 m (pc + 3) ls (.ref (g 5) :: rest))) : W p l e R s m args below meth c H locs cells slots Q (F0 m pc ls (.ref (g 0) :: rest)) :=
  va_get (D := D) (ci := 1) (v := .ref (g 5)) (C := RX1) (T := TX1) (N := 17) hx hb hts in_X1 hown hw.1 hw.2.1 0 rf_ow_0 rfl 7 (by decide) (hts _ q216) (fun _ h9 => h9) rfl hdg kk
theorem mg_steps (hx : p.tables.exec = Jvm.exec) (hb : c.code = cc) (hts : ∀ w ∈ lw_all, w.before args s = true) (hown : s.vm.findClass RX1 = some m.cls) (hw : rf_w D vwCl mS g ca σ A s H locs) (hdg : decode cc pc = .ok (.getfield 25, 3)) (kk : W p l e R s m args below meth c H locs cells slots Q (F0 m (pc + 3) ls (.ref (g 6) :: rest))) : W p l e R s m args below meth c H locs cells slots Q (F0 m pc ls (.ref (g 0) :: rest)) :=
  va_get (D := D) (ci := 1) (v := .ref (g 6)) (C := RX1) (T := TX1) (N := 17) hx hb hts in_X1 hown hw.1 hw.2.1 0 rf_ow_0 rfl 8 (by decide) (hts _ q217) (fun _ h9 => h9) rfl hdg kk
theorem mg_registers (hx : p.tables.exec = Jvm.exec) (hb : c.code = cc) (hts : ∀ w ∈ lw_all, w.before args s = true) (hown : s.vm.findClass RX1 = some m.cls) (hw : rf_w D vwCl mS g ca σ A s H locs) (hdg : decode cc pc = .ok (.getfield 28, 3)) (kk : W p l e R s m args below meth c H locs cells slots Q (F0 m (pc + 3) ls (.ref (g 7) :: rest))) : W p l e R s m args below meth c H locs cells slots Q (F0 m pc ls (.ref (g 0) :: rest)) :=
  va_get (D := D) (ci := 1) (v := .ref (g 7)) (C := RX1) (T := TX1) (N := 17) hx hb hts in_X1 hown hw.1 hw.2.1 0 rf_ow_0 rfl 9 (by decide) (hts _ q218) (fun _ h9 => h9) rfl hdg kk
theorem mg_results (hx : p.tables.exec = Jvm.exec) (hb : c.code = cc) (hts : ∀ w ∈ lw_all, w.before args s = true) (hown : s.vm.findClass RX1 = some m.cls) (hw : rf_w D vwCl mS g ca σ A s H locs) (hdg : decode cc pc = .ok (.getfield 31, 3)) (kk : W p l e R s m args below meth c H locs cells slots Q (F0 m (pc + 3) ls (.ref (g 8) :: rest))) : W p l e R s m args below meth c H locs cells slots Q (F0 m pc ls (.ref (g 0) :: rest)) :=
  va_get (D := D) (ci := 1) (v := .ref (g 8)) (C := RX1) (T := TX1) (N := 17) hx hb hts in_X1 hown hw.1 hw.2.1 0 rf_ow_0 rfl 10 (by decide) (hts _ q219) (fun _ h9 => h9) rfl hdg kk
theorem mg_wakes (hx : p.tables.exec = Jvm.exec) (hb : c.code = cc) (hts : ∀ w ∈ lw_all, w.before args s = true) (hown : s.vm.findClass RX1 = some m.cls) (hw : rf_w D vwCl mS g ca σ A s H locs) (hdg : decode cc pc = .ok (.getfield 34, 3)) (kk : W p l e R s m args below meth c H locs cells slots Q (F0 m (pc + 3) ls (.ref (g 9) :: rest))) : W p l e R s m args below meth c H locs cells slots Q (F0 m pc ls (.ref (g 0) :: rest)) :=
  va_get (D := D) (ci := 1) (v := .ref (g 9)) (C := RX1) (T := TX1) (N := 17) hx hb hts in_X1 hown hw.1 hw.2.1 0 rf_ow_0 rfl 11 (by decide) (hts _ q220) (fun _ h9 => h9) rfl hdg kk
theorem mg_over (hx : p.tables.exec = Jvm.exec) (hb : c.code = cc) (hts : ∀ w ∈ lw_all, w.before args s = true) (hown : s.vm.findClass RX1 = some m.cls) (hw : rf_w D vwCl mS g ca σ A s H locs) (hdg : decode cc pc = .ok (.getfield 37, 3)) (kk : W p l e R s m args below meth c H locs cells slots Q (F0 m (pc + 3) ls (.ref (g 10) :: rest))) : W p l e R s m args below meth c H locs cells slots Q (F0 m pc ls (.ref (g 0) :: rest)) :=
  va_get (D := D) (ci := 1) (v := .ref (g 10)) (C := RX1) (T := TX1) (N := 17) hx hb hts in_X1 hown hw.1 hw.2.1 0 rf_ow_0 rfl 12 (by decide) (hts _ q221) (fun _ h9 => h9) rfl hdg kk
theorem mg_signals (hx : p.tables.exec = Jvm.exec) (hb : c.code = cc) (hts : ∀ w ∈ lw_all, w.before args s = true) (hown : s.vm.findClass RX1 = some m.cls) (hw : rf_w D vwCl mS g ca σ A s H locs) (hdg : decode cc pc = .ok (.getfield 40, 3)) (kk : W p l e R s m args below meth c H locs cells slots Q (F0 m (pc + 3) ls (.ref (g 11) :: rest))) : W p l e R s m args below meth c H locs cells slots Q (F0 m pc ls (.ref (g 0) :: rest)) :=
  va_get (D := D) (ci := 1) (v := .ref (g 11)) (C := RX1) (T := TX1) (N := 17) hx hb hts in_X1 hown hw.1 hw.2.1 0 rf_ow_0 rfl 13 (by decide) (hts _ q222) (fun _ h9 => h9) rfl hdg kk
theorem mg_signalChannel (hx : p.tables.exec = Jvm.exec) (hb : c.code = cc) (hts : ∀ w ∈ lw_all, w.before args s = true) (hown : s.vm.findClass RX1 = some m.cls) (hw : rf_w D vwCl mS g ca σ A s H locs) (hdg : decode cc pc = .ok (.getfield 43, 3)) (kk : W p l e R s m args below meth c H locs cells slots Q (F0 m (pc + 3) ls (.ref (g 12) :: rest))) : W p l e R s m args below meth c H locs cells slots Q (F0 m pc ls (.ref (g 0) :: rest)) :=
  va_get (D := D) (ci := 1) (v := .ref (g 12)) (C := RX1) (T := TX1) (N := 17) hx hb hts in_X1 hown hw.1 hw.2.1 0 rf_ow_0 rfl 14 (by decide) (hts _ q223) (fun _ h9 => h9) rfl hdg kk
theorem mg_signalValue (hx : p.tables.exec = Jvm.exec) (hb : c.code = cc) (hts : ∀ w ∈ lw_all, w.before args s = true) (hown : s.vm.findClass RX1 = some m.cls) (hw : rf_w D vwCl mS g ca σ A s H locs) (hdg : decode cc pc = .ok (.getfield 46, 3)) (kk : W p l e R s m args below meth c H locs cells slots Q (F0 m (pc + 3) ls (.ref (g 13) :: rest))) : W p l e R s m args below meth c H locs cells slots Q (F0 m pc ls (.ref (g 0) :: rest)) :=
  va_get (D := D) (ci := 1) (v := .ref (g 13)) (C := RX1) (T := TX1) (N := 17) hx hb hts in_X1 hown hw.1 hw.2.1 0 rf_ow_0 rfl 15 (by decide) (hts _ q224) (fun _ h9 => h9) rfl hdg kk
theorem mg_signalTaken (hx : p.tables.exec = Jvm.exec) (hb : c.code = cc) (hts : ∀ w ∈ lw_all, w.before args s = true) (hown : s.vm.findClass RX1 = some m.cls) (hw : rf_w D vwCl mS g ca σ A s H locs) (hdg : decode cc pc = .ok (.getfield 49, 3)) (kk : W p l e R s m args below meth c H locs cells slots Q (F0 m (pc + 3) ls (.ref (g 14) :: rest))) : W p l e R s m args below meth c H locs cells slots Q (F0 m pc ls (.ref (g 0) :: rest)) :=
  va_get (D := D) (ci := 1) (v := .ref (g 14)) (C := RX1) (T := TX1) (N := 17) hx hb hts in_X1 hown hw.1 hw.2.1 0 rf_ow_0 rfl 16 (by decide) (hts _ q225) (fun _ h9 => h9) rfl hdg kk
end MF
end
section
/-! what ReplayFlow's methods do to its memory: σ, and k: the run -/
def xx_finish (σ : rf_Mem) (k : Nat) (v : Int32) : rf_Mem := rf_wr (rf_wr σ 16 k 4) 17 k v
def xx_goTo (σ : rf_Mem) (k : Nat) (p : Int32) : rf_Mem := if p < 0 then xx_finish (rf_wr σ 15 k p) k 0 else if p < σ 0 0 then rf_wr σ 15 k p else xx_finish (rf_wr σ 15 k p) k 0
def xx_rowT (σ : rf_Mem) (k : Nat) : rf_Mem := if σ 19 k < 60 then σ else xx_finish σ k 0
def xx_plainT (σ : rf_Mem) (k : Nat) (nxt : Int32) : rf_Mem := xx_rowT (rf_wr (xx_goTo σ k nxt) 19 k (xx_goTo σ k nxt 19 k + 1)) k
def xx_fa (σ : rf_Mem) (k : Nat) : Nat := k * 4 + rf_q (σ 2 (rf_ix (σ 15 k)))
def xx_se (σ : rf_Mem) (k : Nat) : Int32 := σ 3 (rf_ix (σ 15 k))
def xx_plain (σ : rf_Mem) (k : Nat) (o : Int32) : rf_Mem :=
  if o = 0 then xx_plainT (rf_wr σ 14 (xx_fa σ k) (xx_se σ k)) k (σ 15 k + 1)
  else if o = 1 then xx_plainT (rf_wr σ 14 (xx_fa σ k) (σ 14 (xx_fa σ k) + σ 14 (k * 4 + rf_q (xx_se σ k)))) k (σ 15 k + 1)
  else if o = 2 then xx_plainT (rf_wr σ 14 (xx_fa σ k) (σ 14 (xx_fa σ k) - σ 14 (k * 4 + rf_q (xx_se σ k)))) k (σ 15 k + 1)
  else if o = 3 then xx_plainT σ k (xx_se σ k)
  else if σ 14 (xx_fa σ k) ≤ 0 then xx_plainT σ k (σ 15 k + 1)
  else xx_plainT σ k (xx_se σ k)
def xx_addEvent (σ : rf_Mem) (k : Nat) (v : Int32) : rf_Mem := if σ 6 k < 40 then rf_wr (rf_wr σ 7 (k * 40 + rf_ix (σ 6 k)) v) 6 k (σ 6 k + 1) else σ
def xx_takeSignal (σ : rf_Mem) (k : Nat) (ch : Int32) : rf_Mem := match rf_find (σ 11) (σ 9) ch (k * 24) (rf_ix (σ 8 k)) 0 with
  | none => σ
  | some i => xx_addEvent (rf_wr σ 11 i 1) k (σ 10 i)
def xx_meetT (σ : rf_Mem) (k : Nat) (p : Int32) : rf_Mem := xx_goTo (rf_wr (rf_wr σ 18 k (σ 18 k + 1)) 19 k 0) k (p + 1)
def xx_meet (σ : rf_Mem) (k : Nat) (o : Int32) : rf_Mem := if o = 6 then xx_meetT σ k (σ 15 k) else xx_meetT (rf_wr σ 14 (xx_fa σ k) (σ 7 (k * 40 + rf_ix (σ 18 k)))) k (σ 15 k)
def rf_clamp (b : Int32) : Int32 := if 1 ≤ b then (if b ≤ 100 then b else 100) else 1
def xx_fallAsleep (σ : rf_Mem) (k : Nat) : rf_Mem := if σ 12 k ≤ 0 then rf_wr (rf_wr σ 16 k 2) 12 k (σ 0 2 + rf_clamp (xx_se σ k)) else rf_wr σ 16 k 2
def xx_awaitT (σ : rf_Mem) (k : Nat) (o : Int32) : rf_Mem := if σ 6 k ≤ σ 18 k then (if o = 5 then rf_wr σ 16 k 1 else if o = 6 then xx_fallAsleep σ k else rf_wr σ 16 k 3) else xx_meet σ k o
def xx_await (σ : rf_Mem) (k : Nat) (o : Int32) : rf_Mem :=
  if σ 18 k < 40 then (if σ 18 k = σ 6 k then (if o = 7 then xx_awaitT (xx_takeSignal σ k (xx_se σ k &&& 1)) k o else xx_awaitT σ k o) else xx_awaitT σ k o) else xx_finish σ k 0
def xx_op (σ : rf_Mem) (k : Nat) : Int32 := σ 1 (rf_ix (σ 15 k))
def xx_step (σ : rf_Mem) (k : Nat) : rf_Mem :=
  if 4 < xx_op σ k then (if 7 < xx_op σ k then xx_finish σ k (σ 14 (xx_fa σ k)) else xx_await σ k (xx_op σ k)) else xx_plain σ k (xx_op σ k)
def xx_loop : Nat → rf_Mem → Nat → rf_Mem
  | 0, σ, _ => σ
  | n + 1, σ, k => if σ 16 k = 5 then xx_loop n (xx_step σ k) k else σ
def xx_carryOn (σ : rf_Mem) (k : Nat) : rf_Mem := xx_loop 2600 (xx_goTo (rf_wr σ 16 k 5) k (σ 15 k)) k
def xx_zero (σ : rf_Mem) (k : Nat) : rf_Mem := rf_wr (rf_wr (rf_wr (rf_wr σ 14 (k * 4 + 0) 0) 14 (k * 4 + 1) 0) 14 (k * 4 + 2) 0) 14 (k * 4 + 3) 0
def xx_blank (σ : rf_Mem) (k : Nat) : rf_Mem := rf_wr (rf_wr (rf_wr (rf_wr (rf_wr (xx_zero (rf_wr σ 13 k 1) k) 14 (k * 4) (σ 5 k)) 15 k 0) 17 k 0) 18 k 0) 19 k 0
def xx_begin (σ : rf_Mem) (k : Nat) : rf_Mem := xx_carryOn (xx_blank σ k) k
def xx_remember (σ : rf_Mem) (k : Nat) : rf_Mem := if σ 4 k = 0 then σ else if σ 13 k = 0 then xx_begin σ k else σ
/-- the state that stateOf answers; the memory behind it is xx_remember -/
def xr_stateOf (σ : rf_Mem) (k : Nat) : Int32 := if σ 4 k = 0 then 0 else xx_remember σ k 16 k
/-! what holds of a run's numbers: in range -/
def xx_ok (σ : rf_Mem) (k : Nat) : Prop := rf_le (σ 0 0) 16 ∧ rf_le (σ 6 k) 40 ∧ rf_le (σ 8 k) 24 ∧ rf_le (σ 18 k) 40
def xx_pl (σ : rf_Mem) (k : Nat) : Prop := σ 16 k = 5 → vp_in (σ 15 k) 16
theorem rf_inc {x : Int32} {n : Nat} (h : rf_le x n) (hn : n < 2 ^ 30) (hx : x < nI n) : rf_le (x + 1) n := by
  obtain ⟨j, hj, e⟩ := h
  rw [e] at hx ⊢
  have := (nI_ltI (by omega) (by omega)).mp hx
  exact ⟨j + 1, by omega, nI_1 j⟩
theorem rf_in_of {p q : Int32} (h : rf_le q 16) (h0 : ¬ p < 0) (h1 : p < q) : vp_in p 16 := by
  obtain ⟨j, hj, e⟩ := nI_of h0
  obtain ⟨L, hL, e2⟩ := h
  rw [e, e2] at h1
  have := (nI_ltI (by omega) (by omega)).mp h1
  rw [e]
  exact vp_in_nI (by omega) (by decide)
theorem ok_finish {σ : rf_Mem} {k : Nat} {v : Int32} (h : xx_ok σ k) : xx_ok (xx_finish σ k v) k := by
  simpa [xx_ok, xx_finish, rf_wr_at] using h
theorem pl_finish {σ : rf_Mem} {k : Nat} {v : Int32} : xx_pl (xx_finish σ k v) k := by
  intro h
  simp [xx_finish, rf_wr_at] at h
theorem ok_goTo {σ : rf_Mem} {k : Nat} {p : Int32} (h : xx_ok σ k) : xx_ok (xx_goTo σ k p) k := by
  unfold xx_goTo
  split
  · exact ok_finish (by simpa [xx_ok, rf_wr_at] using h)
  · split
    · simpa [xx_ok, rf_wr_at] using h
    · exact ok_finish (by simpa [xx_ok, rf_wr_at] using h)
theorem pl_goTo {σ : rf_Mem} {k : Nat} {p : Int32} (h : rf_le (σ 0 0) 16) : xx_pl (xx_goTo σ k p) k := by
  unfold xx_goTo
  split
  · exact pl_finish
  · split
    · rename_i h0 h1
      intro _
      simp only [rf_wr_at, and_self, ↓reduceIte]
      exact rf_in_of h h0 h1
    · exact pl_finish
theorem ok_row {σ : rf_Mem} {k i : Nat} {v : Int32} (h : xx_ok σ k) : xx_ok (rf_wr σ 19 i v) k := by
  simpa [xx_ok, rf_wr_at] using h
theorem ok_reg {σ : rf_Mem} {k i : Nat} {v : Int32} (h : xx_ok σ k) : xx_ok (rf_wr σ 14 i v) k := by
  simpa [xx_ok, rf_wr_at] using h
theorem ok_state {σ : rf_Mem} {k i : Nat} {v : Int32} (h : xx_ok σ k) : xx_ok (rf_wr σ 16 i v) k := by
  simpa [xx_ok, rf_wr_at] using h
theorem ok_wake {σ : rf_Mem} {k i : Nat} {v : Int32} (h : xx_ok σ k) : xx_ok (rf_wr σ 12 i v) k := by
  simpa [xx_ok, rf_wr_at] using h
theorem ok_taken {σ : rf_Mem} {k i : Nat} {v : Int32} (h : xx_ok σ k) : xx_ok (rf_wr σ 11 i v) k := by
  simpa [xx_ok, rf_wr_at] using h
theorem ok_plainT {σ : rf_Mem} {k : Nat} {n : Int32} (h : xx_ok σ k) : xx_ok (xx_plainT σ k n) k ∧ xx_pl (xx_plainT σ k n) k := by
  unfold xx_plainT xx_rowT
  have h1 := ok_goTo (p := n) h
  split
  · refine ⟨ok_row h1, ?_⟩
    have := pl_goTo (k := k) (p := n) h.1
    simpa [xx_pl, rf_wr_at] using this
  · exact ⟨ok_finish (ok_row h1), pl_finish⟩
theorem ok_plain {σ : rf_Mem} {k : Nat} {o : Int32} (h : xx_ok σ k) : xx_ok (xx_plain σ k o) k ∧ xx_pl (xx_plain σ k o) k := by
  unfold xx_plain
  split
  · exact ok_plainT (ok_reg h)
  · split
    · exact ok_plainT (ok_reg h)
    · split
      · exact ok_plainT (ok_reg h)
      · split
        · exact ok_plainT h
        · split
          · exact ok_plainT h
          · exact ok_plainT h
theorem ok_addEvent {σ : rf_Mem} {k : Nat} {v : Int32} (h : xx_ok σ k) : xx_ok (xx_addEvent σ k v) k := by
  unfold xx_addEvent
  split
  · rename_i h1
    refine ⟨by simpa [rf_wr_at] using h.1, ?_, by simpa [rf_wr_at] using h.2.2.1, by simpa [rf_wr_at] using h.2.2.2⟩
    simp only [rf_wr_at, and_self, ↓reduceIte]
    exact rf_inc h.2.1 (by decide) h1
  · exact h
theorem pl_addEvent {σ : rf_Mem} {k : Nat} {v : Int32} : xx_addEvent σ k v 15 k = σ 15 k ∧ xx_addEvent σ k v 18 k = σ 18 k := by
  unfold xx_addEvent
  split <;> simp [rf_wr_at]
theorem ok_takeSignal {σ : rf_Mem} {k : Nat} {ch : Int32} (h : xx_ok σ k) : xx_ok (xx_takeSignal σ k ch) k ∧ xx_takeSignal σ k ch 15 k = σ 15 k ∧ xx_takeSignal σ k ch 18 k = σ 18 k := by
  unfold xx_takeSignal
  cases rf_find (σ 11) (σ 9) ch (k * 24) (rf_ix (σ 8 k)) 0 with
  | none => exact ⟨h, rfl, rfl⟩
  | some i => exact ⟨ok_addEvent (ok_taken h), pl_addEvent.1.trans (by simp [rf_wr_at]), pl_addEvent.2.trans (by simp [rf_wr_at])⟩
theorem ok_meetT {σ : rf_Mem} {k : Nat} {p : Int32} (h : xx_ok σ k) (hm : σ 18 k < 40) : xx_ok (xx_meetT σ k p) k ∧ xx_pl (xx_meetT σ k p) k := by
  unfold xx_meetT
  refine ⟨ok_goTo (ok_row ⟨by simpa [rf_wr_at] using h.1, by simpa [rf_wr_at] using h.2.1, by simpa [rf_wr_at] using h.2.2.1, ?_⟩), pl_goTo (by simpa [rf_wr_at] using h.1)⟩
  simp only [rf_wr_at, and_self, ↓reduceIte]
  exact rf_inc h.2.2.2 (by decide) hm
theorem ok_meet {σ : rf_Mem} {k : Nat} {o : Int32} (h : xx_ok σ k) (hm : σ 18 k < 40) : xx_ok (xx_meet σ k o) k ∧ xx_pl (xx_meet σ k o) k := by
  unfold xx_meet
  split
  · exact ok_meetT h hm
  · exact ok_meetT (ok_reg h) (by simpa [rf_wr_at] using hm)
theorem ok_fall {σ : rf_Mem} {k : Nat} (h : xx_ok σ k) : xx_ok (xx_fallAsleep σ k) k ∧ xx_pl (xx_fallAsleep σ k) k := by
  unfold xx_fallAsleep
  split
  · refine ⟨ok_wake (ok_state h), fun q => ?_⟩
    simp [rf_wr_at] at q
  · refine ⟨ok_state h, fun q => ?_⟩
    simp [rf_wr_at] at q
theorem ok_awaitT {σ : rf_Mem} {k : Nat} {o : Int32} (h : xx_ok σ k) (hm : σ 18 k < 40) : xx_ok (xx_awaitT σ k o) k ∧ xx_pl (xx_awaitT σ k o) k := by
  unfold xx_awaitT
  split
  · split
    · refine ⟨ok_state h, fun q => ?_⟩
      simp [rf_wr_at] at q
    · split
      · exact ok_fall h
      · refine ⟨ok_state h, fun q => ?_⟩
        simp [rf_wr_at] at q
  · exact ok_meet h hm
theorem ok_await {σ : rf_Mem} {k : Nat} {o : Int32} (h : xx_ok σ k) : xx_ok (xx_await σ k o) k ∧ xx_pl (xx_await σ k o) k := by
  unfold xx_await
  split
  · rename_i hm
    split
    · split
      · have h2 := ok_takeSignal (ch := xx_se σ k &&& 1) h
        exact ok_awaitT h2.1 (by rw [h2.2.2]; exact hm)
      · exact ok_awaitT h hm
    · exact ok_awaitT h hm
  · exact ⟨ok_finish h, pl_finish⟩
theorem ok_step {σ : rf_Mem} {k : Nat} (h : xx_ok σ k) : xx_ok (xx_step σ k) k ∧ xx_pl (xx_step σ k) k := by
  unfold xx_step
  split
  · split
    · exact ⟨ok_finish h, pl_finish⟩
    · exact ok_await h
  · exact ok_plain h
theorem ok_loop (n : Nat) {σ : rf_Mem} {k : Nat} (h : xx_ok σ k) : xx_ok (xx_loop n σ k) k := by
  induction n generalizing σ with
  | zero => exact h
  | succ n ih =>
    unfold xx_loop
    split
    · exact ih (ok_step h).1
    · exact h
theorem ok_carryOn {σ : rf_Mem} {k : Nat} (h : xx_ok σ k) : xx_ok (xx_carryOn σ k) k := ok_loop _ (ok_goTo (ok_state h))
/-- what a run needs to be begun anew -/
def xx_okb (σ : rf_Mem) (k : Nat) : Prop := rf_le (σ 0 0) 16 ∧ rf_le (σ 6 k) 40 ∧ rf_le (σ 8 k) 24
theorem ok_blank {σ : rf_Mem} {k : Nat} (h : xx_okb σ k) : xx_ok (xx_blank σ k) k := by
  refine ⟨by simpa [xx_blank, xx_zero, rf_wr_at] using h.1, by simpa [xx_blank, xx_zero, rf_wr_at] using h.2.1, by simpa [xx_blank, xx_zero, rf_wr_at] using h.2.2, ?_⟩
  simp only [xx_blank, rf_wr_at, and_self, ↓reduceIte]
  exact ⟨0, by decide, rfl⟩
theorem ok_begin {σ : rf_Mem} {k : Nat} (h : xx_okb σ k) : xx_ok (xx_begin σ k) k := ok_carryOn (ok_blank h)
end
section
set_option maxHeartbeats 4000000 in
set_option maxRecDepth 100000 in
/-- finish: ended, with a result -/
theorem xm_finish (l : Launch) (D : va_G) {g : Nat → Nat} (ca : Nat → ClassId) (hg : rf_g xS g) (σ : rf_Mem) (k : Nat) (v : Int32) (hk : k < 3) : rf_Mv l yX0_finish cX0_finish 3 (rf_rm 0 0) D vwCl xS g ca σ [.int (nI k), .int v] (xx_finish σ k v) := by
  refine rf_enter (by decide) (Nat.le_of_ble_eq_true rfl) ?_
  intro p e s m below meth c ls hx hb hr hlk hml hown hts hnm hB hl
  have hw : rf_w D vwCl xS g ca σ (rf_A xS g) s s.heap [] := ⟨hB.1, hB.2, va_S.rf⟩
  have hA : ∀ q, rf_A xS g q → rf_A xS g q := fun _ h => h
  have hl : lv_has ls 3 [(0, .ref (g 0)), (1, .int (nI k)), (2, .int v)] := hl
  refine lv_aload_n hx hb dX0_finish_0 rfl (lv_at hl 0 rfl) ?_
  refine xg_states hx hb hts hown hw dX0_finish_1 ?_
  refine lv_iload_n hx hb dX0_finish_4 rfl (lv_at hl 1 rfl) ?_
  refine lv_iconst (v := 4) hx hb dX0_finish_5 (by decide) ?_
  refine rf_iastn (j := 16) (jx := k) hx hb hg hA hw (by decide) (by decide) rfl rfl hk (xln_lt 16) dX0_finish_6 (fun H locs hw => ?_)
  refine lv_aload_n hx hb dX0_finish_7 rfl (lv_at hl 0 rfl) ?_
  refine xg_results hx hb hts hown hw dX0_finish_8 ?_
  refine lv_iload_n hx hb dX0_finish_11 rfl (lv_at hl 1 rfl) ?_
  refine lv_iload_n hx hb dX0_finish_12 rfl (lv_at hl 2 rfl) ?_
  refine rf_iastn (j := 17) (jx := k) hx hb hg hA hw (by decide) (by decide) rfl rfl hk (xln_lt 17) dX0_finish_13 (fun H locs hw => ?_)
  exact rf_vret hx hb hr hlk hw rfl dX0_finish_14
theorem xk_finish {p : Program} {l : Launch} {e : Env} {R : Room} {s : State} {m : MethodId} {args : Array Value} {below : List Frame} {meth : Method} {c : Code} {H : Heap} {locs : List Loc} {cells slots : Nat} {Q : State → Prop} {cc : ByteArray} {pc : Nat} {ls : Array Slot} {rest : List Value} {D : va_G} {g : Nat → Nat} {ca : Nat → ClassId} {σ : rf_Mem} {A : Nat → Prop} {nL : Nat} (S0 : CallFix p m c cc nL s args lw_all RX0) (hg : rf_g xS g) (hA : ∀ q, rf_A xS g q → A q) (hw : rf_w D vwCl xS g ca σ A s H locs) {k : Nat} {v : Int32} (hk : k < 3) (hR : 0 + 1 ≤ R.frames ∧ 8 + (3 + 11) + 0 ≤ R.locals) (hls : ls.size = nL) (hst : (rest.map fun v => v.category).sum ≤ 8) (hdg : decode cc pc = .ok (.invokevirtual 79, 3)) (hf : cells ≤ R.cells ∧ slots ≤ R.slots)
    (kk : ∀ (H1 : Heap) (locs1 : List Loc), rf_w D vwCl xS g ca (xx_finish σ k v) A s H1 locs1 → W p l e R s m args below meth c H1 locs1 cells slots Q (F0 m (pc + 3) ls (rest))) : W p l e R s m args below meth c H locs cells slots Q (F0 m pc ls (.int v :: .int (nI k) :: .ref (g 0) :: rest)) :=
  rf_callv S0 (xm_finish l D ca hg σ k v hk) (cwV 2 S0.2.2.2.2 (lw_V q123 q125 qs3 q21 q126) rfl rfl rfl (by decide +kernel) hR) hw hA rfl rfl hls hst hdg hf rfl (fun H1 locs1 h _ _ => kk H1 locs1 h)

set_option maxHeartbeats 4000000 in
set_option maxRecDepth 100000 in
/-- goTo -/
theorem xm_goTo (l : Launch) (D : va_G) {g : Nat → Nat} (ca : Nat → ClassId) (hg : rf_g xS g) (σ : rf_Mem) (k : Nat) (p1 : Int32) (hk : k < 3) : rf_Mv l yX0_goTo cX0_goTo 3 (rf_rm 1 22) D vwCl xS g ca σ [.int (nI k), .int p1] (xx_goTo σ k p1) := by
  refine rf_enter (by decide) (Nat.le_of_ble_eq_true rfl) ?_
  intro p e s m below meth c ls hx hb hr hlk hml hown hts hnm hB hl
  have hw : rf_w D vwCl xS g ca σ (rf_A xS g) s s.heap [] := ⟨hB.1, hB.2, va_S.rf⟩
  have hA : ∀ q, rf_A xS g q → rf_A xS g q := fun _ h => h
  have hl : lv_has ls 3 [(0, .ref (g 0)), (1, .int (nI k)), (2, .int p1)] := hl
  refine lv_aload_n hx hb dX0_goTo_0 rfl (lv_at hl 0 rfl) ?_
  refine xg_place hx hb hts hown hw dX0_goTo_1 ?_
  refine lv_iload_n hx hb dX0_goTo_4 rfl (lv_at hl 1 rfl) ?_
  refine lv_iload_n hx hb dX0_goTo_5 rfl (lv_at hl 2 rfl) ?_
  refine rf_iastn (j := 15) (jx := k) hx hb hg hA hw (by decide) (by decide) rfl rfl hk (xln_lt 15) dX0_goTo_6 (fun H locs hw => ?_)
  refine lv_iload_n hx hb dX0_goTo_7 rfl (lv_at hl 2 rfl) ?_
  refine lv_if_lt (tgt := 19) hx hb dX0_goTo_8 (by decide) (fun c_8 => ?_) (fun c_8 => ?_)
  · refine lv_aload_n hx hb dX0_goTo_19 rfl (lv_at hl 0 rfl) ?_
    refine lv_iload_n hx hb dX0_goTo_20 rfl (lv_at hl 1 rfl) ?_
    refine lv_iconst (v := 0) hx hb dX0_goTo_21 (by decide) ?_
    refine xk_finish ⟨hx, hb, hml, hown, hts⟩ hg hA hw hk ⟨Nat.le_of_ble_eq_true rfl, Nat.le_of_ble_eq_true rfl⟩ hl.1 (Nat.le_of_ble_eq_true rfl) dX0_goTo_22 ⟨Nat.le_refl _, Nat.le_refl _⟩ (fun H locs hw => ?_)
    exact rf_vret hx hb hr hlk hw (by rw [xx_goTo, if_pos c_8]) dX0_goTo_25
  · refine lv_iload_n hx hb dX0_goTo_11 rfl (lv_at hl 2 rfl) ?_
    refine lv_aload_n hx hb dX0_goTo_12 rfl (lv_at hl 0 rfl) ?_
    refine xg_length hx hb hts hown hw dX0_goTo_13 ?_
    refine lv_icmp_lt (tgt := 25) hx hb dX0_goTo_16 (by decide) (fun (c_16 : p1 < σ 0 0) => ?_) (fun (c_16 : ¬ p1 < σ 0 0) => ?_)
    · exact rf_vret hx hb hr hlk hw (by rw [xx_goTo, if_neg c_8, if_pos c_16]) dX0_goTo_25
    · refine lv_aload_n hx hb dX0_goTo_19 rfl (lv_at hl 0 rfl) ?_
      refine lv_iload_n hx hb dX0_goTo_20 rfl (lv_at hl 1 rfl) ?_
      refine lv_iconst (v := 0) hx hb dX0_goTo_21 (by decide) ?_
      refine xk_finish ⟨hx, hb, hml, hown, hts⟩ hg hA hw hk ⟨Nat.le_of_ble_eq_true rfl, Nat.le_of_ble_eq_true rfl⟩ hl.1 (Nat.le_of_ble_eq_true rfl) dX0_goTo_22 ⟨Nat.le_refl _, Nat.le_refl _⟩ (fun H locs hw => ?_)
      exact rf_vret hx hb hr hlk hw (by rw [xx_goTo, if_neg c_8, if_neg c_16]) dX0_goTo_25
theorem xk_goTo {p : Program} {l : Launch} {e : Env} {R : Room} {s : State} {m : MethodId} {args : Array Value} {below : List Frame} {meth : Method} {c : Code} {H : Heap} {locs : List Loc} {cells slots : Nat} {Q : State → Prop} {cc : ByteArray} {pc : Nat} {ls : Array Slot} {rest : List Value} {D : va_G} {g : Nat → Nat} {ca : Nat → ClassId} {σ : rf_Mem} {A : Nat → Prop} {nL : Nat} (S0 : CallFix p m c cc nL s args lw_all RX0) (hg : rf_g xS g) (hA : ∀ q, rf_A xS g q → A q) (hw : rf_w D vwCl xS g ca σ A s H locs) {k : Nat} {p1 : Int32} (hk : k < 3) (hR : 1 + 1 ≤ R.frames ∧ 8 + (3 + 11) + 22 ≤ R.locals) (hls : ls.size = nL) (hst : (rest.map fun v => v.category).sum ≤ 8) (hdg : decode cc pc = .ok (.invokevirtual 83, 3)) (hf : cells ≤ R.cells ∧ slots ≤ R.slots)
    (kk : ∀ (H1 : Heap) (locs1 : List Loc), rf_w D vwCl xS g ca (xx_goTo σ k p1) A s H1 locs1 → W p l e R s m args below meth c H1 locs1 cells slots Q (F0 m (pc + 3) ls (rest))) : W p l e R s m args below meth c H locs cells slots Q (F0 m pc ls (.int p1 :: .int (nI k) :: .ref (g 0) :: rest)) :=
  rf_callv S0 (xm_goTo l D ca hg σ k p1 hk) (cwV 2 S0.2.2.2.2 (lw_V q119 q121 qs2 q21 q122) rfl rfl rfl (by decide +kernel) hR) hw hA rfl rfl hls hst hdg hf rfl (fun H1 locs1 h _ _ => kk H1 locs1 h)

set_option maxHeartbeats 4000000 in
set_option maxRecDepth 100000 in
/-- plain: one plain instruction -/
theorem xm_plain (l : Launch) (D : va_G) {g : Nat → Nat} (ca : Nat → ClassId) (hg : rf_g xS g) (σ : rf_Mem) (k : Nat) (o : Int32) (hk : k < 3) (hpl : vp_in (σ 15 k) 16) : rf_Mv l yX0_plain cX0_plain 7 (rf_rm 2 44) D vwCl xS g ca σ [.int (nI k), .int o] (xx_plain σ k o) := by
  refine rf_enter (by decide) (Nat.le_of_ble_eq_true rfl) ?_
  intro p e s m below meth c ls hx hb hr hlk hml hown hts hnm hB hl
  have hw : rf_w D vwCl xS g ca σ (rf_A xS g) s s.heap [] := ⟨hB.1, hB.2, va_S.rf⟩
  have hA : ∀ q, rf_A xS g q → rf_A xS g q := fun _ h => h
  have hl : lv_has ls 7 [(0, .ref (g 0)), (1, .int (nI k)), (2, .int o)] := hl
  have K167 : ∀ (σ1 : rf_Mem) (nxt : Int32) (H : Heap) (locs : List Loc) (ls : Array Slot), xx_plain σ k o = xx_plainT σ1 k nxt → rf_w D vwCl xS g ca σ1 (rf_A xS g) s H locs → lv_has ls 7 [(0, .ref (g 0)), (1, .int (nI k)), (6, .int nxt)] → W p l e (rf_rm 2 44) s m ([.ref (g 0), .int (nI k), .int o] : List Value).toArray below meth c H locs 0 0 (MQ below (va_Qv (fun σ' => σ' = xx_plain σ k o) (rf_J D vwCl xS g ca) (rf_A xS g)) ([.ref (g 0), .int (nI k), .int o] : List Value).toArray s 0 0 (rf_A xS g)) (F0 m 167 ls []) := by
    intro σ1 nxt H locs ls he hw hl
    refine lv_aload_n hx hb dX0_plain_167 rfl (lv_at hl 0 rfl) ?_
    refine lv_iload_n hx hb dX0_plain_168 rfl (lv_at hl 1 rfl) ?_
    refine lv_iload hx hb dX0_plain_169 (lv_at hl 2 rfl) ?_
    refine xk_goTo ⟨hx, hb, hml, hown, hts⟩ hg hA hw hk ⟨Nat.le_of_ble_eq_true rfl, Nat.le_of_ble_eq_true rfl⟩ hl.1 (Nat.le_of_ble_eq_true rfl) dX0_plain_171 ⟨Nat.le_refl _, Nat.le_refl _⟩ (fun H locs hw => ?_)
    refine lv_aload_n hx hb dX0_plain_174 rfl (lv_at hl 0 rfl) ?_
    refine xg_inARow hx hb hts hown hw dX0_plain_175 ?_
    refine lv_iload_n hx hb dX0_plain_178 rfl (lv_at hl 1 rfl) ?_
    refine lv_dup2_11 hx hb dX0_plain_179 rfl rfl ?_
    refine rf_ialdn (j := 19) (jx := k) hx hb hw (by decide) (by decide) rfl rfl hk (xln_lt 19) dX0_plain_180 ?_
    refine lv_iconst (v := 1) hx hb dX0_plain_181 (by decide) ?_
    refine lv_iadd hx hb dX0_plain_182 ?_
    refine rf_iastn (j := 19) (jx := k) hx hb hg hA hw (by decide) (by decide) rfl rfl hk (xln_lt 19) dX0_plain_183 (fun H locs hw => ?_)
    refine lv_aload_n hx hb dX0_plain_184 rfl (lv_at hl 0 rfl) ?_
    refine xg_inARow hx hb hts hown hw dX0_plain_185 ?_
    refine lv_iload_n hx hb dX0_plain_188 rfl (lv_at hl 1 rfl) ?_
    refine rf_ialdn (j := 19) (jx := k) hx hb hw (by decide) (by decide) rfl rfl hk (xln_lt 19) dX0_plain_189 ?_
    refine lv_bipush (v := 60) hx hb dX0_plain_190 (by decide) ?_
    refine lv_icmp_lt (tgt := 201) hx hb dX0_plain_192 (by decide) (fun c_192 => ?_) (fun c_192 => ?_)
    · exact rf_vret hx hb hr hlk hw (by rw [he, xx_plainT, xx_rowT, if_pos c_192]) dX0_plain_201
    · refine lv_aload_n hx hb dX0_plain_195 rfl (lv_at hl 0 rfl) ?_
      refine lv_iload_n hx hb dX0_plain_196 rfl (lv_at hl 1 rfl) ?_
      refine lv_iconst (v := 0) hx hb dX0_plain_197 (by decide) ?_
      refine xk_finish ⟨hx, hb, hml, hown, hts⟩ hg hA hw hk ⟨Nat.le_of_ble_eq_true rfl, Nat.le_of_ble_eq_true rfl⟩ hl.1 (Nat.le_of_ble_eq_true rfl) dX0_plain_198 ⟨Nat.le_refl _, Nat.le_refl _⟩ (fun H locs hw => ?_)
      exact rf_vret hx hb hr hlk hw (by rw [he, xx_plainT, xx_rowT, if_neg c_192]) dX0_plain_201
  refine lv_aload_n hx hb dX0_plain_0 rfl (lv_at hl 0 rfl) ?_
  refine xg_place hx hb hts hown hw dX0_plain_1 ?_
  refine lv_iload_n hx hb dX0_plain_4 rfl (lv_at hl 1 rfl) ?_
  refine rf_ialdn (j := 15) (jx := k) hx hb hw (by decide) (by decide) rfl rfl hk (xln_lt 15) dX0_plain_5 ?_
  refine lv_istore_n (lv' := [(3, .int _), (0, .ref _), (1, .int _), (2, .int _)]) hx hb dX0_plain_6 rfl hl (by decide) rfl (fun ls hl => ?_)
  refine lv_iload_n hx hb dX0_plain_7 rfl (lv_at hl 2 rfl) ?_
  refine lv_iconst (v := 4) hx hb dX0_plain_8 (by decide) ?_
  refine lv_imul hx hb dX0_plain_9 ?_
  refine lv_aload_n hx hb dX0_plain_10 rfl (lv_at hl 1 rfl) ?_
  refine xg_first hx hb hts hown hw dX0_plain_11 ?_
  refine lv_iload_n hx hb dX0_plain_14 rfl (lv_at hl 0 rfl) ?_
  refine rf_iald (j := 2) hx hb hw (by decide) (by decide) rfl hpl dX0_plain_15 ?_
  refine lv_iconst (v := 3) hx hb dX0_plain_16 (by decide) ?_
  refine lv_iand hx hb dX0_plain_17 ?_
  refine lv_iadd hx hb dX0_plain_18 ?_
  refine lv_istore (lv' := [(4, .int _), (3, .int _), (0, .ref _), (1, .int _), (2, .int _)]) hx hb dX0_plain_19 hl (by decide) rfl (fun ls hl => ?_)
  refine lv_iload_n hx hb dX0_plain_21 rfl (lv_at hl 3 rfl) ?_
  refine lv_iconst (v := 4) hx hb dX0_plain_22 (by decide) ?_
  refine lv_imul hx hb dX0_plain_23 ?_
  refine lv_aload_n hx hb dX0_plain_24 rfl (lv_at hl 2 rfl) ?_
  refine xg_second hx hb hts hown hw dX0_plain_25 ?_
  refine lv_iload_n hx hb dX0_plain_28 rfl (lv_at hl 1 rfl) ?_
  refine rf_iald (j := 3) hx hb hw (by decide) (by decide) rfl hpl dX0_plain_29 ?_
  refine lv_iconst (v := 3) hx hb dX0_plain_30 (by decide) ?_
  refine lv_iand hx hb dX0_plain_31 ?_
  refine lv_iadd hx hb dX0_plain_32 ?_
  refine lv_istore (lv' := [(5, .int _), (4, .int _), (3, .int _), (0, .ref _), (1, .int _), (2, .int _)]) hx hb dX0_plain_33 hl (by decide) rfl (fun ls hl => ?_)
  refine lv_iload_n hx hb dX0_plain_35 rfl (lv_at hl 2 rfl) ?_
  refine lv_iconst (v := 1) hx hb dX0_plain_36 (by decide) ?_
  refine lv_iadd hx hb dX0_plain_37 ?_
  refine lv_istore (lv' := [(6, .int _), (5, .int _), (4, .int _), (3, .int _), (0, .ref _), (1, .int _), (2, .int _)]) hx hb dX0_plain_38 hl (by decide) rfl (fun ls hl => ?_)
  refine lv_iload_n hx hb dX0_plain_40 rfl (lv_at hl 6 rfl) ?_
  by_cases o0 : o = 0
  · refine lv_tableIn (tgt := 72) (off := 31) hx hb dX0_plain_41 (by rw [o0]; decide) (by rw [o0]; decide) (by rw [o0] <;> rfl) (by decide) ?_
    refine lv_aload_n hx hb dX0_plain_72 rfl (lv_at hl 4 rfl) ?_
    refine xg_registers hx hb hts hown hw dX0_plain_73 ?_
    refine lv_iload hx hb dX0_plain_76 (lv_at hl 2 rfl) ?_
    refine lv_aload_n hx hb dX0_plain_78 rfl (lv_at hl 4 rfl) ?_
    refine xg_second hx hb hts hown hw dX0_plain_79 ?_
    refine lv_iload_n hx hb dX0_plain_82 rfl (lv_at hl 3 rfl) ?_
    refine rf_iald (j := 3) hx hb hw (by decide) (by decide) rfl hpl dX0_plain_83 ?_
    refine rf_iastn (j := 14) (jx := (xx_fa σ k)) hx hb hg hA hw (by decide) (by decide) rfl (rf_ix4 k _) (rf_r4 hk _) (xln_lt 14) dX0_plain_84 (fun H locs hw => ?_)
    refine lv_goto (tgt := 167) hx hb dX0_plain_85 (by decide) ?_
    exact K167 _ _ _ _ _ (by rw [xx_plain, if_pos o0] <;> rfl) hw (lv_sub hl [4, 5, 0] rfl)
  by_cases o1 : o = 1
  · refine lv_tableIn (tgt := 88) (off := 47) hx hb dX0_plain_41 (by rw [o1]; decide) (by rw [o1]; decide) (by rw [o1] <;> rfl) (by decide) ?_
    refine lv_aload_n hx hb dX0_plain_88 rfl (lv_at hl 4 rfl) ?_
    refine xg_registers hx hb hts hown hw dX0_plain_89 ?_
    refine lv_iload hx hb dX0_plain_92 (lv_at hl 2 rfl) ?_
    refine lv_aload_n hx hb dX0_plain_94 rfl (lv_at hl 4 rfl) ?_
    refine xg_registers hx hb hts hown hw dX0_plain_95 ?_
    refine lv_iload hx hb dX0_plain_98 (lv_at hl 2 rfl) ?_
    refine rf_ialdn (j := 14) (jx := (xx_fa σ k)) hx hb hw (by decide) (by decide) rfl (rf_ix4 k _) (rf_r4 hk _) (xln_lt 14) dX0_plain_100 ?_
    refine lv_aload_n hx hb dX0_plain_101 rfl (lv_at hl 4 rfl) ?_
    refine xg_registers hx hb hts hown hw dX0_plain_102 ?_
    refine lv_iload hx hb dX0_plain_105 (lv_at hl 1 rfl) ?_
    refine rf_ialdn (j := 14) (jx := (k * 4 + rf_q (xx_se σ k))) hx hb hw (by decide) (by decide) rfl (rf_ix4 k _) (rf_r4 hk _) (xln_lt 14) dX0_plain_107 ?_
    refine lv_iadd hx hb dX0_plain_108 ?_
    refine rf_iastn (j := 14) (jx := (xx_fa σ k)) hx hb hg hA hw (by decide) (by decide) rfl (rf_ix4 k _) (rf_r4 hk _) (xln_lt 14) dX0_plain_109 (fun H locs hw => ?_)
    refine lv_goto (tgt := 167) hx hb dX0_plain_110 (by decide) ?_
    exact K167 _ _ _ _ _ (by rw [xx_plain, if_neg o0, if_pos o1] <;> rfl) hw (lv_sub hl [4, 5, 0] rfl)
  by_cases o2 : o = 2
  · refine lv_tableIn (tgt := 113) (off := 72) hx hb dX0_plain_41 (by rw [o2]; decide) (by rw [o2]; decide) (by rw [o2] <;> rfl) (by decide) ?_
    refine lv_aload_n hx hb dX0_plain_113 rfl (lv_at hl 4 rfl) ?_
    refine xg_registers hx hb hts hown hw dX0_plain_114 ?_
    refine lv_iload hx hb dX0_plain_117 (lv_at hl 2 rfl) ?_
    refine lv_aload_n hx hb dX0_plain_119 rfl (lv_at hl 4 rfl) ?_
    refine xg_registers hx hb hts hown hw dX0_plain_120 ?_
    refine lv_iload hx hb dX0_plain_123 (lv_at hl 2 rfl) ?_
    refine rf_ialdn (j := 14) (jx := (xx_fa σ k)) hx hb hw (by decide) (by decide) rfl (rf_ix4 k _) (rf_r4 hk _) (xln_lt 14) dX0_plain_125 ?_
    refine lv_aload_n hx hb dX0_plain_126 rfl (lv_at hl 4 rfl) ?_
    refine xg_registers hx hb hts hown hw dX0_plain_127 ?_
    refine lv_iload hx hb dX0_plain_130 (lv_at hl 1 rfl) ?_
    refine rf_ialdn (j := 14) (jx := (k * 4 + rf_q (xx_se σ k))) hx hb hw (by decide) (by decide) rfl (rf_ix4 k _) (rf_r4 hk _) (xln_lt 14) dX0_plain_132 ?_
    refine lv_isub hx hb dX0_plain_133 ?_
    refine rf_iastn (j := 14) (jx := (xx_fa σ k)) hx hb hg hA hw (by decide) (by decide) rfl (rf_ix4 k _) (rf_r4 hk _) (xln_lt 14) dX0_plain_134 (fun H locs hw => ?_)
    refine lv_goto (tgt := 167) hx hb dX0_plain_135 (by decide) ?_
    exact K167 _ _ _ _ _ (by rw [xx_plain, if_neg o0, if_neg o1, if_pos o2] <;> rfl) hw (lv_sub hl [4, 5, 0] rfl)
  by_cases o3 : o = 3
  · refine lv_tableIn (tgt := 138) (off := 97) hx hb dX0_plain_41 (by rw [o3]; decide) (by rw [o3]; decide) (by rw [o3] <;> rfl) (by decide) ?_
    refine lv_aload_n hx hb dX0_plain_138 rfl (lv_at hl 4 rfl) ?_
    refine xg_second hx hb hts hown hw dX0_plain_139 ?_
    refine lv_iload_n hx hb dX0_plain_142 rfl (lv_at hl 3 rfl) ?_
    refine rf_iald (j := 3) hx hb hw (by decide) (by decide) rfl hpl dX0_plain_143 ?_
    refine lv_istore (lv' := [(6, .int _), (5, .int _), (4, .int _), (3, .int _), (0, .ref _), (1, .int _), (2, .int _)]) hx hb dX0_plain_144 hl (by decide) rfl (fun ls hl => ?_)
    refine lv_goto (tgt := 167) hx hb dX0_plain_146 (by decide) ?_
    exact K167 _ _ _ _ _ (by rw [xx_plain, if_neg o0, if_neg o1, if_neg o2, if_pos o3] <;> rfl) hw (lv_sub hl [4, 5, 0] rfl)
  refine lv_tableOut (tgt := 149) hx hb dX0_plain_41 (rf_out4 o0 o1 o2 o3) (by decide) ?_
  refine lv_aload_n hx hb dX0_plain_149 rfl (lv_at hl 4 rfl) ?_
  refine xg_registers hx hb hts hown hw dX0_plain_150 ?_
  refine lv_iload hx hb dX0_plain_153 (lv_at hl 2 rfl) ?_
  refine rf_ialdn (j := 14) (jx := (xx_fa σ k)) hx hb hw (by decide) (by decide) rfl (rf_ix4 k _) (rf_r4 hk _) (xln_lt 14) dX0_plain_155 ?_
  refine lv_if_le (tgt := 167) hx hb dX0_plain_156 (by decide) (fun (c_156 : σ 14 (xx_fa σ k) ≤ 0) => ?_) (fun (c_156 : ¬ σ 14 (xx_fa σ k) ≤ 0) => ?_)
  · exact K167 _ _ _ _ _ (by rw [xx_plain, if_neg o0, if_neg o1, if_neg o2, if_neg o3, if_pos c_156] <;> rfl) hw (lv_sub hl [4, 5, 0] rfl)
  · refine lv_aload_n hx hb dX0_plain_159 rfl (lv_at hl 4 rfl) ?_
    refine xg_second hx hb hts hown hw dX0_plain_160 ?_
    refine lv_iload_n hx hb dX0_plain_163 rfl (lv_at hl 3 rfl) ?_
    refine rf_iald (j := 3) hx hb hw (by decide) (by decide) rfl hpl dX0_plain_164 ?_
    refine lv_istore (lv' := [(6, .int _), (5, .int _), (4, .int _), (3, .int _), (0, .ref _), (1, .int _), (2, .int _)]) hx hb dX0_plain_165 hl (by decide) rfl (fun ls hl => ?_)
    exact K167 _ _ _ _ _ (by rw [xx_plain, if_neg o0, if_neg o1, if_neg o2, if_neg o3, if_neg c_156] <;> rfl) hw (lv_sub hl [4, 5, 0] rfl)
theorem xk_plain {p : Program} {l : Launch} {e : Env} {R : Room} {s : State} {m : MethodId} {args : Array Value} {below : List Frame} {meth : Method} {c : Code} {H : Heap} {locs : List Loc} {cells slots : Nat} {Q : State → Prop} {cc : ByteArray} {pc : Nat} {ls : Array Slot} {rest : List Value} {D : va_G} {g : Nat → Nat} {ca : Nat → ClassId} {σ : rf_Mem} {A : Nat → Prop} {nL : Nat} (S0 : CallFix p m c cc nL s args lw_all RX0) (hg : rf_g xS g) (hA : ∀ q, rf_A xS g q → A q) (hw : rf_w D vwCl xS g ca σ A s H locs) {k : Nat} {o : Int32} (hk : k < 3) (hpl : vp_in (σ 15 k) 16) (hR : 2 + 1 ≤ R.frames ∧ 8 + (7 + 11) + 44 ≤ R.locals) (hls : ls.size = nL) (hst : (rest.map fun v => v.category).sum ≤ 8) (hdg : decode cc pc = .ok (.invokevirtual 86, 3)) (hf : cells ≤ R.cells ∧ slots ≤ R.slots)
    (kk : ∀ (H1 : Heap) (locs1 : List Loc), rf_w D vwCl xS g ca (xx_plain σ k o) A s H1 locs1 → W p l e R s m args below meth c H1 locs1 cells slots Q (F0 m (pc + 3) ls (rest))) : W p l e R s m args below meth c H locs cells slots Q (F0 m pc ls (.int o :: .int (nI k) :: .ref (g 0) :: rest)) :=
  rf_callv S0 (xm_plain l D ca hg σ k o hk hpl) (cwV 2 S0.2.2.2.2 (lw_V q127 q129 qs4 q21 q130) rfl rfl rfl (by decide +kernel) hR) hw hA rfl rfl hls hst hdg hf rfl (fun H1 locs1 h _ _ => kk H1 locs1 h)

set_option maxHeartbeats 4000000 in
set_option maxRecDepth 100000 in
/-- addEvent -/
theorem xm_addEvent (l : Launch) (D : va_G) {g : Nat → Nat} (ca : Nat → ClassId) (hg : rf_g xS g) (σ : rf_Mem) (k : Nat) (v : Int32) (hk : k < 3) (hE : rf_le (σ 6 k) 40) : rf_Mv l yX0_addEvent cX0_addEvent 3 (rf_rm 0 0) D vwCl xS g ca σ [.int (nI k), .int v] (xx_addEvent σ k v) := by
  refine rf_enter (by decide) (Nat.le_of_ble_eq_true rfl) ?_
  intro p e s m below meth c ls hx hb hr hlk hml hown hts hnm hB hl
  have hw : rf_w D vwCl xS g ca σ (rf_A xS g) s s.heap [] := ⟨hB.1, hB.2, va_S.rf⟩
  have hA : ∀ q, rf_A xS g q → rf_A xS g q := fun _ h => h
  have hl : lv_has ls 3 [(0, .ref (g 0)), (1, .int (nI k)), (2, .int v)] := hl
  refine lv_aload_n hx hb dX0_addEvent_0 rfl (lv_at hl 0 rfl) ?_
  refine xg_events hx hb hts hown hw dX0_addEvent_1 ?_
  refine lv_iload_n hx hb dX0_addEvent_4 rfl (lv_at hl 1 rfl) ?_
  refine rf_ialdn (j := 6) (jx := k) hx hb hw (by decide) (by decide) rfl rfl hk (xln_lt 6) dX0_addEvent_5 ?_
  refine lv_bipush (v := 40) hx hb dX0_addEvent_6 (by decide) ?_
  refine lv_icmp_lt (tgt := 12) hx hb dX0_addEvent_8 (by decide) (fun c_8 => ?_) (fun c_8 => ?_)
  · have hin40 := rf_le_in hE (by decide) c_8
    refine lv_aload_n hx hb dX0_addEvent_12 rfl (lv_at hl 0 rfl) ?_
    refine xg_event hx hb hts hown hw dX0_addEvent_13 ?_
    refine lv_iload_n hx hb dX0_addEvent_16 rfl (lv_at hl 1 rfl) ?_
    refine lv_bipush (v := 40) hx hb dX0_addEvent_17 (by decide) ?_
    refine lv_imul hx hb dX0_addEvent_19 ?_
    refine lv_aload_n hx hb dX0_addEvent_20 rfl (lv_at hl 0 rfl) ?_
    refine xg_events hx hb hts hown hw dX0_addEvent_21 ?_
    refine lv_iload_n hx hb dX0_addEvent_24 rfl (lv_at hl 1 rfl) ?_
    refine rf_ialdn (j := 6) (jx := k) hx hb hw (by decide) (by decide) rfl rfl hk (xln_lt 6) dX0_addEvent_25 ?_
    refine lv_iadd hx hb dX0_addEvent_26 ?_
    refine lv_iload_n hx hb dX0_addEvent_27 rfl (lv_at hl 2 rfl) ?_
    refine rf_iastn (j := 7) (jx := (k * 40 + rf_ix (σ 6 k))) hx hb hg hA hw (by decide) (by decide) rfl (rf_ix40 k hin40 (by decide)) (rf_r40 hk hin40) (xln_lt 7) dX0_addEvent_28 (fun H locs hw => ?_)
    refine lv_aload_n hx hb dX0_addEvent_29 rfl (lv_at hl 0 rfl) ?_
    refine xg_events hx hb hts hown hw dX0_addEvent_30 ?_
    refine lv_iload_n hx hb dX0_addEvent_33 rfl (lv_at hl 1 rfl) ?_
    refine lv_dup2_11 hx hb dX0_addEvent_34 rfl rfl ?_
    refine rf_ialdn (j := 6) (jx := k) hx hb hw (by decide) (by decide) rfl rfl hk (xln_lt 6) dX0_addEvent_35 ?_
    refine lv_iconst (v := 1) hx hb dX0_addEvent_36 (by decide) ?_
    refine lv_iadd hx hb dX0_addEvent_37 ?_
    refine rf_iastn (j := 6) (jx := k) hx hb hg hA hw (by decide) (by decide) rfl rfl hk (xln_lt 6) dX0_addEvent_38 (fun H locs hw => ?_)
    exact rf_vret hx hb hr hlk hw (by rw [xx_addEvent, if_pos c_8] <;> rfl) dX0_addEvent_39
  · exact rf_vret hx hb hr hlk hw (by rw [xx_addEvent, if_neg c_8] <;> rfl) dX0_addEvent_11
theorem xk_addEvent {p : Program} {l : Launch} {e : Env} {R : Room} {s : State} {m : MethodId} {args : Array Value} {below : List Frame} {meth : Method} {c : Code} {H : Heap} {locs : List Loc} {cells slots : Nat} {Q : State → Prop} {cc : ByteArray} {pc : Nat} {ls : Array Slot} {rest : List Value} {D : va_G} {g : Nat → Nat} {ca : Nat → ClassId} {σ : rf_Mem} {A : Nat → Prop} {nL : Nat} (S0 : CallFix p m c cc nL s args lw_all RX0) (hg : rf_g xS g) (hA : ∀ q, rf_A xS g q → A q) (hw : rf_w D vwCl xS g ca σ A s H locs) {k : Nat} {v : Int32} (hk : k < 3) (hE : rf_le (σ 6 k) 40) (hR : 0 + 1 ≤ R.frames ∧ 8 + (3 + 11) + 0 ≤ R.locals) (hls : ls.size = nL) (hst : (rest.map fun v => v.category).sum ≤ 8) (hdg : decode cc pc = .ok (.invokevirtual 102, 3)) (hf : cells ≤ R.cells ∧ slots ≤ R.slots)
    (kk : ∀ (H1 : Heap) (locs1 : List Loc), rf_w D vwCl xS g ca (xx_addEvent σ k v) A s H1 locs1 → W p l e R s m args below meth c H1 locs1 cells slots Q (F0 m (pc + 3) ls (rest))) : W p l e R s m args below meth c H locs cells slots Q (F0 m pc ls (.int v :: .int (nI k) :: .ref (g 0) :: rest)) :=
  rf_callv S0 (xm_addEvent l D ca hg σ k v hk hE) (cwV 2 S0.2.2.2.2 (lw_V q139 q141 qs7 q21 q142) rfl rfl rfl (by decide +kernel) hR) hw hA rfl rfl hls hst hdg hf rfl (fun H1 locs1 h _ _ => kk H1 locs1 h)

set_option maxHeartbeats 4000000 in
set_option maxRecDepth 100000 in
/-- takeSignal: the first that is not taken, on the channel -/
theorem xm_takeSignal (l : Launch) (D : va_G) {g : Nat → Nat} (ca : Nat → ClassId) (hg : rf_g xS g) (σ : rf_Mem) (k : Nat) (ch : Int32) (hk : k < 3) (hE : rf_le (σ 6 k) 40) (hSg : rf_le (σ 8 k) 24) : rf_Mv l yX0_takeSignal cX0_takeSignal 4 (rf_rm 1 22) D vwCl xS g ca σ [.int (nI k), .int ch] (xx_takeSignal σ k ch) := by
  refine rf_enter (by decide) (Nat.le_of_ble_eq_true rfl) ?_
  intro p e s m below meth c ls hx hb hr hlk hml hown hts hnm hB hl
  have hw : rf_w D vwCl xS g ca σ (rf_A xS g) s s.heap [] := ⟨hB.1, hB.2, va_S.rf⟩
  have hA : ∀ q, rf_A xS g q → rf_A xS g q := fun _ h => h
  have hl : lv_has ls 4 [(0, .ref (g 0)), (1, .int (nI k)), (2, .int ch)] := hl
  obtain ⟨n0, hn0, en0⟩ := hSg
  have hn1 : rf_ix (σ 8 k) = n0 := by show (σ 8 k).toNatClampNeg = n0; rw [en0, nI_clamp (by omega)]
  have K5 : ∀ (n t : Nat) (H : Heap) (locs : List Loc) (ls : Array Slot), t + n = n0 → rf_find (σ 11) (σ 9) ch (k * 24) n0 0 = rf_find (σ 11) (σ 9) ch (k * 24) n t → rf_w D vwCl xS g ca σ (rf_A xS g) s H locs → lv_has ls 4 [(3, .int (nI (k * 24 + t))), (0, .ref (g 0)), (1, .int (nI k)), (2, .int ch)] → W p l e (rf_rm 1 22) s m ([.ref (g 0), .int (nI k), .int ch] : List Value).toArray below meth c H locs 0 0 (MQ below (va_Qv (fun σ' => σ' = xx_takeSignal σ k ch) (rf_J D vwCl xS g ca) (rf_A xS g)) ([.ref (g 0), .int (nI k), .int ch] : List Value).toArray s 0 0 (rf_A xS g)) (F0 m 5 ls []) := by
    intro n
    induction n with
    | zero =>
      intro t H locs ls ht hf hw hl
      refine lv_iload_n hx hb dX0_takeSignal_5 rfl (lv_at hl 0 rfl) ?_
      refine lv_iload_n hx hb dX0_takeSignal_6 rfl (lv_at hl 2 rfl) ?_
      refine lv_bipush (v := 24) hx hb dX0_takeSignal_7 (by decide) ?_
      refine lv_imul hx hb dX0_takeSignal_9 ?_
      refine lv_aload_n hx hb dX0_takeSignal_10 rfl (lv_at hl 1 rfl) ?_
      refine xg_signals hx hb hts hown hw dX0_takeSignal_11 ?_
      refine lv_iload_n hx hb dX0_takeSignal_14 rfl (lv_at hl 2 rfl) ?_
      refine rf_ialdn (j := 8) (jx := k) hx hb hw (by decide) (by decide) rfl rfl hk (xln_lt 8) dX0_takeSignal_15 ?_
      refine lv_iadd hx hb dX0_takeSignal_16 ?_
      refine lv_icmp_ge (tgt := 64) hx hb dX0_takeSignal_17 (by decide) (fun c_17 => ?_) (fun c_17 => ?_)
      · exact rf_vret hx hb hr hlk hw (by rw [xx_takeSignal, hn1, hf] <;> rfl) dX0_takeSignal_64
      · exact absurd (by rw [en0, rf_ix24n, nI_add]; exact nI_le (by omega) (by omega)) c_17
    | succ n ih =>
      intro t H locs ls ht hf hw hl
      have K58 : ∀ (H : Heap) (locs : List Loc) (ls : Array Slot), rf_find (σ 11) (σ 9) ch (k * 24) n0 0 = rf_find (σ 11) (σ 9) ch (k * 24) n (t + 1) → rf_w D vwCl xS g ca σ (rf_A xS g) s H locs → lv_has ls 4 [(3, .int (nI (k * 24 + t))), (0, .ref (g 0)), (1, .int (nI k)), (2, .int ch)] → W p l e (rf_rm 1 22) s m ([.ref (g 0), .int (nI k), .int ch] : List Value).toArray below meth c H locs 0 0 (MQ below (va_Qv (fun σ' => σ' = xx_takeSignal σ k ch) (rf_J D vwCl xS g ca) (rf_A xS g)) ([.ref (g 0), .int (nI k), .int ch] : List Value).toArray s 0 0 (rf_A xS g)) (F0 m 58 ls []) := by
        intro H locs ls hf2 hw hl
        refine lv_iinc (v := nI (k * 24 + (t + 1))) (lv' := [(3, .int _), (0, .ref _), (1, .int _), (2, .int _)]) hx hb dX0_takeSignal_58 hl (k := 0) rfl (nI_1 (k * 24 + t)) (by decide) rfl (fun ls hl => ?_)
        refine lv_goto (tgt := 5) hx hb dX0_takeSignal_61 (by decide) ?_
        exact ih (t + 1) _ _ _ (by omega) hf2 hw (lv_sub hl [0, 1, 2, 3] rfl)
      refine lv_iload_n hx hb dX0_takeSignal_5 rfl (lv_at hl 0 rfl) ?_
      refine lv_iload_n hx hb dX0_takeSignal_6 rfl (lv_at hl 2 rfl) ?_
      refine lv_bipush (v := 24) hx hb dX0_takeSignal_7 (by decide) ?_
      refine lv_imul hx hb dX0_takeSignal_9 ?_
      refine lv_aload_n hx hb dX0_takeSignal_10 rfl (lv_at hl 1 rfl) ?_
      refine xg_signals hx hb hts hown hw dX0_takeSignal_11 ?_
      refine lv_iload_n hx hb dX0_takeSignal_14 rfl (lv_at hl 2 rfl) ?_
      refine rf_ialdn (j := 8) (jx := k) hx hb hw (by decide) (by decide) rfl rfl hk (xln_lt 8) dX0_takeSignal_15 ?_
      refine lv_iadd hx hb dX0_takeSignal_16 ?_
      refine lv_icmp_ge (tgt := 64) hx hb dX0_takeSignal_17 (by decide) (fun c_17 => ?_) (fun c_17 => ?_)
      · exact absurd c_17 (by rw [en0, rf_ix24n, nI_add]; exact nI_ge (by omega) (by omega))
      · refine lv_aload_n hx hb dX0_takeSignal_20 rfl (lv_at hl 1 rfl) ?_
        refine xg_taken hx hb hts hown hw dX0_takeSignal_21 ?_
        refine lv_iload_n hx hb dX0_takeSignal_24 rfl (lv_at hl 0 rfl) ?_
        refine rf_zaldn (j := 11) (jx := (k * 24 + t)) hx hb hw (by decide) (by decide) rfl rfl (show k * 24 + t < 72 by omega) (xln_lt 11) dX0_takeSignal_25 ?_
        refine lv_if_ne (tgt := 58) hx hb dX0_takeSignal_26 (by decide) (fun c_26 => ?_) (fun c_26 => ?_)
        · exact K58 _ _ _ (by rw [hf, rf_find, if_neg (fun q => c_26 q.2)]) hw (lv_sub hl [0, 1, 2, 3] rfl)
        · refine lv_aload_n hx hb dX0_takeSignal_29 rfl (lv_at hl 1 rfl) ?_
          refine xg_channelOf hx hb hts hown hw dX0_takeSignal_30 ?_
          refine lv_iload_n hx hb dX0_takeSignal_33 rfl (lv_at hl 0 rfl) ?_
          refine rf_ialdn (j := 9) (jx := (k * 24 + t)) hx hb hw (by decide) (by decide) rfl rfl (show k * 24 + t < 72 by omega) (xln_lt 9) dX0_takeSignal_34 ?_
          refine lv_iload_n hx hb dX0_takeSignal_35 rfl (lv_at hl 3 rfl) ?_
          refine lv_icmp_ne (tgt := 58) hx hb dX0_takeSignal_36 (by decide) (fun c_36 => ?_) (fun c_36 => ?_)
          · exact K58 _ _ _ (by rw [hf, rf_find, if_neg (fun q => c_36 q.1)]) hw (lv_sub hl [0, 1, 2, 3] rfl)
          · refine lv_aload_n hx hb dX0_takeSignal_39 rfl (lv_at hl 1 rfl) ?_
            refine xg_taken hx hb hts hown hw dX0_takeSignal_40 ?_
            refine lv_iload_n hx hb dX0_takeSignal_43 rfl (lv_at hl 0 rfl) ?_
            refine lv_iconst (v := 1) hx hb dX0_takeSignal_44 (by decide) ?_
            refine rf_zastn (j := 11) (jx := (k * 24 + t)) hx hb hg hA hw (by decide) (by decide) rfl rfl rfl (show k * 24 + t < 72 by omega) (xln_lt 11) dX0_takeSignal_45 (fun H locs hw => ?_)
            refine lv_aload_n hx hb dX0_takeSignal_46 rfl (lv_at hl 1 rfl) ?_
            refine lv_iload_n hx hb dX0_takeSignal_47 rfl (lv_at hl 2 rfl) ?_
            refine lv_aload_n hx hb dX0_takeSignal_48 rfl (lv_at hl 1 rfl) ?_
            refine xg_valueOf hx hb hts hown hw dX0_takeSignal_49 ?_
            refine lv_iload_n hx hb dX0_takeSignal_52 rfl (lv_at hl 0 rfl) ?_
            refine rf_ialdn (j := 10) (jx := (k * 24 + t)) hx hb hw (by decide) (by decide) rfl rfl (show k * 24 + t < 72 by omega) (xln_lt 10) dX0_takeSignal_53 ?_
            refine xk_addEvent ⟨hx, hb, hml, hown, hts⟩ hg hA hw hk hE ⟨Nat.le_of_ble_eq_true rfl, Nat.le_of_ble_eq_true rfl⟩ hl.1 (Nat.le_of_ble_eq_true rfl) dX0_takeSignal_54 ⟨Nat.le_refl _, Nat.le_refl _⟩ (fun H locs hw => ?_)
            exact rf_vret hx hb hr hlk hw (by rw [xx_takeSignal, hn1, hf, rf_find, if_pos ⟨c_36, c_26⟩] <;> rfl) dX0_takeSignal_57
  refine lv_iload_n hx hb dX0_takeSignal_0 rfl (lv_at hl 1 rfl) ?_
  refine lv_bipush (v := 24) hx hb dX0_takeSignal_1 (by decide) ?_
  refine lv_imul hx hb dX0_takeSignal_3 ?_
  rw [show (nI k) * 24 = nI (k * 24 + 0) from (rf_ix24n k)]
  refine lv_istore_n (lv' := [(3, .int _), (0, .ref _), (1, .int _), (2, .int _)]) hx hb dX0_takeSignal_4 rfl hl (by decide) rfl (fun ls hl => ?_)
  exact K5 n0 0 _ _ _ (by omega) rfl hw (lv_sub hl [0, 1, 2, 3] rfl)
theorem xk_takeSignal {p : Program} {l : Launch} {e : Env} {R : Room} {s : State} {m : MethodId} {args : Array Value} {below : List Frame} {meth : Method} {c : Code} {H : Heap} {locs : List Loc} {cells slots : Nat} {Q : State → Prop} {cc : ByteArray} {pc : Nat} {ls : Array Slot} {rest : List Value} {D : va_G} {g : Nat → Nat} {ca : Nat → ClassId} {σ : rf_Mem} {A : Nat → Prop} {nL : Nat} (S0 : CallFix p m c cc nL s args lw_all RX0) (hg : rf_g xS g) (hA : ∀ q, rf_A xS g q → A q) (hw : rf_w D vwCl xS g ca σ A s H locs) {k : Nat} {ch : Int32} (hk : k < 3) (hE : rf_le (σ 6 k) 40) (hSg : rf_le (σ 8 k) 24) (hR : 1 + 1 ≤ R.frames ∧ 8 + (4 + 11) + 22 ≤ R.locals) (hls : ls.size = nL) (hst : (rest.map fun v => v.category).sum ≤ 8) (hdg : decode cc pc = .ok (.invokevirtual 92, 3)) (hf : cells ≤ R.cells ∧ slots ≤ R.slots)
    (kk : ∀ (H1 : Heap) (locs1 : List Loc), rf_w D vwCl xS g ca (xx_takeSignal σ k ch) A s H1 locs1 → W p l e R s m args below meth c H1 locs1 cells slots Q (F0 m (pc + 3) ls (rest))) : W p l e R s m args below meth c H locs cells slots Q (F0 m pc ls (.int ch :: .int (nI k) :: .ref (g 0) :: rest)) :=
  rf_callv S0 (xm_takeSignal l D ca hg σ k ch hk hE hSg) (cwV 2 S0.2.2.2.2 (lw_V q135 q137 qs6 q21 q138) rfl rfl rfl (by decide +kernel) hR) hw hA rfl rfl hls hst hdg hf rfl (fun H1 locs1 h _ _ => kk H1 locs1 h)

set_option maxHeartbeats 4000000 in
set_option maxRecDepth 100000 in
/-- meet: a wait is over -/
theorem xm_meet (l : Launch) (D : va_G) {g : Nat → Nat} (ca : Nat → ClassId) (hg : rf_g xS g) (σ : rf_Mem) (k : Nat) (o : Int32) (hk : k < 3) (hpl : vp_in (σ 15 k) 16) (hin40 : vp_in (σ 18 k) 40) : rf_Mv l yX0_meet cX0_meet 4 (rf_rm 2 44) D vwCl xS g ca σ [.int (nI k), .int o] (xx_meet σ k o) := by
  refine rf_enter (by decide) (Nat.le_of_ble_eq_true rfl) ?_
  intro p e s m below meth c ls hx hb hr hlk hml hown hts hnm hB hl
  have hw : rf_w D vwCl xS g ca σ (rf_A xS g) s s.heap [] := ⟨hB.1, hB.2, va_S.rf⟩
  have hA : ∀ q, rf_A xS g q → rf_A xS g q := fun _ h => h
  have hl : lv_has ls 4 [(0, .ref (g 0)), (1, .int (nI k)), (2, .int o)] := hl
  have K46 : ∀ (σ1 : rf_Mem) (H : Heap) (locs : List Loc) (ls : Array Slot), xx_meet σ k o = xx_meetT σ1 k (σ 15 k) → rf_w D vwCl xS g ca σ1 (rf_A xS g) s H locs → lv_has ls 4 [(0, .ref (g 0)), (1, .int (nI k)), (3, .int (σ 15 k))] → W p l e (rf_rm 2 44) s m ([.ref (g 0), .int (nI k), .int o] : List Value).toArray below meth c H locs 0 0 (MQ below (va_Qv (fun σ' => σ' = xx_meet σ k o) (rf_J D vwCl xS g ca) (rf_A xS g)) ([.ref (g 0), .int (nI k), .int o] : List Value).toArray s 0 0 (rf_A xS g)) (F0 m 46 ls []) := by
    intro σ1 H locs ls he hw hl
    refine lv_aload_n hx hb dX0_meet_46 rfl (lv_at hl 0 rfl) ?_
    refine xg_met hx hb hts hown hw dX0_meet_47 ?_
    refine lv_iload_n hx hb dX0_meet_50 rfl (lv_at hl 1 rfl) ?_
    refine lv_dup2_11 hx hb dX0_meet_51 rfl rfl ?_
    refine rf_ialdn (j := 18) (jx := k) hx hb hw (by decide) (by decide) rfl rfl hk (xln_lt 18) dX0_meet_52 ?_
    refine lv_iconst (v := 1) hx hb dX0_meet_53 (by decide) ?_
    refine lv_iadd hx hb dX0_meet_54 ?_
    refine rf_iastn (j := 18) (jx := k) hx hb hg hA hw (by decide) (by decide) rfl rfl hk (xln_lt 18) dX0_meet_55 (fun H locs hw => ?_)
    refine lv_aload_n hx hb dX0_meet_56 rfl (lv_at hl 0 rfl) ?_
    refine xg_inARow hx hb hts hown hw dX0_meet_57 ?_
    refine lv_iload_n hx hb dX0_meet_60 rfl (lv_at hl 1 rfl) ?_
    refine lv_iconst (v := 0) hx hb dX0_meet_61 (by decide) ?_
    refine rf_iastn (j := 19) (jx := k) hx hb hg hA hw (by decide) (by decide) rfl rfl hk (xln_lt 19) dX0_meet_62 (fun H locs hw => ?_)
    refine lv_aload_n hx hb dX0_meet_63 rfl (lv_at hl 0 rfl) ?_
    refine lv_iload_n hx hb dX0_meet_64 rfl (lv_at hl 1 rfl) ?_
    refine lv_iload_n hx hb dX0_meet_65 rfl (lv_at hl 2 rfl) ?_
    refine lv_iconst (v := 1) hx hb dX0_meet_66 (by decide) ?_
    refine lv_iadd hx hb dX0_meet_67 ?_
    refine xk_goTo ⟨hx, hb, hml, hown, hts⟩ hg hA hw hk ⟨Nat.le_of_ble_eq_true rfl, Nat.le_of_ble_eq_true rfl⟩ hl.1 (Nat.le_of_ble_eq_true rfl) dX0_meet_68 ⟨Nat.le_refl _, Nat.le_refl _⟩ (fun H locs hw => ?_)
    exact rf_vret hx hb hr hlk hw (by rw [he] <;> rfl) dX0_meet_71
  refine lv_aload_n hx hb dX0_meet_0 rfl (lv_at hl 0 rfl) ?_
  refine xg_place hx hb hts hown hw dX0_meet_1 ?_
  refine lv_iload_n hx hb dX0_meet_4 rfl (lv_at hl 1 rfl) ?_
  refine rf_ialdn (j := 15) (jx := k) hx hb hw (by decide) (by decide) rfl rfl hk (xln_lt 15) dX0_meet_5 ?_
  refine lv_istore_n (lv' := [(3, .int _), (0, .ref _), (1, .int _), (2, .int _)]) hx hb dX0_meet_6 rfl hl (by decide) rfl (fun ls hl => ?_)
  refine lv_iload_n hx hb dX0_meet_7 rfl (lv_at hl 3 rfl) ?_
  refine lv_bipush (v := 6) hx hb dX0_meet_8 (by decide) ?_
  refine lv_icmp_eq (tgt := 46) hx hb dX0_meet_10 (by decide) (fun c_10 => ?_) (fun c_10 => ?_)
  · exact K46 _ _ _ _ (by rw [xx_meet, if_pos c_10] <;> rfl) hw (lv_sub hl [1, 2, 0] rfl)
  · refine lv_aload_n hx hb dX0_meet_13 rfl (lv_at hl 1 rfl) ?_
    refine xg_registers hx hb hts hown hw dX0_meet_14 ?_
    refine lv_iload_n hx hb dX0_meet_17 rfl (lv_at hl 2 rfl) ?_
    refine lv_iconst (v := 4) hx hb dX0_meet_18 (by decide) ?_
    refine lv_imul hx hb dX0_meet_19 ?_
    refine lv_aload_n hx hb dX0_meet_20 rfl (lv_at hl 1 rfl) ?_
    refine xg_first hx hb hts hown hw dX0_meet_21 ?_
    refine lv_iload_n hx hb dX0_meet_24 rfl (lv_at hl 0 rfl) ?_
    refine rf_iald (j := 2) hx hb hw (by decide) (by decide) rfl hpl dX0_meet_25 ?_
    refine lv_iconst (v := 3) hx hb dX0_meet_26 (by decide) ?_
    refine lv_iand hx hb dX0_meet_27 ?_
    refine lv_iadd hx hb dX0_meet_28 ?_
    refine lv_aload_n hx hb dX0_meet_29 rfl (lv_at hl 1 rfl) ?_
    refine xg_event hx hb hts hown hw dX0_meet_30 ?_
    refine lv_iload_n hx hb dX0_meet_33 rfl (lv_at hl 2 rfl) ?_
    refine lv_bipush (v := 40) hx hb dX0_meet_34 (by decide) ?_
    refine lv_imul hx hb dX0_meet_36 ?_
    refine lv_aload_n hx hb dX0_meet_37 rfl (lv_at hl 1 rfl) ?_
    refine xg_met hx hb hts hown hw dX0_meet_38 ?_
    refine lv_iload_n hx hb dX0_meet_41 rfl (lv_at hl 2 rfl) ?_
    refine rf_ialdn (j := 18) (jx := k) hx hb hw (by decide) (by decide) rfl rfl hk (xln_lt 18) dX0_meet_42 ?_
    refine lv_iadd hx hb dX0_meet_43 ?_
    refine rf_ialdn (j := 7) (jx := (k * 40 + rf_ix (σ 18 k))) hx hb hw (by decide) (by decide) rfl (rf_ix40 k hin40 (by decide)) (rf_r40 hk hin40) (xln_lt 7) dX0_meet_44 ?_
    refine rf_iastn (j := 14) (jx := (xx_fa σ k)) hx hb hg hA hw (by decide) (by decide) rfl (rf_ix4 k _) (rf_r4 hk _) (xln_lt 14) dX0_meet_45 (fun H locs hw => ?_)
    exact K46 _ _ _ _ (by rw [xx_meet, if_neg c_10] <;> rfl) hw (lv_sub hl [1, 2, 0] rfl)
theorem xk_meet {p : Program} {l : Launch} {e : Env} {R : Room} {s : State} {m : MethodId} {args : Array Value} {below : List Frame} {meth : Method} {c : Code} {H : Heap} {locs : List Loc} {cells slots : Nat} {Q : State → Prop} {cc : ByteArray} {pc : Nat} {ls : Array Slot} {rest : List Value} {D : va_G} {g : Nat → Nat} {ca : Nat → ClassId} {σ : rf_Mem} {A : Nat → Prop} {nL : Nat} (S0 : CallFix p m c cc nL s args lw_all RX0) (hg : rf_g xS g) (hA : ∀ q, rf_A xS g q → A q) (hw : rf_w D vwCl xS g ca σ A s H locs) {k : Nat} {o : Int32} (hk : k < 3) (hpl : vp_in (σ 15 k) 16) (hin40 : vp_in (σ 18 k) 40) (hR : 2 + 1 ≤ R.frames ∧ 8 + (4 + 11) + 44 ≤ R.locals) (hls : ls.size = nL) (hst : (rest.map fun v => v.category).sum ≤ 8) (hdg : decode cc pc = .ok (.invokevirtual 95, 3)) (hf : cells ≤ R.cells ∧ slots ≤ R.slots)
    (kk : ∀ (H1 : Heap) (locs1 : List Loc), rf_w D vwCl xS g ca (xx_meet σ k o) A s H1 locs1 → W p l e R s m args below meth c H1 locs1 cells slots Q (F0 m (pc + 3) ls (rest))) : W p l e R s m args below meth c H locs cells slots Q (F0 m pc ls (.int o :: .int (nI k) :: .ref (g 0) :: rest)) :=
  rf_callv S0 (xm_meet l D ca hg σ k o hk hpl hin40) (cwV 2 S0.2.2.2.2 (lw_V q143 q145 qs8 q21 q146) rfl rfl rfl (by decide +kernel) hR) hw hA rfl rfl hls hst hdg hf rfl (fun H1 locs1 h _ _ => kk H1 locs1 h)

set_option maxHeartbeats 4000000 in
set_option maxRecDepth 100000 in
/-- fallAsleep -/
theorem xm_fallAsleep (l : Launch) (D : va_G) {g : Nat → Nat} (ca : Nat → ClassId) (hg : rf_g xS g) (σ : rf_Mem) (k : Nat) (hk : k < 3) (hpl : vp_in (σ 15 k) 16) : rf_Mv l yX0_fallAsleep cX0_fallAsleep 3 (rf_rm 0 0) D vwCl xS g ca σ [.int (nI k)] (xx_fallAsleep σ k) := by
  refine rf_enter (by decide) (Nat.le_of_ble_eq_true rfl) ?_
  intro p e s m below meth c ls hx hb hr hlk hml hown hts hnm hB hl
  have hw : rf_w D vwCl xS g ca σ (rf_A xS g) s s.heap [] := ⟨hB.1, hB.2, va_S.rf⟩
  have hA : ∀ q, rf_A xS g q → rf_A xS g q := fun _ h => h
  have hl : lv_has ls 3 [(0, .ref (g 0)), (1, .int (nI k))] := hl
  refine lv_aload_n hx hb dX0_fallAsleep_0 rfl (lv_at hl 0 rfl) ?_
  refine xg_states hx hb hts hown hw dX0_fallAsleep_1 ?_
  refine lv_iload_n hx hb dX0_fallAsleep_4 rfl (lv_at hl 1 rfl) ?_
  refine lv_iconst (v := 2) hx hb dX0_fallAsleep_5 (by decide) ?_
  refine rf_iastn (j := 16) (jx := k) hx hb hg hA hw (by decide) (by decide) rfl rfl hk (xln_lt 16) dX0_fallAsleep_6 (fun H locs hw => ?_)
  refine lv_aload_n hx hb dX0_fallAsleep_7 rfl (lv_at hl 0 rfl) ?_
  refine xg_wakesAt hx hb hts hown hw dX0_fallAsleep_8 ?_
  refine lv_iload_n hx hb dX0_fallAsleep_11 rfl (lv_at hl 1 rfl) ?_
  refine rf_ialdn (j := 12) (jx := k) hx hb hw (by decide) (by decide) rfl rfl hk (xln_lt 12) dX0_fallAsleep_12 ?_
  refine lv_if_le (tgt := 17) hx hb dX0_fallAsleep_13 (by decide) (fun (c_13 : σ 12 k ≤ 0) => ?_) (fun (c_13 : ¬ σ 12 k ≤ 0) => ?_)
  · refine lv_aload_n hx hb dX0_fallAsleep_17 rfl (lv_at hl 0 rfl) ?_
    refine xg_second hx hb hts hown hw dX0_fallAsleep_18 ?_
    refine lv_aload_n hx hb dX0_fallAsleep_21 rfl (lv_at hl 0 rfl) ?_
    refine xg_place hx hb hts hown hw dX0_fallAsleep_22 ?_
    refine lv_iload_n hx hb dX0_fallAsleep_25 rfl (lv_at hl 1 rfl) ?_
    refine rf_ialdn (j := 15) (jx := k) hx hb hw (by decide) (by decide) rfl rfl hk (xln_lt 15) dX0_fallAsleep_26 ?_
    refine rf_iald (j := 3) hx hb hw (by decide) (by decide) rfl hpl dX0_fallAsleep_27 ?_
    refine lv_istore_n (lv' := [(2, .int _), (0, .ref _), (1, .int _)]) hx hb dX0_fallAsleep_28 rfl hl (by decide) rfl (fun ls hl => ?_)
    refine lv_iload_n hx hb dX0_fallAsleep_29 rfl (lv_at hl 0 rfl) ?_
    refine lv_iconst (v := 1) hx hb dX0_fallAsleep_30 (by decide) ?_
    refine lv_icmp_ge (tgt := 36) hx hb dX0_fallAsleep_31 (by decide) (fun (c_31 : 1 ≤ xx_se σ k) => ?_) (fun (c_31 : ¬ 1 ≤ xx_se σ k) => ?_)
    · refine lv_iload_n hx hb dX0_fallAsleep_36 rfl (lv_at hl 0 rfl) ?_
      refine lv_bipush (v := 100) hx hb dX0_fallAsleep_37 (by decide) ?_
      refine lv_icmp_le (tgt := 45) hx hb dX0_fallAsleep_39 (by decide) (fun (c_39 : xx_se σ k ≤ 100) => ?_) (fun (c_39 : ¬ xx_se σ k ≤ 100) => ?_)
      · refine lv_aload_n hx hb dX0_fallAsleep_45 rfl (lv_at hl 1 rfl) ?_
        refine xg_wakesAt hx hb hts hown hw dX0_fallAsleep_46 ?_
        refine lv_iload_n hx hb dX0_fallAsleep_49 rfl (lv_at hl 2 rfl) ?_
        refine lv_aload_n hx hb dX0_fallAsleep_50 rfl (lv_at hl 1 rfl) ?_
        refine xg_now hx hb hts hown hw dX0_fallAsleep_51 ?_
        refine lv_iload_n hx hb dX0_fallAsleep_54 rfl (lv_at hl 0 rfl) ?_
        refine lv_iadd hx hb dX0_fallAsleep_55 ?_
        refine rf_iastn (j := 12) (jx := k) hx hb hg hA hw (by decide) (by decide) rfl rfl hk (xln_lt 12) dX0_fallAsleep_56 (fun H locs hw => ?_)
        exact rf_vret hx hb hr hlk hw (by rw [xx_fallAsleep, if_pos c_13, rf_clamp, if_pos c_31, if_pos c_39] <;> rfl) dX0_fallAsleep_57
      · refine lv_bipush (v := 100) hx hb dX0_fallAsleep_42 (by decide) ?_
        refine lv_istore_n (lv' := [(2, .int _), (0, .ref _), (1, .int _)]) hx hb dX0_fallAsleep_44 rfl hl (by decide) rfl (fun ls hl => ?_)
        refine lv_aload_n hx hb dX0_fallAsleep_45 rfl (lv_at hl 1 rfl) ?_
        refine xg_wakesAt hx hb hts hown hw dX0_fallAsleep_46 ?_
        refine lv_iload_n hx hb dX0_fallAsleep_49 rfl (lv_at hl 2 rfl) ?_
        refine lv_aload_n hx hb dX0_fallAsleep_50 rfl (lv_at hl 1 rfl) ?_
        refine xg_now hx hb hts hown hw dX0_fallAsleep_51 ?_
        refine lv_iload_n hx hb dX0_fallAsleep_54 rfl (lv_at hl 0 rfl) ?_
        refine lv_iadd hx hb dX0_fallAsleep_55 ?_
        refine rf_iastn (j := 12) (jx := k) hx hb hg hA hw (by decide) (by decide) rfl rfl hk (xln_lt 12) dX0_fallAsleep_56 (fun H locs hw => ?_)
        exact rf_vret hx hb hr hlk hw (by rw [xx_fallAsleep, if_pos c_13, rf_clamp, if_pos c_31, if_neg c_39] <;> rfl) dX0_fallAsleep_57
    · refine lv_iconst (v := 1) hx hb dX0_fallAsleep_34 (by decide) ?_
      refine lv_istore_n (lv' := [(2, .int _), (0, .ref _), (1, .int _)]) hx hb dX0_fallAsleep_35 rfl hl (by decide) rfl (fun ls hl => ?_)
      refine lv_iload_n hx hb dX0_fallAsleep_36 rfl (lv_at hl 0 rfl) ?_
      refine lv_bipush (v := 100) hx hb dX0_fallAsleep_37 (by decide) ?_
      refine lv_icmp_le (tgt := 45) hx hb dX0_fallAsleep_39 (by decide) (fun _ => ?_) (fun c_ => absurd c_ (by decide))
      refine lv_aload_n hx hb dX0_fallAsleep_45 rfl (lv_at hl 1 rfl) ?_
      refine xg_wakesAt hx hb hts hown hw dX0_fallAsleep_46 ?_
      refine lv_iload_n hx hb dX0_fallAsleep_49 rfl (lv_at hl 2 rfl) ?_
      refine lv_aload_n hx hb dX0_fallAsleep_50 rfl (lv_at hl 1 rfl) ?_
      refine xg_now hx hb hts hown hw dX0_fallAsleep_51 ?_
      refine lv_iload_n hx hb dX0_fallAsleep_54 rfl (lv_at hl 0 rfl) ?_
      refine lv_iadd hx hb dX0_fallAsleep_55 ?_
      refine rf_iastn (j := 12) (jx := k) hx hb hg hA hw (by decide) (by decide) rfl rfl hk (xln_lt 12) dX0_fallAsleep_56 (fun H locs hw => ?_)
      exact rf_vret hx hb hr hlk hw (by rw [xx_fallAsleep, if_pos c_13, rf_clamp, if_neg c_31] <;> rfl) dX0_fallAsleep_57
  · exact rf_vret hx hb hr hlk hw (by rw [xx_fallAsleep, if_neg c_13]) dX0_fallAsleep_16
theorem xk_fallAsleep {p : Program} {l : Launch} {e : Env} {R : Room} {s : State} {m : MethodId} {args : Array Value} {below : List Frame} {meth : Method} {c : Code} {H : Heap} {locs : List Loc} {cells slots : Nat} {Q : State → Prop} {cc : ByteArray} {pc : Nat} {ls : Array Slot} {rest : List Value} {D : va_G} {g : Nat → Nat} {ca : Nat → ClassId} {σ : rf_Mem} {A : Nat → Prop} {nL : Nat} (S0 : CallFix p m c cc nL s args lw_all RX0) (hg : rf_g xS g) (hA : ∀ q, rf_A xS g q → A q) (hw : rf_w D vwCl xS g ca σ A s H locs) {k : Nat} (hk : k < 3) (hpl : vp_in (σ 15 k) 16) (hR : 0 + 1 ≤ R.frames ∧ 8 + (3 + 11) + 0 ≤ R.locals) (hls : ls.size = nL) (hst : (rest.map fun v => v.category).sum ≤ 8) (hdg : decode cc pc = .ok (.invokevirtual 98, 3)) (hf : cells ≤ R.cells ∧ slots ≤ R.slots)
    (kk : ∀ (H1 : Heap) (locs1 : List Loc), rf_w D vwCl xS g ca (xx_fallAsleep σ k) A s H1 locs1 → W p l e R s m args below meth c H1 locs1 cells slots Q (F0 m (pc + 3) ls (rest))) : W p l e R s m args below meth c H locs cells slots Q (F0 m pc ls (.int (nI k) :: .ref (g 0) :: rest)) :=
  rf_callv S0 (xm_fallAsleep l D ca hg σ k hk hpl) (cwV 1 S0.2.2.2.2 (lw_V q147 q149 qs9 q21 q150) rfl rfl rfl (by decide +kernel) hR) hw hA rfl rfl hls hst hdg hf rfl (fun H1 locs1 h _ _ => kk H1 locs1 h)
end
section
set_option maxHeartbeats 4000000 in
set_option maxRecDepth 100000 in
/-- await: a wait -/
theorem xm_await (l : Launch) (D : va_G) {g : Nat → Nat} (ca : Nat → ClassId) (hg : rf_g xS g) (σ : rf_Mem) (k : Nat) (o : Int32) (hk : k < 3) (hok : xx_ok σ k) (hpl : vp_in (σ 15 k) 16) : rf_Mv l yX0_await cX0_await 3 (rf_rm 3 67) D vwCl xS g ca σ [.int (nI k), .int o] (xx_await σ k o) := by
  refine rf_enter (by decide) (Nat.le_of_ble_eq_true rfl) ?_
  intro p e s m below meth c ls hx hb hr hlk hml hown hts hnm hB hl
  have hw : rf_w D vwCl xS g ca σ (rf_A xS g) s s.heap [] := ⟨hB.1, hB.2, va_S.rf⟩
  have hA : ∀ q, rf_A xS g q → rf_A xS g q := fun _ h => h
  have hl : lv_has ls 3 [(0, .ref (g 0)), (1, .int (nI k)), (2, .int o)] := hl
  have K57 : ∀ (σ1 : rf_Mem) (H : Heap) (locs : List Loc) (ls : Array Slot), σ1 18 k < 40 → xx_ok σ1 k → vp_in (σ1 15 k) 16 → xx_await σ k o = xx_awaitT σ1 k o → rf_w D vwCl xS g ca σ1 (rf_A xS g) s H locs → lv_has ls 3 [(0, .ref (g 0)), (1, .int (nI k)), (2, .int o)] → W p l e (rf_rm 3 67) s m ([.ref (g 0), .int (nI k), .int o] : List Value).toArray below meth c H locs 0 0 (MQ below (va_Qv (fun σ' => σ' = xx_await σ k o) (rf_J D vwCl xS g ca) (rf_A xS g)) ([.ref (g 0), .int (nI k), .int o] : List Value).toArray s 0 0 (rf_A xS g)) (F0 m 57 ls []) := by
    intro σ1 H locs ls hm1 hok1 hpl1 he hw hl
    refine lv_aload_n hx hb dX0_await_57 rfl (lv_at hl 0 rfl) ?_
    refine xg_met hx hb hts hown hw dX0_await_58 ?_
    refine lv_iload_n hx hb dX0_await_61 rfl (lv_at hl 1 rfl) ?_
    refine rf_ialdn (j := 18) (jx := k) hx hb hw (by decide) (by decide) rfl rfl hk (xln_lt 18) dX0_await_62 ?_
    refine lv_aload_n hx hb dX0_await_63 rfl (lv_at hl 0 rfl) ?_
    refine xg_events hx hb hts hown hw dX0_await_64 ?_
    refine lv_iload_n hx hb dX0_await_67 rfl (lv_at hl 1 rfl) ?_
    refine rf_ialdn (j := 6) (jx := k) hx hb hw (by decide) (by decide) rfl rfl hk (xln_lt 6) dX0_await_68 ?_
    refine lv_icmp_ge (tgt := 79) hx hb dX0_await_69 (by decide) (fun c_69 => ?_) (fun c_69 => ?_)
    · refine lv_iload_n hx hb dX0_await_79 rfl (lv_at hl 2 rfl) ?_
      refine lv_iconst (v := 5) hx hb dX0_await_80 (by decide) ?_
      refine lv_icmp_ne (tgt := 94) hx hb dX0_await_81 (by decide) (fun c_81 => ?_) (fun c_81 => ?_)
      · refine lv_iload_n hx hb dX0_await_94 rfl (lv_at hl 2 rfl) ?_
        refine lv_bipush (v := 6) hx hb dX0_await_95 (by decide) ?_
        refine lv_icmp_ne (tgt := 108) hx hb dX0_await_97 (by decide) (fun c_97 => ?_) (fun c_97 => ?_)
        · refine lv_aload_n hx hb dX0_await_108 rfl (lv_at hl 0 rfl) ?_
          refine xg_states hx hb hts hown hw dX0_await_109 ?_
          refine lv_iload_n hx hb dX0_await_112 rfl (lv_at hl 1 rfl) ?_
          refine lv_iconst (v := 3) hx hb dX0_await_113 (by decide) ?_
          refine rf_iastn (j := 16) (jx := k) hx hb hg hA hw (by decide) (by decide) rfl rfl hk (xln_lt 16) dX0_await_114 (fun H locs hw => ?_)
          exact rf_vret hx hb hr hlk hw (by rw [he, xx_awaitT, if_pos c_69, if_neg c_81, if_neg c_97]) dX0_await_115
        · refine lv_aload_n hx hb dX0_await_100 rfl (lv_at hl 0 rfl) ?_
          refine lv_iload_n hx hb dX0_await_101 rfl (lv_at hl 1 rfl) ?_
          refine xk_fallAsleep ⟨hx, hb, hml, hown, hts⟩ hg hA hw hk hpl1 ⟨Nat.le_of_ble_eq_true rfl, Nat.le_of_ble_eq_true rfl⟩ hl.1 (Nat.le_of_ble_eq_true rfl) dX0_await_102 ⟨Nat.le_refl _, Nat.le_refl _⟩ (fun H locs hw => ?_)
          refine lv_goto (tgt := 115) hx hb dX0_await_105 (by decide) ?_
          exact rf_vret hx hb hr hlk hw (by rw [he, xx_awaitT, if_pos c_69, if_neg c_81, if_pos c_97]) dX0_await_115
      · refine lv_aload_n hx hb dX0_await_84 rfl (lv_at hl 0 rfl) ?_
        refine xg_states hx hb hts hown hw dX0_await_85 ?_
        refine lv_iload_n hx hb dX0_await_88 rfl (lv_at hl 1 rfl) ?_
        refine lv_iconst (v := 1) hx hb dX0_await_89 (by decide) ?_
        refine rf_iastn (j := 16) (jx := k) hx hb hg hA hw (by decide) (by decide) rfl rfl hk (xln_lt 16) dX0_await_90 (fun H locs hw => ?_)
        refine lv_goto (tgt := 115) hx hb dX0_await_91 (by decide) ?_
        exact rf_vret hx hb hr hlk hw (by rw [he, xx_awaitT, if_pos c_69, if_pos c_81]) dX0_await_115
    · refine lv_aload_n hx hb dX0_await_72 rfl (lv_at hl 0 rfl) ?_
      refine lv_iload_n hx hb dX0_await_73 rfl (lv_at hl 1 rfl) ?_
      refine lv_iload_n hx hb dX0_await_74 rfl (lv_at hl 2 rfl) ?_
      refine xk_meet ⟨hx, hb, hml, hown, hts⟩ hg hA hw hk hpl1 (rf_le_in hok1.2.2.2 (by decide) hm1) ⟨Nat.le_of_ble_eq_true rfl, Nat.le_of_ble_eq_true rfl⟩ hl.1 (Nat.le_of_ble_eq_true rfl) dX0_await_75 ⟨Nat.le_refl _, Nat.le_refl _⟩ (fun H locs hw => ?_)
      exact rf_vret hx hb hr hlk hw (by rw [he, xx_awaitT, if_neg c_69]) dX0_await_78
  refine lv_aload_n hx hb dX0_await_0 rfl (lv_at hl 0 rfl) ?_
  refine xg_met hx hb hts hown hw dX0_await_1 ?_
  refine lv_iload_n hx hb dX0_await_4 rfl (lv_at hl 1 rfl) ?_
  refine rf_ialdn (j := 18) (jx := k) hx hb hw (by decide) (by decide) rfl rfl hk (xln_lt 18) dX0_await_5 ?_
  refine lv_bipush (v := 40) hx hb dX0_await_6 (by decide) ?_
  refine lv_icmp_lt (tgt := 18) hx hb dX0_await_8 (by decide) (fun c_8 => ?_) (fun c_8 => ?_)
  · refine lv_aload_n hx hb dX0_await_18 rfl (lv_at hl 0 rfl) ?_
    refine xg_met hx hb hts hown hw dX0_await_19 ?_
    refine lv_iload_n hx hb dX0_await_22 rfl (lv_at hl 1 rfl) ?_
    refine rf_ialdn (j := 18) (jx := k) hx hb hw (by decide) (by decide) rfl rfl hk (xln_lt 18) dX0_await_23 ?_
    refine lv_aload_n hx hb dX0_await_24 rfl (lv_at hl 0 rfl) ?_
    refine xg_events hx hb hts hown hw dX0_await_25 ?_
    refine lv_iload_n hx hb dX0_await_28 rfl (lv_at hl 1 rfl) ?_
    refine rf_ialdn (j := 6) (jx := k) hx hb hw (by decide) (by decide) rfl rfl hk (xln_lt 6) dX0_await_29 ?_
    refine lv_icmp_ne (tgt := 57) hx hb dX0_await_30 (by decide) (fun c_30 => ?_) (fun c_30 => ?_)
    · exact K57 _ _ _ _ c_8 hok hpl (by rw [xx_await, if_pos c_8, if_neg c_30]) hw (lv_sub hl [0, 1, 2] rfl)
    · refine lv_iload_n hx hb dX0_await_33 rfl (lv_at hl 2 rfl) ?_
      refine lv_bipush (v := 7) hx hb dX0_await_34 (by decide) ?_
      refine lv_icmp_ne (tgt := 57) hx hb dX0_await_36 (by decide) (fun c_36 => ?_) (fun c_36 => ?_)
      · exact K57 _ _ _ _ c_8 hok hpl (by rw [xx_await, if_pos c_8, if_pos c_30, if_neg c_36]) hw (lv_sub hl [0, 1, 2] rfl)
      · refine lv_aload_n hx hb dX0_await_39 rfl (lv_at hl 0 rfl) ?_
        refine lv_iload_n hx hb dX0_await_40 rfl (lv_at hl 1 rfl) ?_
        refine lv_aload_n hx hb dX0_await_41 rfl (lv_at hl 0 rfl) ?_
        refine xg_second hx hb hts hown hw dX0_await_42 ?_
        refine lv_aload_n hx hb dX0_await_45 rfl (lv_at hl 0 rfl) ?_
        refine xg_place hx hb hts hown hw dX0_await_46 ?_
        refine lv_iload_n hx hb dX0_await_49 rfl (lv_at hl 1 rfl) ?_
        refine rf_ialdn (j := 15) (jx := k) hx hb hw (by decide) (by decide) rfl rfl hk (xln_lt 15) dX0_await_50 ?_
        refine rf_iald (j := 3) hx hb hw (by decide) (by decide) rfl hpl dX0_await_51 ?_
        refine lv_iconst (v := 1) hx hb dX0_await_52 (by decide) ?_
        refine lv_iand hx hb dX0_await_53 ?_
        refine xk_takeSignal ⟨hx, hb, hml, hown, hts⟩ hg hA hw hk hok.2.1 hok.2.2.1 ⟨Nat.le_of_ble_eq_true rfl, Nat.le_of_ble_eq_true rfl⟩ hl.1 (Nat.le_of_ble_eq_true rfl) dX0_await_54 ⟨Nat.le_refl _, Nat.le_refl _⟩ (fun H locs hw => ?_)
        exact K57 _ _ _ _ (by rw [(ok_takeSignal hok).2.2]; exact c_8) (ok_takeSignal hok).1 (by rw [(ok_takeSignal hok).2.1]; exact hpl) (by rw [xx_await, if_pos c_8, if_pos c_30, if_pos c_36]; rfl) hw (lv_sub hl [0, 1, 2] rfl)
  · refine lv_aload_n hx hb dX0_await_11 rfl (lv_at hl 0 rfl) ?_
    refine lv_iload_n hx hb dX0_await_12 rfl (lv_at hl 1 rfl) ?_
    refine lv_iconst (v := 0) hx hb dX0_await_13 (by decide) ?_
    refine xk_finish ⟨hx, hb, hml, hown, hts⟩ hg hA hw hk ⟨Nat.le_of_ble_eq_true rfl, Nat.le_of_ble_eq_true rfl⟩ hl.1 (Nat.le_of_ble_eq_true rfl) dX0_await_14 ⟨Nat.le_refl _, Nat.le_refl _⟩ (fun H locs hw => ?_)
    exact rf_vret hx hb hr hlk hw (by rw [xx_await, if_neg c_8]) dX0_await_17
theorem xk_await {p : Program} {l : Launch} {e : Env} {R : Room} {s : State} {m : MethodId} {args : Array Value} {below : List Frame} {meth : Method} {c : Code} {H : Heap} {locs : List Loc} {cells slots : Nat} {Q : State → Prop} {cc : ByteArray} {pc : Nat} {ls : Array Slot} {rest : List Value} {D : va_G} {g : Nat → Nat} {ca : Nat → ClassId} {σ : rf_Mem} {A : Nat → Prop} {nL : Nat} (S0 : CallFix p m c cc nL s args lw_all RX0) (hg : rf_g xS g) (hA : ∀ q, rf_A xS g q → A q) (hw : rf_w D vwCl xS g ca σ A s H locs) {k : Nat} {o : Int32} (hk : k < 3) (hok : xx_ok σ k) (hpl : vp_in (σ 15 k) 16) (hR : 3 + 1 ≤ R.frames ∧ 8 + (3 + 11) + 67 ≤ R.locals) (hls : ls.size = nL) (hst : (rest.map fun v => v.category).sum ≤ 8) (hdg : decode cc pc = .ok (.invokevirtual 89, 3)) (hf : cells ≤ R.cells ∧ slots ≤ R.slots)
    (kk : ∀ (H1 : Heap) (locs1 : List Loc), rf_w D vwCl xS g ca (xx_await σ k o) A s H1 locs1 → W p l e R s m args below meth c H1 locs1 cells slots Q (F0 m (pc + 3) ls (rest))) : W p l e R s m args below meth c H locs cells slots Q (F0 m pc ls (.int o :: .int (nI k) :: .ref (g 0) :: rest)) :=
  rf_callv S0 (xm_await l D ca hg σ k o hk hok hpl) (cwV 2 S0.2.2.2.2 (lw_V q131 q133 qs5 q21 q134) rfl rfl rfl (by decide +kernel) hR) hw hA rfl rfl hls hst hdg hf rfl (fun H1 locs1 h _ _ => kk H1 locs1 h)

set_option maxHeartbeats 4000000 in
set_option maxRecDepth 100000 in
/-- carryOn: until it waits for what is not there, or ends -/
theorem xm_carryOn (l : Launch) (D : va_G) {g : Nat → Nat} (ca : Nat → ClassId) (hg : rf_g xS g) (σ : rf_Mem) (k : Nat) (hk : k < 3) (hok : xx_ok σ k) : rf_Mv l yX0_carryOn cX0_carryOn 4 (rf_rm 4 89) D vwCl xS g ca σ [.int (nI k)] (xx_carryOn σ k) := by
  refine rf_enter (by decide) (Nat.le_of_ble_eq_true rfl) ?_
  intro p e s m below meth c ls hx hb hr hlk hml hown hts hnm hB hl
  have hw : rf_w D vwCl xS g ca σ (rf_A xS g) s s.heap [] := ⟨hB.1, hB.2, va_S.rf⟩
  have hA : ∀ q, rf_A xS g q → rf_A xS g q := fun _ h => h
  have hl : lv_has ls 4 [(0, .ref (g 0)), (1, .int (nI k))] := hl
  have K20 : ∀ (n i : Nat) (σ1 : rf_Mem) (H : Heap) (locs : List Loc) (ls : Array Slot), i + n = 2600 → xx_ok σ1 k → xx_pl σ1 k → xx_carryOn σ k = xx_loop n σ1 k → rf_w D vwCl xS g ca σ1 (rf_A xS g) s H locs → lv_has ls 4 [(2, .int (nI i)), (0, .ref (g 0)), (1, .int (nI k))] → W p l e (rf_rm 4 89) s m ([.ref (g 0), .int (nI k)] : List Value).toArray below meth c H locs 0 0 (MQ below (va_Qv (fun σ' => σ' = xx_carryOn σ k) (rf_J D vwCl xS g ca) (rf_A xS g)) ([.ref (g 0), .int (nI k)] : List Value).toArray s 0 0 (rf_A xS g)) (F0 m 20 ls []) := by
    intro n
    induction n with
    | zero =>
      intro i σ1 H locs ls hi hok1 hpl1 he hw hl
      refine lv_iload_n hx hb dX0_carryOn_20 rfl (lv_at hl 0 rfl) ?_
      refine lv_sipush (v := 2600) hx hb dX0_carryOn_21 (by decide) ?_
      refine lv_icmp_ge (tgt := 111) hx hb dX0_carryOn_24 (by decide) (fun c_24 => ?_) (fun c_24 => ?_)
      · exact rf_vret hx hb hr hlk hw he.symm dX0_carryOn_111
      · exact absurd (show (2600 : Int32) ≤ nI i from nI_le (a := 2600) (by omega) (by omega)) c_24
    | succ n ih =>
      intro i σ1 H locs ls hi hok1 hpl1 he hw hl
      have K105 : ∀ (H : Heap) (locs : List Loc) (ls : Array Slot), σ1 16 k = 5 → rf_w D vwCl xS g ca (xx_step σ1 k) (rf_A xS g) s H locs → lv_has ls 4 [(2, .int (nI i)), (0, .ref (g 0)), (1, .int (nI k))] → W p l e (rf_rm 4 89) s m ([.ref (g 0), .int (nI k)] : List Value).toArray below meth c H locs 0 0 (MQ below (va_Qv (fun σ' => σ' = xx_carryOn σ k) (rf_J D vwCl xS g ca) (rf_A xS g)) ([.ref (g 0), .int (nI k)] : List Value).toArray s 0 0 (rf_A xS g)) (F0 m 105 ls []) := by
        intro H locs ls h5 hw hl
        refine lv_iinc (v := nI (i + 1)) (lv' := [(2, .int _), (0, .ref _), (1, .int _)]) hx hb dX0_carryOn_105 hl (k := 0) rfl (nI_1 i) (by decide) rfl (fun ls hl => ?_)
        refine lv_goto (tgt := 20) hx hb dX0_carryOn_108 (by decide) ?_
        exact ih (i + 1) _ _ _ _ (by omega) (ok_step hok1).1 (ok_step hok1).2 (by rw [he, xx_loop, if_pos h5]) hw (lv_sub hl [0, 1, 2] rfl)
      refine lv_iload_n hx hb dX0_carryOn_20 rfl (lv_at hl 0 rfl) ?_
      refine lv_sipush (v := 2600) hx hb dX0_carryOn_21 (by decide) ?_
      refine lv_icmp_ge (tgt := 111) hx hb dX0_carryOn_24 (by decide) (fun c_24 => ?_) (fun c_24 => ?_)
      · exact absurd c_24 (nI_ge (a := i) (b := 2600) (by omega) (by omega))
      · refine lv_aload_n hx hb dX0_carryOn_27 rfl (lv_at hl 1 rfl) ?_
        refine xg_states hx hb hts hown hw dX0_carryOn_28 ?_
        refine lv_iload_n hx hb dX0_carryOn_31 rfl (lv_at hl 2 rfl) ?_
        refine rf_ialdn (j := 16) (jx := k) hx hb hw (by decide) (by decide) rfl rfl hk (xln_lt 16) dX0_carryOn_32 ?_
        refine lv_iconst (v := 5) hx hb dX0_carryOn_33 (by decide) ?_
        refine lv_icmp_ne (tgt := 111) hx hb dX0_carryOn_34 (by decide) (fun c_34 => ?_) (fun c_34 => ?_)
        · exact rf_vret hx hb hr hlk hw (by rw [he, xx_loop, if_neg c_34]) dX0_carryOn_111
        · have hpl := hpl1 c_34
          refine lv_aload_n hx hb dX0_carryOn_37 rfl (lv_at hl 1 rfl) ?_
          refine xg_op hx hb hts hown hw dX0_carryOn_38 ?_
          refine lv_aload_n hx hb dX0_carryOn_41 rfl (lv_at hl 1 rfl) ?_
          refine xg_place hx hb hts hown hw dX0_carryOn_42 ?_
          refine lv_iload_n hx hb dX0_carryOn_45 rfl (lv_at hl 2 rfl) ?_
          refine rf_ialdn (j := 15) (jx := k) hx hb hw (by decide) (by decide) rfl rfl hk (xln_lt 15) dX0_carryOn_46 ?_
          refine rf_iald (j := 1) hx hb hw (by decide) (by decide) rfl hpl dX0_carryOn_47 ?_
          refine lv_istore_n (lv' := [(3, .int _), (2, .int _), (0, .ref _), (1, .int _)]) hx hb dX0_carryOn_48 rfl hl (by decide) rfl (fun ls hl => ?_)
          refine lv_iload_n hx hb dX0_carryOn_49 rfl (lv_at hl 0 rfl) ?_
          refine lv_iconst (v := 4) hx hb dX0_carryOn_50 (by decide) ?_
          refine lv_icmp_gt (tgt := 63) hx hb dX0_carryOn_51 (by decide) (fun (c_51 : 4 < xx_op σ1 k) => ?_) (fun (c_51 : ¬ 4 < xx_op σ1 k) => ?_)
          · refine lv_iload_n hx hb dX0_carryOn_63 rfl (lv_at hl 0 rfl) ?_
            refine lv_bipush (v := 7) hx hb dX0_carryOn_64 (by decide) ?_
            refine lv_icmp_gt (tgt := 78) hx hb dX0_carryOn_66 (by decide) (fun (c_66 : 7 < xx_op σ1 k) => ?_) (fun (c_66 : ¬ 7 < xx_op σ1 k) => ?_)
            · refine lv_aload_n hx hb dX0_carryOn_78 rfl (lv_at hl 2 rfl) ?_
              refine lv_iload_n hx hb dX0_carryOn_79 rfl (lv_at hl 3 rfl) ?_
              refine lv_aload_n hx hb dX0_carryOn_80 rfl (lv_at hl 2 rfl) ?_
              refine xg_registers hx hb hts hown hw dX0_carryOn_81 ?_
              refine lv_iload_n hx hb dX0_carryOn_84 rfl (lv_at hl 3 rfl) ?_
              refine lv_iconst (v := 4) hx hb dX0_carryOn_85 (by decide) ?_
              refine lv_imul hx hb dX0_carryOn_86 ?_
              refine lv_aload_n hx hb dX0_carryOn_87 rfl (lv_at hl 2 rfl) ?_
              refine xg_first hx hb hts hown hw dX0_carryOn_88 ?_
              refine lv_aload_n hx hb dX0_carryOn_91 rfl (lv_at hl 2 rfl) ?_
              refine xg_place hx hb hts hown hw dX0_carryOn_92 ?_
              refine lv_iload_n hx hb dX0_carryOn_95 rfl (lv_at hl 3 rfl) ?_
              refine rf_ialdn (j := 15) (jx := k) hx hb hw (by decide) (by decide) rfl rfl hk (xln_lt 15) dX0_carryOn_96 ?_
              refine rf_iald (j := 2) hx hb hw (by decide) (by decide) rfl hpl dX0_carryOn_97 ?_
              refine lv_iconst (v := 3) hx hb dX0_carryOn_98 (by decide) ?_
              refine lv_iand hx hb dX0_carryOn_99 ?_
              refine lv_iadd hx hb dX0_carryOn_100 ?_
              refine rf_ialdn (j := 14) (jx := (k * 4 + rf_q (σ1 2 (rf_ix (σ1 15 k))))) hx hb hw (by decide) (by decide) rfl (rf_ix4 k _) (rf_r4 hk _) (xln_lt 14) dX0_carryOn_101 ?_
              refine xk_finish ⟨hx, hb, hml, hown, hts⟩ hg hA hw hk ⟨Nat.le_of_ble_eq_true rfl, Nat.le_of_ble_eq_true rfl⟩ hl.1 (Nat.le_of_ble_eq_true rfl) dX0_carryOn_102 ⟨Nat.le_refl _, Nat.le_refl _⟩ (fun H locs hw => ?_)
              exact K105 _ _ _ c_34 (rf_weq hw (by rw [xx_step, if_pos c_51, if_pos c_66] <;> rfl)) (lv_sub hl [1, 2, 3] rfl)
            · refine lv_aload_n hx hb dX0_carryOn_69 rfl (lv_at hl 2 rfl) ?_
              refine lv_iload_n hx hb dX0_carryOn_70 rfl (lv_at hl 3 rfl) ?_
              refine lv_iload_n hx hb dX0_carryOn_71 rfl (lv_at hl 0 rfl) ?_
              refine xk_await ⟨hx, hb, hml, hown, hts⟩ hg hA hw hk hok1 hpl ⟨Nat.le_of_ble_eq_true rfl, Nat.le_of_ble_eq_true rfl⟩ hl.1 (Nat.le_of_ble_eq_true rfl) dX0_carryOn_72 ⟨Nat.le_refl _, Nat.le_refl _⟩ (fun H locs hw => ?_)
              refine lv_goto (tgt := 105) hx hb dX0_carryOn_75 (by decide) ?_
              exact K105 _ _ _ c_34 (rf_weq hw (by rw [xx_step, if_pos c_51, if_neg c_66] <;> rfl)) (lv_sub hl [1, 2, 3] rfl)
          · refine lv_aload_n hx hb dX0_carryOn_54 rfl (lv_at hl 2 rfl) ?_
            refine lv_iload_n hx hb dX0_carryOn_55 rfl (lv_at hl 3 rfl) ?_
            refine lv_iload_n hx hb dX0_carryOn_56 rfl (lv_at hl 0 rfl) ?_
            refine xk_plain ⟨hx, hb, hml, hown, hts⟩ hg hA hw hk hpl ⟨Nat.le_of_ble_eq_true rfl, Nat.le_of_ble_eq_true rfl⟩ hl.1 (Nat.le_of_ble_eq_true rfl) dX0_carryOn_57 ⟨Nat.le_refl _, Nat.le_refl _⟩ (fun H locs hw => ?_)
            refine lv_goto (tgt := 105) hx hb dX0_carryOn_60 (by decide) ?_
            exact K105 _ _ _ c_34 (rf_weq hw (by rw [xx_step, if_neg c_51] <;> rfl)) (lv_sub hl [1, 2, 3] rfl)
  refine lv_aload_n hx hb dX0_carryOn_0 rfl (lv_at hl 0 rfl) ?_
  refine xg_states hx hb hts hown hw dX0_carryOn_1 ?_
  refine lv_iload_n hx hb dX0_carryOn_4 rfl (lv_at hl 1 rfl) ?_
  refine lv_iconst (v := 5) hx hb dX0_carryOn_5 (by decide) ?_
  refine rf_iastn (j := 16) (jx := k) hx hb hg hA hw (by decide) (by decide) rfl rfl hk (xln_lt 16) dX0_carryOn_6 (fun H locs hw => ?_)
  refine lv_aload_n hx hb dX0_carryOn_7 rfl (lv_at hl 0 rfl) ?_
  refine lv_iload_n hx hb dX0_carryOn_8 rfl (lv_at hl 1 rfl) ?_
  refine lv_aload_n hx hb dX0_carryOn_9 rfl (lv_at hl 0 rfl) ?_
  refine xg_place hx hb hts hown hw dX0_carryOn_10 ?_
  refine lv_iload_n hx hb dX0_carryOn_13 rfl (lv_at hl 1 rfl) ?_
  refine rf_ialdn (j := 15) (jx := k) hx hb hw (by decide) (by decide) rfl rfl hk (xln_lt 15) dX0_carryOn_14 ?_
  refine xk_goTo ⟨hx, hb, hml, hown, hts⟩ hg hA hw hk ⟨Nat.le_of_ble_eq_true rfl, Nat.le_of_ble_eq_true rfl⟩ hl.1 (Nat.le_of_ble_eq_true rfl) dX0_carryOn_15 ⟨Nat.le_refl _, Nat.le_refl _⟩ (fun H locs hw => ?_)
  refine lv_iconst (v := 0) hx hb dX0_carryOn_18 (by decide) ?_
  refine lv_istore_n (lv' := [(2, .int _), (0, .ref _), (1, .int _)]) hx hb dX0_carryOn_19 rfl hl (by decide) rfl (fun ls hl => ?_)
  exact K20 2600 0 _ _ _ _ (by omega) (ok_goTo (ok_state hok)) (pl_goTo (show rf_le (σ 0 0) 16 from hok.1)) rfl hw (lv_sub hl [0, 1, 2] rfl)
theorem xk_carryOn {p : Program} {l : Launch} {e : Env} {R : Room} {s : State} {m : MethodId} {args : Array Value} {below : List Frame} {meth : Method} {c : Code} {H : Heap} {locs : List Loc} {cells slots : Nat} {Q : State → Prop} {cc : ByteArray} {pc : Nat} {ls : Array Slot} {rest : List Value} {D : va_G} {g : Nat → Nat} {ca : Nat → ClassId} {σ : rf_Mem} {A : Nat → Prop} {nL : Nat} (S0 : CallFix p m c cc nL s args lw_all RX0) (hg : rf_g xS g) (hA : ∀ q, rf_A xS g q → A q) (hw : rf_w D vwCl xS g ca σ A s H locs) {k : Nat} (hk : k < 3) (hok : xx_ok σ k) (hR : 4 + 1 ≤ R.frames ∧ 8 + (4 + 11) + 89 ≤ R.locals) (hls : ls.size = nL) (hst : (rest.map fun v => v.category).sum ≤ 8) (hdg : decode cc pc = .ok (.invokevirtual 105, 3)) (hf : cells ≤ R.cells ∧ slots ≤ R.slots)
    (kk : ∀ (H1 : Heap) (locs1 : List Loc), rf_w D vwCl xS g ca (xx_carryOn σ k) A s H1 locs1 → W p l e R s m args below meth c H1 locs1 cells slots Q (F0 m (pc + 3) ls (rest))) : W p l e R s m args below meth c H locs cells slots Q (F0 m pc ls (.int (nI k) :: .ref (g 0) :: rest)) :=
  rf_callv S0 (xm_carryOn l D ca hg σ k hk hok) (cwV 1 S0.2.2.2.2 (lw_V q115 q117 qs1 q21 q118) rfl rfl rfl (by decide +kernel) hR) hw hA rfl rfl hls hst hdg hf rfl (fun H1 locs1 h _ _ => kk H1 locs1 h)

set_option maxHeartbeats 4000000 in
set_option maxRecDepth 100000 in
/-- begin: the run anew from its first instruction -/
theorem xm_begin (l : Launch) (D : va_G) {g : Nat → Nat} (ca : Nat → ClassId) (hg : rf_g xS g) (σ : rf_Mem) (k : Nat) (hk : k < 3) (hok : xx_okb σ k) : rf_Mv l yX0_begin cX0_begin 3 (rf_rm 5 112) D vwCl xS g ca σ [.int (nI k)] (xx_begin σ k) := by
  refine rf_enter (by decide) (Nat.le_of_ble_eq_true rfl) ?_
  intro p e s m below meth c ls hx hb hr hlk hml hown hts hnm hB hl
  have hw : rf_w D vwCl xS g ca σ (rf_A xS g) s s.heap [] := ⟨hB.1, hB.2, va_S.rf⟩
  have hA : ∀ q, rf_A xS g q → rf_A xS g q := fun _ h => h
  have hl : lv_has ls 3 [(0, .ref (g 0)), (1, .int (nI k))] := hl
  refine lv_aload_n hx hb dX0_begin_0 rfl (lv_at hl 0 rfl) ?_
  refine xg_known hx hb hts hown hw dX0_begin_1 ?_
  refine lv_iload_n hx hb dX0_begin_4 rfl (lv_at hl 1 rfl) ?_
  refine lv_iconst (v := 1) hx hb dX0_begin_5 (by decide) ?_
  refine rf_zastn (j := 13) (jx := k) hx hb hg hA hw (by decide) (by decide) rfl rfl rfl hk (xln_lt 13) dX0_begin_6 (fun H locs hw => ?_)
  refine lv_iconst (v := 0) hx hb dX0_begin_7 (by decide) ?_
  refine lv_istore_n (lv' := [(2, .int _), (0, .ref _), (1, .int _)]) hx hb dX0_begin_8 rfl hl (by decide) rfl (fun ls hl => ?_)
  refine lv_iload_n hx hb dX0_begin_9 rfl (lv_at hl 0 rfl) ?_
  refine lv_iconst (v := 4) hx hb dX0_begin_10 (by decide) ?_
  refine lv_icmp_ge (tgt := 31) hx hb dX0_begin_11 (by decide) (fun c_ => absurd c_ (by decide)) (fun _ => ?_)
  refine lv_aload_n hx hb dX0_begin_14 rfl (lv_at hl 1 rfl) ?_
  refine xg_registers hx hb hts hown hw dX0_begin_15 ?_
  refine lv_iload_n hx hb dX0_begin_18 rfl (lv_at hl 2 rfl) ?_
  refine lv_iconst (v := 4) hx hb dX0_begin_19 (by decide) ?_
  refine lv_imul hx hb dX0_begin_20 ?_
  refine lv_iload_n hx hb dX0_begin_21 rfl (lv_at hl 0 rfl) ?_
  refine lv_iadd hx hb dX0_begin_22 ?_
  refine lv_iconst (v := 0) hx hb dX0_begin_23 (by decide) ?_
  refine rf_iastn (j := 14) (jx := (k * 4 + 0)) hx hb hg hA hw (by decide) (by decide) rfl (rf_ix4n k 0) (show k * 4 + 0 < 12 by omega) (xln_lt 14) dX0_begin_24 (fun H locs hw => ?_)
  refine lv_iinc (v := 1) (lv' := [(2, .int _), (0, .ref _), (1, .int _)]) hx hb dX0_begin_25 hl (k := 0) rfl rfl (by decide) rfl (fun ls hl => ?_)
  refine lv_goto (tgt := 9) hx hb dX0_begin_28 (by decide) ?_
  refine lv_iload_n hx hb dX0_begin_9 rfl (lv_at hl 0 rfl) ?_
  refine lv_iconst (v := 4) hx hb dX0_begin_10 (by decide) ?_
  refine lv_icmp_ge (tgt := 31) hx hb dX0_begin_11 (by decide) (fun c_ => absurd c_ (by decide)) (fun _ => ?_)
  refine lv_aload_n hx hb dX0_begin_14 rfl (lv_at hl 1 rfl) ?_
  refine xg_registers hx hb hts hown hw dX0_begin_15 ?_
  refine lv_iload_n hx hb dX0_begin_18 rfl (lv_at hl 2 rfl) ?_
  refine lv_iconst (v := 4) hx hb dX0_begin_19 (by decide) ?_
  refine lv_imul hx hb dX0_begin_20 ?_
  refine lv_iload_n hx hb dX0_begin_21 rfl (lv_at hl 0 rfl) ?_
  refine lv_iadd hx hb dX0_begin_22 ?_
  refine lv_iconst (v := 0) hx hb dX0_begin_23 (by decide) ?_
  refine rf_iastn (j := 14) (jx := (k * 4 + 1)) hx hb hg hA hw (by decide) (by decide) rfl (rf_ix4n k 1) (show k * 4 + 1 < 12 by omega) (xln_lt 14) dX0_begin_24 (fun H locs hw => ?_)
  refine lv_iinc (v := 2) (lv' := [(2, .int _), (0, .ref _), (1, .int _)]) hx hb dX0_begin_25 hl (k := 0) rfl rfl (by decide) rfl (fun ls hl => ?_)
  refine lv_goto (tgt := 9) hx hb dX0_begin_28 (by decide) ?_
  refine lv_iload_n hx hb dX0_begin_9 rfl (lv_at hl 0 rfl) ?_
  refine lv_iconst (v := 4) hx hb dX0_begin_10 (by decide) ?_
  refine lv_icmp_ge (tgt := 31) hx hb dX0_begin_11 (by decide) (fun c_ => absurd c_ (by decide)) (fun _ => ?_)
  refine lv_aload_n hx hb dX0_begin_14 rfl (lv_at hl 1 rfl) ?_
  refine xg_registers hx hb hts hown hw dX0_begin_15 ?_
  refine lv_iload_n hx hb dX0_begin_18 rfl (lv_at hl 2 rfl) ?_
  refine lv_iconst (v := 4) hx hb dX0_begin_19 (by decide) ?_
  refine lv_imul hx hb dX0_begin_20 ?_
  refine lv_iload_n hx hb dX0_begin_21 rfl (lv_at hl 0 rfl) ?_
  refine lv_iadd hx hb dX0_begin_22 ?_
  refine lv_iconst (v := 0) hx hb dX0_begin_23 (by decide) ?_
  refine rf_iastn (j := 14) (jx := (k * 4 + 2)) hx hb hg hA hw (by decide) (by decide) rfl (rf_ix4n k 2) (show k * 4 + 2 < 12 by omega) (xln_lt 14) dX0_begin_24 (fun H locs hw => ?_)
  refine lv_iinc (v := 3) (lv' := [(2, .int _), (0, .ref _), (1, .int _)]) hx hb dX0_begin_25 hl (k := 0) rfl rfl (by decide) rfl (fun ls hl => ?_)
  refine lv_goto (tgt := 9) hx hb dX0_begin_28 (by decide) ?_
  refine lv_iload_n hx hb dX0_begin_9 rfl (lv_at hl 0 rfl) ?_
  refine lv_iconst (v := 4) hx hb dX0_begin_10 (by decide) ?_
  refine lv_icmp_ge (tgt := 31) hx hb dX0_begin_11 (by decide) (fun c_ => absurd c_ (by decide)) (fun _ => ?_)
  refine lv_aload_n hx hb dX0_begin_14 rfl (lv_at hl 1 rfl) ?_
  refine xg_registers hx hb hts hown hw dX0_begin_15 ?_
  refine lv_iload_n hx hb dX0_begin_18 rfl (lv_at hl 2 rfl) ?_
  refine lv_iconst (v := 4) hx hb dX0_begin_19 (by decide) ?_
  refine lv_imul hx hb dX0_begin_20 ?_
  refine lv_iload_n hx hb dX0_begin_21 rfl (lv_at hl 0 rfl) ?_
  refine lv_iadd hx hb dX0_begin_22 ?_
  refine lv_iconst (v := 0) hx hb dX0_begin_23 (by decide) ?_
  refine rf_iastn (j := 14) (jx := (k * 4 + 3)) hx hb hg hA hw (by decide) (by decide) rfl (rf_ix4n k 3) (show k * 4 + 3 < 12 by omega) (xln_lt 14) dX0_begin_24 (fun H locs hw => ?_)
  refine lv_iinc (v := 4) (lv' := [(2, .int _), (0, .ref _), (1, .int _)]) hx hb dX0_begin_25 hl (k := 0) rfl rfl (by decide) rfl (fun ls hl => ?_)
  refine lv_goto (tgt := 9) hx hb dX0_begin_28 (by decide) ?_
  refine lv_iload_n hx hb dX0_begin_9 rfl (lv_at hl 0 rfl) ?_
  refine lv_iconst (v := 4) hx hb dX0_begin_10 (by decide) ?_
  refine lv_icmp_ge (tgt := 31) hx hb dX0_begin_11 (by decide) (fun _ => ?_) (fun c_ => absurd c_ (by decide))
  refine lv_aload_n hx hb dX0_begin_31 rfl (lv_at hl 1 rfl) ?_
  refine xg_registers hx hb hts hown hw dX0_begin_32 ?_
  refine lv_iload_n hx hb dX0_begin_35 rfl (lv_at hl 2 rfl) ?_
  refine lv_iconst (v := 4) hx hb dX0_begin_36 (by decide) ?_
  refine lv_imul hx hb dX0_begin_37 ?_
  refine lv_aload_n hx hb dX0_begin_38 rfl (lv_at hl 1 rfl) ?_
  refine xg_argument hx hb hts hown hw dX0_begin_39 ?_
  refine lv_iload_n hx hb dX0_begin_42 rfl (lv_at hl 2 rfl) ?_
  refine rf_ialdn (j := 5) (jx := k) hx hb hw (by decide) (by decide) rfl rfl hk (xln_lt 5) dX0_begin_43 ?_
  refine rf_iastn (j := 14) (jx := (k * 4)) hx hb hg hA hw (by decide) (by decide) rfl (by rw [show (4 : Int32) = nI 4 from rfl, pk_mul]) (show k * 4 < 12 by omega) (xln_lt 14) dX0_begin_44 (fun H locs hw => ?_)
  refine lv_aload_n hx hb dX0_begin_45 rfl (lv_at hl 1 rfl) ?_
  refine xg_place hx hb hts hown hw dX0_begin_46 ?_
  refine lv_iload_n hx hb dX0_begin_49 rfl (lv_at hl 2 rfl) ?_
  refine lv_iconst (v := 0) hx hb dX0_begin_50 (by decide) ?_
  refine rf_iastn (j := 15) (jx := k) hx hb hg hA hw (by decide) (by decide) rfl rfl hk (xln_lt 15) dX0_begin_51 (fun H locs hw => ?_)
  refine lv_aload_n hx hb dX0_begin_52 rfl (lv_at hl 1 rfl) ?_
  refine xg_results hx hb hts hown hw dX0_begin_53 ?_
  refine lv_iload_n hx hb dX0_begin_56 rfl (lv_at hl 2 rfl) ?_
  refine lv_iconst (v := 0) hx hb dX0_begin_57 (by decide) ?_
  refine rf_iastn (j := 17) (jx := k) hx hb hg hA hw (by decide) (by decide) rfl rfl hk (xln_lt 17) dX0_begin_58 (fun H locs hw => ?_)
  refine lv_aload_n hx hb dX0_begin_59 rfl (lv_at hl 1 rfl) ?_
  refine xg_met hx hb hts hown hw dX0_begin_60 ?_
  refine lv_iload_n hx hb dX0_begin_63 rfl (lv_at hl 2 rfl) ?_
  refine lv_iconst (v := 0) hx hb dX0_begin_64 (by decide) ?_
  refine rf_iastn (j := 18) (jx := k) hx hb hg hA hw (by decide) (by decide) rfl rfl hk (xln_lt 18) dX0_begin_65 (fun H locs hw => ?_)
  refine lv_aload_n hx hb dX0_begin_66 rfl (lv_at hl 1 rfl) ?_
  refine xg_inARow hx hb hts hown hw dX0_begin_67 ?_
  refine lv_iload_n hx hb dX0_begin_70 rfl (lv_at hl 2 rfl) ?_
  refine lv_iconst (v := 0) hx hb dX0_begin_71 (by decide) ?_
  refine rf_iastn (j := 19) (jx := k) hx hb hg hA hw (by decide) (by decide) rfl rfl hk (xln_lt 19) dX0_begin_72 (fun H locs hw => ?_)
  refine lv_aload_n hx hb dX0_begin_73 rfl (lv_at hl 1 rfl) ?_
  refine lv_iload_n hx hb dX0_begin_74 rfl (lv_at hl 2 rfl) ?_
  refine xk_carryOn ⟨hx, hb, hml, hown, hts⟩ hg hA hw hk (ok_blank hok) ⟨Nat.le_of_ble_eq_true rfl, Nat.le_of_ble_eq_true rfl⟩ hl.1 (Nat.le_of_ble_eq_true rfl) dX0_begin_75 ⟨Nat.le_refl _, Nat.le_refl _⟩ (fun H locs hw => ?_)
  exact rf_vret hx hb hr hlk hw rfl dX0_begin_78
theorem xk_begin {p : Program} {l : Launch} {e : Env} {R : Room} {s : State} {m : MethodId} {args : Array Value} {below : List Frame} {meth : Method} {c : Code} {H : Heap} {locs : List Loc} {cells slots : Nat} {Q : State → Prop} {cc : ByteArray} {pc : Nat} {ls : Array Slot} {rest : List Value} {D : va_G} {g : Nat → Nat} {ca : Nat → ClassId} {σ : rf_Mem} {A : Nat → Prop} {nL : Nat} (S0 : CallFix p m c cc nL s args lw_all RX0) (hg : rf_g xS g) (hA : ∀ q, rf_A xS g q → A q) (hw : rf_w D vwCl xS g ca σ A s H locs) {k : Nat} (hk : k < 3) (hok : xx_okb σ k) (hR : 5 + 1 ≤ R.frames ∧ 8 + (3 + 11) + 112 ≤ R.locals) (hls : ls.size = nL) (hst : (rest.map fun v => v.category).sum ≤ 8) (hdg : decode cc pc = .ok (.invokevirtual 108, 3)) (hf : cells ≤ R.cells ∧ slots ≤ R.slots)
    (kk : ∀ (H1 : Heap) (locs1 : List Loc), rf_w D vwCl xS g ca (xx_begin σ k) A s H1 locs1 → W p l e R s m args below meth c H1 locs1 cells slots Q (F0 m (pc + 3) ls (rest))) : W p l e R s m args below meth c H locs cells slots Q (F0 m pc ls (.int (nI k) :: .ref (g 0) :: rest)) :=
  rf_callv S0 (xm_begin l D ca hg σ k hk hok) (cwV 1 S0.2.2.2.2 (lw_V q111 q113 qs0 q21 q114) rfl rfl rfl (by decide +kernel) hR) hw hA rfl rfl hls hst hdg hf rfl (fun H1 locs1 h _ _ => kk H1 locs1 h)

set_option maxHeartbeats 4000000 in
set_option maxRecDepth 100000 in
/-- remember: a forgotten run is made again -/
theorem xm_remember (l : Launch) (D : va_G) {g : Nat → Nat} (ca : Nat → ClassId) (hg : rf_g xS g) (σ : rf_Mem) (k : Nat) (hk : k < 3) (hok : xx_okb σ k) : rf_Mv l yX0_remember cX0_remember 2 (rf_rm 6 134) D vwCl xS g ca σ [.int (nI k)] (xx_remember σ k) := by
  refine rf_enter (by decide) (Nat.le_of_ble_eq_true rfl) ?_
  intro p e s m below meth c ls hx hb hr hlk hml hown hts hnm hB hl
  have hw : rf_w D vwCl xS g ca σ (rf_A xS g) s s.heap [] := ⟨hB.1, hB.2, va_S.rf⟩
  have hA : ∀ q, rf_A xS g q → rf_A xS g q := fun _ h => h
  have hl : lv_has ls 2 [(0, .ref (g 0)), (1, .int (nI k))] := hl
  refine lv_aload_n hx hb dX0_remember_0 rfl (lv_at hl 0 rfl) ?_
  refine xg_started hx hb hts hown hw dX0_remember_1 ?_
  refine lv_iload_n hx hb dX0_remember_4 rfl (lv_at hl 1 rfl) ?_
  refine rf_zaldn (j := 4) (jx := k) hx hb hw (by decide) (by decide) rfl rfl hk (xln_lt 4) dX0_remember_5 ?_
  refine lv_if_eq (tgt := 23) hx hb dX0_remember_6 (by decide) (fun c_6 => ?_) (fun c_6 => ?_)
  · exact rf_vret hx hb hr hlk hw (by rw [xx_remember, if_pos c_6]) dX0_remember_23
  · refine lv_aload_n hx hb dX0_remember_9 rfl (lv_at hl 0 rfl) ?_
    refine xg_known hx hb hts hown hw dX0_remember_10 ?_
    refine lv_iload_n hx hb dX0_remember_13 rfl (lv_at hl 1 rfl) ?_
    refine rf_zaldn (j := 13) (jx := k) hx hb hw (by decide) (by decide) rfl rfl hk (xln_lt 13) dX0_remember_14 ?_
    refine lv_if_ne (tgt := 23) hx hb dX0_remember_15 (by decide) (fun c_15 => ?_) (fun c_15 => ?_)
    · exact rf_vret hx hb hr hlk hw (by rw [xx_remember, if_neg c_6, if_neg c_15]) dX0_remember_23
    · refine lv_aload_n hx hb dX0_remember_18 rfl (lv_at hl 0 rfl) ?_
      refine lv_iload_n hx hb dX0_remember_19 rfl (lv_at hl 1 rfl) ?_
      refine xk_begin ⟨hx, hb, hml, hown, hts⟩ hg hA hw hk hok ⟨Nat.le_of_ble_eq_true rfl, Nat.le_of_ble_eq_true rfl⟩ hl.1 (Nat.le_of_ble_eq_true rfl) dX0_remember_20 ⟨Nat.le_refl _, Nat.le_refl _⟩ (fun H locs hw => ?_)
      exact rf_vret hx hb hr hlk hw (by rw [xx_remember, if_neg c_6, if_pos c_15]) dX0_remember_23
theorem xk_remember {p : Program} {l : Launch} {e : Env} {R : Room} {s : State} {m : MethodId} {args : Array Value} {below : List Frame} {meth : Method} {c : Code} {H : Heap} {locs : List Loc} {cells slots : Nat} {Q : State → Prop} {cc : ByteArray} {pc : Nat} {ls : Array Slot} {rest : List Value} {D : va_G} {g : Nat → Nat} {ca : Nat → ClassId} {σ : rf_Mem} {A : Nat → Prop} {nL : Nat} (S0 : CallFix p m c cc nL s args lw_all RX0) (hg : rf_g xS g) (hA : ∀ q, rf_A xS g q → A q) (hw : rf_w D vwCl xS g ca σ A s H locs) {k : Nat} (hk : k < 3) (hok : xx_okb σ k) (hR : 6 + 1 ≤ R.frames ∧ 8 + (2 + 11) + 134 ≤ R.locals) (hls : ls.size = nL) (hst : (rest.map fun v => v.category).sum ≤ 8) (hdg : decode cc pc = .ok (.invokevirtual 111, 3)) (hf : cells ≤ R.cells ∧ slots ≤ R.slots)
    (kk : ∀ (H1 : Heap) (locs1 : List Loc), rf_w D vwCl xS g ca (xx_remember σ k) A s H1 locs1 → W p l e R s m args below meth c H1 locs1 cells slots Q (F0 m (pc + 3) ls (rest))) : W p l e R s m args below meth c H locs cells slots Q (F0 m pc ls (.int (nI k) :: .ref (g 0) :: rest)) :=
  rf_callv S0 (xm_remember l D ca hg σ k hk hok) (cwV 1 S0.2.2.2.2 (lw_V q159 q161 qs11 q21 q162) rfl rfl rfl (by decide +kernel) hR) hw hA rfl rfl hls hst hdg hf rfl (fun H1 locs1 h _ _ => kk H1 locs1 h)

set_option maxHeartbeats 4000000 in
set_option maxRecDepth 100000 in
/-- stateOf -/
theorem xm_stateOf (l : Launch) (D : va_G) {g : Nat → Nat} (ca : Nat → ClassId) (hg : rf_g xS g) (σ : rf_Mem) (k : Nat) (hk : k < 3) (hok : xx_okb σ k) : rf_Mi l yX0_stateOf cX0_stateOf 2 .int (rf_rm 7 155) D vwCl xS g ca σ [.int (nI k)] (xr_stateOf σ k) (xx_remember σ k) := by
  refine rf_enter (by decide) (Nat.le_of_ble_eq_true rfl) ?_
  intro p e s m below meth c ls hx hb hr hlk hml hown hts hnm hB hl
  have hw : rf_w D vwCl xS g ca σ (rf_A xS g) s s.heap [] := ⟨hB.1, hB.2, va_S.rf⟩
  have hA : ∀ q, rf_A xS g q → rf_A xS g q := fun _ h => h
  have hl : lv_has ls 2 [(0, .ref (g 0)), (1, .int (nI k))] := hl
  refine lv_aload_n hx hb dX0_stateOf_0 rfl (lv_at hl 0 rfl) ?_
  refine xg_started hx hb hts hown hw dX0_stateOf_1 ?_
  refine lv_iload_n hx hb dX0_stateOf_4 rfl (lv_at hl 1 rfl) ?_
  refine rf_zaldn (j := 4) (jx := k) hx hb hw (by decide) (by decide) rfl rfl hk (xln_lt 4) dX0_stateOf_5 ?_
  refine lv_if_ne (tgt := 11) hx hb dX0_stateOf_6 (by decide) (fun c_6 => ?_) (fun c_6 => ?_)
  · refine lv_aload_n hx hb dX0_stateOf_11 rfl (lv_at hl 0 rfl) ?_
    refine lv_iload_n hx hb dX0_stateOf_12 rfl (lv_at hl 1 rfl) ?_
    refine xk_remember ⟨hx, hb, hml, hown, hts⟩ hg hA hw hk hok ⟨Nat.le_of_ble_eq_true rfl, Nat.le_of_ble_eq_true rfl⟩ hl.1 (Nat.le_of_ble_eq_true rfl) dX0_stateOf_13 ⟨Nat.le_refl _, Nat.le_refl _⟩ (fun H locs hw => ?_)
    refine lv_aload_n hx hb dX0_stateOf_16 rfl (lv_at hl 0 rfl) ?_
    refine xg_states hx hb hts hown hw dX0_stateOf_17 ?_
    refine lv_iload_n hx hb dX0_stateOf_20 rfl (lv_at hl 1 rfl) ?_
    refine rf_ialdn (j := 16) (jx := k) hx hb hw (by decide) (by decide) rfl rfl hk (xln_lt 16) dX0_stateOf_21 ?_
    exact rf_iret hx hb hr hlk hw ⟨by rw [xr_stateOf, if_neg c_6], rfl⟩ dX0_stateOf_22
  · refine lv_iconst (v := 0) hx hb dX0_stateOf_9 (by decide) ?_
    exact rf_iret hx hb hr hlk hw ⟨by rw [xr_stateOf, if_pos c_6], by rw [xx_remember, if_pos c_6]⟩ dX0_stateOf_10
theorem xk_stateOf {p : Program} {l : Launch} {e : Env} {R : Room} {s : State} {m : MethodId} {args : Array Value} {below : List Frame} {meth : Method} {c : Code} {H : Heap} {locs : List Loc} {cells slots : Nat} {Q : State → Prop} {cc : ByteArray} {pc : Nat} {ls : Array Slot} {rest : List Value} {D : va_G} {g : Nat → Nat} {ca : Nat → ClassId} {σ : rf_Mem} {A : Nat → Prop} {nL : Nat} (S0 : CallFix p m c cc nL s args lw_all RX0) (hg : rf_g xS g) (hA : ∀ q, rf_A xS g q → A q) (hw : rf_w D vwCl xS g ca σ A s H locs) {k : Nat} (hk : k < 3) (hok : xx_okb σ k) (hR : 7 + 1 ≤ R.frames ∧ 8 + (2 + 11) + 155 ≤ R.locals) (hls : ls.size = nL) (hst : (rest.map fun v => v.category).sum ≤ 8) (hdg : decode cc pc = .ok (.invokevirtual 118, 3)) (hf : cells ≤ R.cells ∧ slots ≤ R.slots)
    (kk : ∀ (H1 : Heap) (locs1 : List Loc), rf_w D vwCl xS g ca (xx_remember σ k) A s H1 locs1 → W p l e R s m args below meth c H1 locs1 cells slots Q (F0 m (pc + 3) ls (.int (xr_stateOf σ k) :: rest))) : W p l e R s m args below meth c H locs cells slots Q (F0 m pc ls (.int (nI k) :: .ref (g 0) :: rest)) :=
  rf_calli S0 (xm_stateOf l D ca hg σ k hk hok) (cwV 1 S0.2.2.2.2 (lw_V q155 q157 qs10 q21 q158) rfl rfl rfl (by decide +kernel) hR) hw hA rfl rfl hls hst hdg hf rfl (fun H1 locs1 h _ _ => kk H1 locs1 h)
end
section
/-! the public methods: xx_ the memory behind them, xr_ the answer -/
def xr_bad (r : Int32) : Int32 := if r < 0 then 1 else if r < 3 then 0 else 1
theorem rf_run {r : Int32} (h : xr_bad r = 0) : ∃ k : Nat, k < 3 ∧ r = nI k := by
  unfold xr_bad at h
  split at h
  · exact absurd h (by decide)
  · split at h
    · rename_i h0 h1
      obtain ⟨j, hj, e⟩ := nI_of h0
      rw [e] at h1
      exact ⟨j, (nI_ltI (b := 3) hj (by decide)).mp h1, e⟩
    · exact absurd h (by decide)
theorem rf_bad0 {k : Nat} (hk : k < 3) : xr_bad (nI k) = 0 := by
  unfold xr_bad
  rw [if_neg (nI_pos (by omega)), if_pos (show nI k < 3 from nI_lt (b := 3) hk (by decide))]
theorem ok_okb {σ : rf_Mem} {k : Nat} (h : xx_ok σ k) : xx_okb σ k := ⟨h.1, h.2.1, h.2.2.1⟩
theorem ok_remember {σ : rf_Mem} {k : Nat} (h : xx_ok σ k) : xx_ok (xx_remember σ k) k := by
  unfold xx_remember
  split
  · exact h
  · split
    · exact ok_begin (ok_okb h)
    · exact h
def xx_emit (σ : rf_Mem) (o a b : Int32) : rf_Mem := if o < 0 then σ else if o ≤ 8 then (if σ 0 0 < 16 then (if σ 0 1 = 0 then rf_wr (rf_wr (rf_wr (rf_wr σ 1 (rf_ix (σ 0 0)) o) 2 (rf_ix (σ 0 0)) a) 3 (rf_ix (σ 0 0)) b) 0 0 (σ 0 0 + 1) else σ) else σ) else σ
def xr_emit (σ : rf_Mem) (o : Int32) : Int32 := if o < 0 then -1 else if o ≤ 8 then (if σ 0 0 < 16 then (if σ 0 1 = 0 then σ 0 0 else -5) else -2) else -1
def xx_startI (σ : rf_Mem) (k : Nat) (a : Int32) : rf_Mem := rf_wr (rf_wr (rf_wr (rf_wr (rf_wr (rf_wr σ 0 1 1) 4 k 1) 5 k a) 6 k 0) 8 k 0) 12 k 0
theorem ok_startI {σ : rf_Mem} {k : Nat} {a : Int32} (h : rf_le (σ 0 0) 16) : xx_okb (xx_startI σ k a) k := by
  refine ⟨by simpa [xx_startI, rf_wr_at] using h, ?_, ?_⟩
  · simp only [xx_startI, rf_wr_at, and_self, ↓reduceIte]
    exact ⟨0, by decide, rfl⟩
  · simp only [xx_startI, rf_wr_at, and_self, ↓reduceIte]
    exact ⟨0, by decide, rfl⟩
def xx_start (σ : rf_Mem) (r a : Int32) : rf_Mem := if xr_bad r = 0 then (if σ 4 (rf_ix r) = 0 then xx_begin (xx_startI σ (rf_ix r) a) (rf_ix r) else σ) else σ
def xr_start (σ : rf_Mem) (r a : Int32) : Int32 := if xr_bad r = 0 then (if σ 4 (rf_ix r) = 0 then xx_begin (xx_startI σ (rf_ix r) a) (rf_ix r) 16 (rf_ix r) else -5) else -3
def xx_answerT (σ : rf_Mem) (k : Nat) (v : Int32) : rf_Mem := xx_carryOn (xx_addEvent (xx_remember σ k) k v) k
def xx_answer (σ : rf_Mem) (r v : Int32) : rf_Mem := if xr_bad r = 0 then (if xr_stateOf σ (rf_ix r) = 1 then xx_answerT σ (rf_ix r) v else xx_remember σ (rf_ix r)) else σ
def xr_answer (σ : rf_Mem) (r v : Int32) : Int32 := if xr_bad r = 0 then (if xr_stateOf σ (rf_ix r) = 1 then xx_answerT σ (rf_ix r) v 16 (rf_ix r) else -4) else -3
def xx_put (σ : rf_Mem) (k : Nat) (c v : Int32) : rf_Mem := rf_wr (rf_wr (rf_wr (rf_wr σ 9 (k * 24 + rf_ix (σ 8 k)) (c &&& 1)) 10 (k * 24 + rf_ix (σ 8 k)) v) 11 (k * 24 + rf_ix (σ 8 k)) 0) 8 k (σ 8 k + 1)
theorem ok_put {σ : rf_Mem} {k : Nat} {c v : Int32} (h : xx_ok σ k) (h1 : σ 8 k < 24) : xx_ok (xx_put σ k c v) k := by
  refine ⟨by simpa [xx_put, rf_wr_at] using h.1, by simpa [xx_put, rf_wr_at] using h.2.1, ?_, by simpa [xx_put, rf_wr_at] using h.2.2.2⟩
  simp only [xx_put, rf_wr_at, and_self, ↓reduceIte]
  exact rf_inc h.2.2.1 (by decide) h1
def xx_signalT (σ : rf_Mem) (k : Nat) (st c v : Int32) : rf_Mem := if st = 3 then xx_carryOn (xx_put σ k c v) k else xx_put σ k c v
def xx_signal (σ : rf_Mem) (r c v : Int32) : rf_Mem := if xr_bad r = 0 then (if xr_stateOf σ (rf_ix r) = 0 then xx_remember σ (rf_ix r) else if xr_stateOf σ (rf_ix r) = 4 then xx_remember σ (rf_ix r) else if xx_remember σ (rf_ix r) 8 (rf_ix r) < 24 then xx_signalT (xx_remember σ (rf_ix r)) (rf_ix r) (xr_stateOf σ (rf_ix r)) c v else xx_remember σ (rf_ix r)) else σ
def xr_signal (σ : rf_Mem) (r c v : Int32) : Int32 := if xr_bad r = 0 then (if xr_stateOf σ (rf_ix r) = 0 then -4 else if xr_stateOf σ (rf_ix r) = 4 then -4 else if xx_remember σ (rf_ix r) 8 (rf_ix r) < 24 then xx_signalT (xx_remember σ (rf_ix r)) (rf_ix r) (xr_stateOf σ (rf_ix r)) c v 16 (rf_ix r) else -2) else -3
def xx_wake (σ : rf_Mem) (k : Nat) : rf_Mem := xx_carryOn (xx_addEvent (rf_wr (xx_remember σ k) 12 k 0) k 0) k
def xx_pass1 (σ : rf_Mem) (k : Nat) : rf_Mem := if xr_stateOf σ k = 2 then (if xx_remember σ k 0 2 < xx_remember σ k 12 k then xx_remember σ k else xx_wake σ k) else xx_remember σ k
def xr_pass1 (σ : rf_Mem) (k : Nat) : Nat := if xr_stateOf σ k = 2 then (if xx_remember σ k 0 2 < xx_remember σ k 12 k then 0 else 1) else 0
def xx_passN (σ : rf_Mem) : Nat → rf_Mem
  | 0 => σ
  | j + 1 => xx_pass1 (xx_passN σ j) j
def xr_passN (σ : rf_Mem) : Nat → Nat
  | 0 => 0
  | j + 1 => xr_passN σ j + xr_pass1 (xx_passN σ j) j
def xx_now (σ : rf_Mem) (n : Int32) : rf_Mem := rf_wr σ 0 2 (σ 0 2 + n)
def xx_pass (σ : rf_Mem) (n : Int32) : rf_Mem := if n < 0 then σ else if n ≤ 1000 then xx_passN (xx_now σ n) 3 else σ
def xr_pass (σ : rf_Mem) (n : Int32) : Int32 := if n < 0 then -6 else if n ≤ 1000 then nI (xr_passN (xx_now σ n) 3) else -6
def xx_forgetT (σ : rf_Mem) (k : Nat) : rf_Mem := rf_wr (rf_wr (rf_wr (xx_zero (rf_wr σ 13 k 0) k) 15 k 0) 16 k 0) 17 k 0
def xx_forget (σ : rf_Mem) (r : Int32) : rf_Mem := if xr_bad r = 0 then xx_forgetT σ (rf_ix r) else σ
def xr_forget (r : Int32) : Int32 := if xr_bad r = 0 then 0 else -3
def xx_clear1 (σ : rf_Mem) (k : Nat) : rf_Mem := rf_wr (rf_wr (rf_wr (rf_wr σ 4 k 0) 13 k 0) 6 k 0) 8 k 0
def xx_clear (σ : rf_Mem) : rf_Mem := xx_clear1 (xx_clear1 (xx_clear1 (rf_wr (rf_wr (rf_wr σ 0 0 0) 0 1 0) 0 2 0) 0) 1) 2
def xx_state (σ : rf_Mem) (r : Int32) : rf_Mem := if xr_bad r = 0 then xx_remember σ (rf_ix r) else σ
def xr_state (σ : rf_Mem) (r : Int32) : Int32 := if xr_bad r = 0 then xr_stateOf σ (rf_ix r) else -3
def xx_register (σ : rf_Mem) (r : Int32) : rf_Mem := if xr_bad r = 0 then (if σ 4 (rf_ix r) = 0 then σ else xx_remember σ (rf_ix r)) else σ
def xr_register (σ : rf_Mem) (r a : Int32) : Int32 := if xr_bad r = 0 then (if σ 4 (rf_ix r) = 0 then 0 else xx_remember σ (rf_ix r) 14 (rf_ix r * 4 + rf_q a)) else 0
def xr_activity (σ : rf_Mem) (r : Int32) : Int32 := if xr_bad r = 0 then (if xr_stateOf σ (rf_ix r) = 1 then xx_se (xx_remember σ (rf_ix r)) (rf_ix r) else 0) else -3
def xr_result (σ : rf_Mem) (r : Int32) : Int32 := if xr_bad r = 0 then (if xr_stateOf σ (rf_ix r) = 4 then xx_remember σ (rf_ix r) 17 (rf_ix r) else 0) else -3
def xr_untaken (σ : rf_Mem) (r : Int32) : Int32 := if xr_bad r = 0 then nI (rf_count (σ 11) (rf_ix r * 24) (rf_ix (σ 8 (rf_ix r))) 0) else -3
end
section
set_option maxHeartbeats 4000000 in
set_option maxRecDepth 100000 in
/-- badRun -/
theorem xm_badRun (l : Launch) (r : Int32)  : rf_Ms l yX0_badRun cX0_badRun 1 .boolean (rf_rm 0 0) [.int r] (xr_bad r) := by
  refine rf_enter (by decide) (Nat.le_of_ble_eq_true rfl) ?_
  intro p e s m below meth c ls hx hb hr hlk hml hown hts hnm hB hl
  have hS : va_S (fun _ => False) s.heap s.heap [] := va_S.rf
  have hl : lv_has ls 1 [(0, .int r)] := hl
  refine lv_iload_n hx hb dX0_badRun_0 rfl (lv_at hl 0 rfl) ?_
  refine lv_if_lt (tgt := 9) hx hb dX0_badRun_1 (by decide) (fun c_1 => ?_) (fun c_1 => ?_)
  · refine lv_iconst (v := 1) hx hb dX0_badRun_9 (by decide) ?_
    refine lv_goto (tgt := 14) hx hb dX0_badRun_10 (by decide) ?_
    exact rf_sret hx hb hr hlk rfl hS (by rw [xr_bad, if_pos c_1]) dX0_badRun_14
  · refine lv_iload_n hx hb dX0_badRun_4 rfl (lv_at hl 0 rfl) ?_
    refine lv_iconst (v := 3) hx hb dX0_badRun_5 (by decide) ?_
    refine lv_icmp_lt (tgt := 13) hx hb dX0_badRun_6 (by decide) (fun c_6 => ?_) (fun c_6 => ?_)
    · refine lv_iconst (v := 0) hx hb dX0_badRun_13 (by decide) ?_
      exact rf_sret hx hb hr hlk rfl hS (by rw [xr_bad, if_neg c_1, if_pos c_6]) dX0_badRun_14
    · refine lv_iconst (v := 1) hx hb dX0_badRun_9 (by decide) ?_
      refine lv_goto (tgt := 14) hx hb dX0_badRun_10 (by decide) ?_
      exact rf_sret hx hb hr hlk rfl hS (by rw [xr_bad, if_neg c_1, if_neg c_6]) dX0_badRun_14
theorem xk_badRun {p : Program} {l : Launch} {e : Env} {R : Room} {s : State} {m : MethodId} {args : Array Value} {below : List Frame} {meth : Method} {c : Code} {H : Heap} {locs : List Loc} {cells slots : Nat} {Q : State → Prop} {cc : ByteArray} {pc : Nat} {ls : Array Slot} {rest : List Value} {D : va_G} {g : Nat → Nat} {ca : Nat → ClassId} {σ : rf_Mem} {A : Nat → Prop} {nL : Nat} (S0 : CallFix p m c cc nL s args lw_all RX0) (hw : rf_w D vwCl xS g ca σ A s H locs) {r : Int32}  (hR : 0 + 1 ≤ R.frames ∧ 8 + (1 + 11) + 0 ≤ R.locals) (hls : ls.size = nL) (hst : (rest.map fun v => v.category).sum ≤ 8) (hdg : decode cc pc = .ok (.invokestatic 114, 3)) (hf : cells ≤ R.cells ∧ slots ≤ R.slots)
    (kk : ∀ (H1 : Heap) (locs1 : List Loc), rf_w D vwCl xS g ca σ A s H1 locs1 → W p l e R s m args below meth c H1 locs1 cells slots Q (F0 m (pc + 3) ls (.int (xr_bad r) :: rest))) : W p l e R s m args below meth c H locs cells slots Q (F0 m pc ls (.int r :: rest)) :=
  rf_calls S0 (xm_badRun l r ) (va_cwS 1 S0.2.2.2.2 (lw_S q108 q109 q21 q110) rfl rfl rfl (by decide +kernel) hR) hw rfl hls hst hdg hf rfl kk

set_option maxHeartbeats 4000000 in
set_option maxRecDepth 100000 in
/-- emit -/
theorem xm_emit (l : Launch) (D : va_G) {g : Nat → Nat} (ca : Nat → ClassId) (hg : rf_g xS g) (σ : rf_Mem) (o a b : Int32) (hL : rf_le (σ 0 0) 16) : rf_Mi l yX0_emit cX0_emit 5 .int (rf_rm 0 0) D vwCl xS g ca σ [.int o, .int a, .int b] (xr_emit σ o) (xx_emit σ o a b) := by
  refine rf_enter (by decide) (Nat.le_of_ble_eq_true rfl) ?_
  intro p e s m below meth c ls hx hb hr hlk hml hown hts hnm hB hl
  have hw : rf_w D vwCl xS g ca σ (rf_A xS g) s s.heap [] := ⟨hB.1, hB.2, va_S.rf⟩
  have hA : ∀ q, rf_A xS g q → rf_A xS g q := fun _ h => h
  have hl : lv_has ls 5 [(0, .ref (g 0)), (1, .int o), (2, .int a), (3, .int b)] := hl
  refine lv_iload_n hx hb dX0_emit_0 rfl (lv_at hl 1 rfl) ?_
  refine lv_if_lt (tgt := 10) hx hb dX0_emit_1 (by decide) (fun c_1 => ?_) (fun c_1 => ?_)
  · refine lv_iconst (v := -1) hx hb dX0_emit_10 (by decide) ?_
    exact rf_iret hx hb hr hlk hw ⟨by rw [xr_emit, if_pos c_1] <;> rfl, by rw [xx_emit, if_pos c_1] <;> rfl⟩ dX0_emit_11
  · refine lv_iload_n hx hb dX0_emit_4 rfl (lv_at hl 1 rfl) ?_
    refine lv_bipush (v := 8) hx hb dX0_emit_5 (by decide) ?_
    refine lv_icmp_le (tgt := 12) hx hb dX0_emit_7 (by decide) (fun c_7 => ?_) (fun c_7 => ?_)
    · refine lv_aload_n hx hb dX0_emit_12 rfl (lv_at hl 0 rfl) ?_
      refine xg_length hx hb hts hown hw dX0_emit_13 ?_
      refine lv_bipush (v := 16) hx hb dX0_emit_16 (by decide) ?_
      refine lv_icmp_lt (tgt := 24) hx hb dX0_emit_18 (by decide) (fun c_18 => ?_) (fun c_18 => ?_)
      · refine lv_aload_n hx hb dX0_emit_24 rfl (lv_at hl 0 rfl) ?_
        refine xg_locked hx hb hts hown hw dX0_emit_25 ?_
        refine lv_if_eq (tgt := 34) hx hb dX0_emit_28 (by decide) (fun c_28 => ?_) (fun c_28 => ?_)
        · have hin : vp_in (σ 0 0) 16 := rf_le_in hL (by decide) c_18
          refine lv_aload_n hx hb dX0_emit_34 rfl (lv_at hl 0 rfl) ?_
          refine xg_length hx hb hts hown hw dX0_emit_35 ?_
          refine lv_istore (lv' := [(4, .int _), (0, .ref _), (1, .int _), (2, .int _), (3, .int _)]) hx hb dX0_emit_38 hl (by decide) rfl (fun ls hl => ?_)
          refine lv_aload_n hx hb dX0_emit_40 rfl (lv_at hl 1 rfl) ?_
          refine xg_op hx hb hts hown hw dX0_emit_41 ?_
          refine lv_iload hx hb dX0_emit_44 (lv_at hl 0 rfl) ?_
          refine lv_iload_n hx hb dX0_emit_46 rfl (lv_at hl 2 rfl) ?_
          refine rf_iast (j := 1) hx hb hg hA hw (by decide) (by decide) rfl hin dX0_emit_47 (fun H locs hw => ?_)
          refine lv_aload_n hx hb dX0_emit_48 rfl (lv_at hl 1 rfl) ?_
          refine xg_first hx hb hts hown hw dX0_emit_49 ?_
          refine lv_iload hx hb dX0_emit_52 (lv_at hl 0 rfl) ?_
          refine lv_iload_n hx hb dX0_emit_54 rfl (lv_at hl 3 rfl) ?_
          refine rf_iast (j := 2) hx hb hg hA hw (by decide) (by decide) rfl hin dX0_emit_55 (fun H locs hw => ?_)
          refine lv_aload_n hx hb dX0_emit_56 rfl (lv_at hl 1 rfl) ?_
          refine xg_second hx hb hts hown hw dX0_emit_57 ?_
          refine lv_iload hx hb dX0_emit_60 (lv_at hl 0 rfl) ?_
          refine lv_iload_n hx hb dX0_emit_62 rfl (lv_at hl 4 rfl) ?_
          refine rf_iast (j := 3) hx hb hg hA hw (by decide) (by decide) rfl hin dX0_emit_63 (fun H locs hw => ?_)
          refine lv_aload_n hx hb dX0_emit_64 rfl (lv_at hl 1 rfl) ?_
          refine lv_dup hx hb dX0_emit_65 rfl ?_
          refine xg_length hx hb hts hown hw dX0_emit_66 ?_
          refine lv_iconst (v := 1) hx hb dX0_emit_69 (by decide) ?_
          refine lv_iadd hx hb dX0_emit_70 ?_
          refine xp_length hx hb hts hown hg hA hw dX0_emit_71 (fun H locs hw => ?_)
          refine lv_iload hx hb dX0_emit_74 (lv_at hl 0 rfl) ?_
          exact rf_iret hx hb hr hlk hw ⟨by rw [xr_emit, if_neg c_1, if_pos c_7, if_pos c_18, if_pos c_28] <;> rfl, by rw [xx_emit, if_neg c_1, if_pos c_7, if_pos c_18, if_pos c_28] <;> rfl⟩ dX0_emit_76
        · refine lv_bipush (v := -5) hx hb dX0_emit_31 (by decide) ?_
          exact rf_iret hx hb hr hlk hw ⟨by rw [xr_emit, if_neg c_1, if_pos c_7, if_pos c_18, if_neg c_28] <;> rfl, by rw [xx_emit, if_neg c_1, if_pos c_7, if_pos c_18, if_neg c_28] <;> rfl⟩ dX0_emit_33
      · refine lv_bipush (v := -2) hx hb dX0_emit_21 (by decide) ?_
        exact rf_iret hx hb hr hlk hw ⟨by rw [xr_emit, if_neg c_1, if_pos c_7, if_neg c_18] <;> rfl, by rw [xx_emit, if_neg c_1, if_pos c_7, if_neg c_18] <;> rfl⟩ dX0_emit_23
    · refine lv_iconst (v := -1) hx hb dX0_emit_10 (by decide) ?_
      exact rf_iret hx hb hr hlk hw ⟨by rw [xr_emit, if_neg c_1, if_neg c_7] <;> rfl, by rw [xx_emit, if_neg c_1, if_neg c_7] <;> rfl⟩ dX0_emit_11

set_option maxHeartbeats 4000000 in
set_option maxRecDepth 100000 in
/-- start -/
theorem xm_start (l : Launch) (D : va_G) {g : Nat → Nat} (ca : Nat → ClassId) (hg : rf_g xS g) (σ : rf_Mem) (r a : Int32) (hL : rf_le (σ 0 0) 16) : rf_Mi l yX0_start cX0_start 3 .int (rf_rm 6 134) D vwCl xS g ca σ [.int r, .int a] (xr_start σ r a) (xx_start σ r a) := by
  refine rf_enter (by decide) (Nat.le_of_ble_eq_true rfl) ?_
  intro p e s m below meth c ls hx hb hr hlk hml hown hts hnm hB hl
  have hw : rf_w D vwCl xS g ca σ (rf_A xS g) s s.heap [] := ⟨hB.1, hB.2, va_S.rf⟩
  have hA : ∀ q, rf_A xS g q → rf_A xS g q := fun _ h => h
  have hl : lv_has ls 3 [(0, .ref (g 0)), (1, .int r), (2, .int a)] := hl
  refine lv_iload_n hx hb dX0_start_0 rfl (lv_at hl 1 rfl) ?_
  refine xk_badRun ⟨hx, hb, hml, hown, hts⟩ hw ⟨Nat.le_of_ble_eq_true rfl, Nat.le_of_ble_eq_true rfl⟩ hl.1 (Nat.le_of_ble_eq_true rfl) dX0_start_1 ⟨Nat.le_refl _, Nat.le_refl _⟩ (fun H locs hw => ?_)
  refine lv_if_eq (tgt := 10) hx hb dX0_start_4 (by decide) (fun c_4 => ?_) (fun c_4 => ?_)
  · obtain ⟨k, hk, rfl⟩ := rf_run c_4
    refine lv_aload_n hx hb dX0_start_10 rfl (lv_at hl 0 rfl) ?_
    refine xg_started hx hb hts hown hw dX0_start_11 ?_
    refine lv_iload_n hx hb dX0_start_14 rfl (lv_at hl 1 rfl) ?_
    refine rf_zaldn (j := 4) (jx := k) hx hb hw (by decide) (by decide) rfl rfl hk (xln_lt 4) dX0_start_15 ?_
    refine lv_if_eq (tgt := 22) hx hb dX0_start_16 (by decide) (fun c_16 => ?_) (fun c_16 => ?_)
    · refine lv_aload_n hx hb dX0_start_22 rfl (lv_at hl 0 rfl) ?_
      refine lv_iconst (v := 1) hx hb dX0_start_23 (by decide) ?_
      refine xp_locked hx hb hts hown hg hA hw rfl rfl dX0_start_24 (fun H locs hw => ?_)
      refine lv_aload_n hx hb dX0_start_27 rfl (lv_at hl 0 rfl) ?_
      refine xg_started hx hb hts hown hw dX0_start_28 ?_
      refine lv_iload_n hx hb dX0_start_31 rfl (lv_at hl 1 rfl) ?_
      refine lv_iconst (v := 1) hx hb dX0_start_32 (by decide) ?_
      refine rf_zastn (j := 4) (jx := k) hx hb hg hA hw (by decide) (by decide) rfl rfl rfl hk (xln_lt 4) dX0_start_33 (fun H locs hw => ?_)
      refine lv_aload_n hx hb dX0_start_34 rfl (lv_at hl 0 rfl) ?_
      refine xg_argument hx hb hts hown hw dX0_start_35 ?_
      refine lv_iload_n hx hb dX0_start_38 rfl (lv_at hl 1 rfl) ?_
      refine lv_iload_n hx hb dX0_start_39 rfl (lv_at hl 2 rfl) ?_
      refine rf_iastn (j := 5) (jx := k) hx hb hg hA hw (by decide) (by decide) rfl rfl hk (xln_lt 5) dX0_start_40 (fun H locs hw => ?_)
      refine lv_aload_n hx hb dX0_start_41 rfl (lv_at hl 0 rfl) ?_
      refine xg_events hx hb hts hown hw dX0_start_42 ?_
      refine lv_iload_n hx hb dX0_start_45 rfl (lv_at hl 1 rfl) ?_
      refine lv_iconst (v := 0) hx hb dX0_start_46 (by decide) ?_
      refine rf_iastn (j := 6) (jx := k) hx hb hg hA hw (by decide) (by decide) rfl rfl hk (xln_lt 6) dX0_start_47 (fun H locs hw => ?_)
      refine lv_aload_n hx hb dX0_start_48 rfl (lv_at hl 0 rfl) ?_
      refine xg_signals hx hb hts hown hw dX0_start_49 ?_
      refine lv_iload_n hx hb dX0_start_52 rfl (lv_at hl 1 rfl) ?_
      refine lv_iconst (v := 0) hx hb dX0_start_53 (by decide) ?_
      refine rf_iastn (j := 8) (jx := k) hx hb hg hA hw (by decide) (by decide) rfl rfl hk (xln_lt 8) dX0_start_54 (fun H locs hw => ?_)
      refine lv_aload_n hx hb dX0_start_55 rfl (lv_at hl 0 rfl) ?_
      refine xg_wakesAt hx hb hts hown hw dX0_start_56 ?_
      refine lv_iload_n hx hb dX0_start_59 rfl (lv_at hl 1 rfl) ?_
      refine lv_iconst (v := 0) hx hb dX0_start_60 (by decide) ?_
      refine rf_iastn (j := 12) (jx := k) hx hb hg hA hw (by decide) (by decide) rfl rfl hk (xln_lt 12) dX0_start_61 (fun H locs hw => ?_)
      refine lv_aload_n hx hb dX0_start_62 rfl (lv_at hl 0 rfl) ?_
      refine lv_iload_n hx hb dX0_start_63 rfl (lv_at hl 1 rfl) ?_
      refine xk_begin ⟨hx, hb, hml, hown, hts⟩ hg hA hw hk (ok_startI hL) ⟨Nat.le_of_ble_eq_true rfl, Nat.le_of_ble_eq_true rfl⟩ hl.1 (Nat.le_of_ble_eq_true rfl) dX0_start_64 ⟨Nat.le_refl _, Nat.le_refl _⟩ (fun H locs hw => ?_)
      refine lv_aload_n hx hb dX0_start_67 rfl (lv_at hl 0 rfl) ?_
      refine xg_states hx hb hts hown hw dX0_start_68 ?_
      refine lv_iload_n hx hb dX0_start_71 rfl (lv_at hl 1 rfl) ?_
      refine rf_ialdn (j := 16) (jx := k) hx hb hw (by decide) (by decide) rfl rfl hk (xln_lt 16) dX0_start_72 ?_
      exact rf_iret hx hb hr hlk hw ⟨by simp only [xx_start, xr_start, c_4, c_16, rf_ixk hk, ↓reduceIte] <;> rfl, by simp only [xx_start, xr_start, c_4, c_16, rf_ixk hk, ↓reduceIte] <;> rfl⟩ dX0_start_73
    · refine lv_bipush (v := -5) hx hb dX0_start_19 (by decide) ?_
      exact rf_iret hx hb hr hlk hw ⟨by simp only [xx_start, xr_start, c_4, c_16, rf_ixk hk, ↓reduceIte] <;> rfl, by simp only [xx_start, xr_start, c_4, c_16, rf_ixk hk, ↓reduceIte] <;> rfl⟩ dX0_start_21
  · refine lv_bipush (v := -3) hx hb dX0_start_7 (by decide) ?_
    exact rf_iret hx hb hr hlk hw ⟨by simp only [xx_start, xr_start, c_4, ↓reduceIte] <;> rfl, by simp only [xx_start, xr_start, c_4, ↓reduceIte] <;> rfl⟩ dX0_start_9

set_option maxHeartbeats 4000000 in
set_option maxRecDepth 100000 in
/-- answer -/
theorem xm_answer (l : Launch) (D : va_G) {g : Nat → Nat} (ca : Nat → ClassId) (hg : rf_g xS g) (σ : rf_Mem) (r v : Int32) (hO : ∀ k, k < 3 → xx_ok σ k) : rf_Mi l yX0_answer cX0_answer 4 .int (rf_rm 8 176) D vwCl xS g ca σ [.int r, .int v] (xr_answer σ r v) (xx_answer σ r v) := by
  refine rf_enter (by decide) (Nat.le_of_ble_eq_true rfl) ?_
  intro p e s m below meth c ls hx hb hr hlk hml hown hts hnm hB hl
  have hw : rf_w D vwCl xS g ca σ (rf_A xS g) s s.heap [] := ⟨hB.1, hB.2, va_S.rf⟩
  have hA : ∀ q, rf_A xS g q → rf_A xS g q := fun _ h => h
  have hl : lv_has ls 4 [(0, .ref (g 0)), (1, .int r), (2, .int v)] := hl
  refine lv_iload_n hx hb dX0_answer_0 rfl (lv_at hl 1 rfl) ?_
  refine xk_badRun ⟨hx, hb, hml, hown, hts⟩ hw ⟨Nat.le_of_ble_eq_true rfl, Nat.le_of_ble_eq_true rfl⟩ hl.1 (Nat.le_of_ble_eq_true rfl) dX0_answer_1 ⟨Nat.le_refl _, Nat.le_refl _⟩ (fun H locs hw => ?_)
  refine lv_if_eq (tgt := 10) hx hb dX0_answer_4 (by decide) (fun c_4 => ?_) (fun c_4 => ?_)
  · obtain ⟨k, hk, rfl⟩ := rf_run c_4
    refine lv_aload_n hx hb dX0_answer_10 rfl (lv_at hl 0 rfl) ?_
    refine lv_iload_n hx hb dX0_answer_11 rfl (lv_at hl 1 rfl) ?_
    refine xk_stateOf ⟨hx, hb, hml, hown, hts⟩ hg hA hw hk (ok_okb (hO k hk)) ⟨Nat.le_of_ble_eq_true rfl, Nat.le_of_ble_eq_true rfl⟩ hl.1 (Nat.le_of_ble_eq_true rfl) dX0_answer_12 ⟨Nat.le_refl _, Nat.le_refl _⟩ (fun H locs hw => ?_)
    refine lv_istore_n (lv' := [(3, .int _), (0, .ref _), (1, .int _), (2, .int _)]) hx hb dX0_answer_15 rfl hl (by decide) rfl (fun ls hl => ?_)
    refine lv_iload_n hx hb dX0_answer_16 rfl (lv_at hl 0 rfl) ?_
    refine lv_iconst (v := 1) hx hb dX0_answer_17 (by decide) ?_
    refine lv_icmp_eq (tgt := 24) hx hb dX0_answer_18 (by decide) (fun c_18 => ?_) (fun c_18 => ?_)
    · refine lv_aload_n hx hb dX0_answer_24 rfl (lv_at hl 1 rfl) ?_
      refine lv_iload_n hx hb dX0_answer_25 rfl (lv_at hl 2 rfl) ?_
      refine lv_iload_n hx hb dX0_answer_26 rfl (lv_at hl 3 rfl) ?_
      refine xk_addEvent ⟨hx, hb, hml, hown, hts⟩ hg hA hw hk (ok_remember (hO k hk)).2.1 ⟨Nat.le_of_ble_eq_true rfl, Nat.le_of_ble_eq_true rfl⟩ hl.1 (Nat.le_of_ble_eq_true rfl) dX0_answer_27 ⟨Nat.le_refl _, Nat.le_refl _⟩ (fun H locs hw => ?_)
      refine lv_aload_n hx hb dX0_answer_30 rfl (lv_at hl 1 rfl) ?_
      refine lv_iload_n hx hb dX0_answer_31 rfl (lv_at hl 2 rfl) ?_
      refine xk_carryOn ⟨hx, hb, hml, hown, hts⟩ hg hA hw hk (ok_addEvent (ok_remember (hO k hk))) ⟨Nat.le_of_ble_eq_true rfl, Nat.le_of_ble_eq_true rfl⟩ hl.1 (Nat.le_of_ble_eq_true rfl) dX0_answer_32 ⟨Nat.le_refl _, Nat.le_refl _⟩ (fun H locs hw => ?_)
      refine lv_aload_n hx hb dX0_answer_35 rfl (lv_at hl 1 rfl) ?_
      refine xg_states hx hb hts hown hw dX0_answer_36 ?_
      refine lv_iload_n hx hb dX0_answer_39 rfl (lv_at hl 2 rfl) ?_
      refine rf_ialdn (j := 16) (jx := k) hx hb hw (by decide) (by decide) rfl rfl hk (xln_lt 16) dX0_answer_40 ?_
      exact rf_iret hx hb hr hlk hw ⟨by simp only [xx_answer, xr_answer, c_4, c_18, rf_ixk hk, ↓reduceIte] <;> rfl, by simp only [xx_answer, xr_answer, c_4, c_18, rf_ixk hk, ↓reduceIte] <;> rfl⟩ dX0_answer_41
    · refine lv_bipush (v := -4) hx hb dX0_answer_21 (by decide) ?_
      exact rf_iret hx hb hr hlk hw ⟨by simp only [xx_answer, xr_answer, c_4, c_18, rf_ixk hk, ↓reduceIte] <;> rfl, by simp only [xx_answer, xr_answer, c_4, c_18, rf_ixk hk, ↓reduceIte] <;> rfl⟩ dX0_answer_23
  · refine lv_bipush (v := -3) hx hb dX0_answer_7 (by decide) ?_
    exact rf_iret hx hb hr hlk hw ⟨by simp only [xx_answer, xr_answer, c_4, ↓reduceIte] <;> rfl, by simp only [xx_answer, xr_answer, c_4, ↓reduceIte] <;> rfl⟩ dX0_answer_9

set_option maxHeartbeats 4000000 in
set_option maxRecDepth 100000 in
/-- signal -/
theorem xm_signal (l : Launch) (D : va_G) {g : Nat → Nat} (ca : Nat → ClassId) (hg : rf_g xS g) (σ : rf_Mem) (r ch v : Int32) (hO : ∀ k, k < 3 → xx_ok σ k) : rf_Mi l yX0_signal cX0_signal 6 .int (rf_rm 8 176) D vwCl xS g ca σ [.int r, .int ch, .int v] (xr_signal σ r ch v) (xx_signal σ r ch v) := by
  refine rf_enter (by decide) (Nat.le_of_ble_eq_true rfl) ?_
  intro p e s m below meth c ls hx hb hr hlk hml hown hts hnm hB hl
  have hw : rf_w D vwCl xS g ca σ (rf_A xS g) s s.heap [] := ⟨hB.1, hB.2, va_S.rf⟩
  have hA : ∀ q, rf_A xS g q → rf_A xS g q := fun _ h => h
  have hl : lv_has ls 6 [(0, .ref (g 0)), (1, .int r), (2, .int ch), (3, .int v)] := hl
  refine lv_iload_n hx hb dX0_signal_0 rfl (lv_at hl 1 rfl) ?_
  refine xk_badRun ⟨hx, hb, hml, hown, hts⟩ hw ⟨Nat.le_of_ble_eq_true rfl, Nat.le_of_ble_eq_true rfl⟩ hl.1 (Nat.le_of_ble_eq_true rfl) dX0_signal_1 ⟨Nat.le_refl _, Nat.le_refl _⟩ (fun H locs hw => ?_)
  refine lv_if_eq (tgt := 10) hx hb dX0_signal_4 (by decide) (fun c_4 => ?_) (fun c_4 => ?_)
  · obtain ⟨k, hk, rfl⟩ := rf_run c_4
    refine lv_aload_n hx hb dX0_signal_10 rfl (lv_at hl 0 rfl) ?_
    refine lv_iload_n hx hb dX0_signal_11 rfl (lv_at hl 1 rfl) ?_
    refine xk_stateOf ⟨hx, hb, hml, hown, hts⟩ hg hA hw hk (ok_okb (hO k hk)) ⟨Nat.le_of_ble_eq_true rfl, Nat.le_of_ble_eq_true rfl⟩ hl.1 (Nat.le_of_ble_eq_true rfl) dX0_signal_12 ⟨Nat.le_refl _, Nat.le_refl _⟩ (fun H locs hw => ?_)
    refine lv_istore (lv' := [(4, .int _), (0, .ref _), (1, .int _), (2, .int _), (3, .int _)]) hx hb dX0_signal_15 hl (by decide) rfl (fun ls hl => ?_)
    refine lv_iload hx hb dX0_signal_17 (lv_at hl 0 rfl) ?_
    refine lv_if_eq (tgt := 28) hx hb dX0_signal_19 (by decide) (fun c_19 => ?_) (fun c_19 => ?_)
    · refine lv_bipush (v := -4) hx hb dX0_signal_28 (by decide) ?_
      exact rf_iret hx hb hr hlk hw ⟨by simp only [xx_signal, xr_signal, xx_signalT, c_4, c_19, rf_ixk hk, ↓reduceIte] <;> rfl, by simp only [xx_signal, xr_signal, xx_signalT, c_4, c_19, rf_ixk hk, ↓reduceIte] <;> rfl⟩ dX0_signal_30
    · refine lv_iload hx hb dX0_signal_22 (lv_at hl 0 rfl) ?_
      refine lv_iconst (v := 4) hx hb dX0_signal_24 (by decide) ?_
      refine lv_icmp_ne (tgt := 31) hx hb dX0_signal_25 (by decide) (fun c_25 => ?_) (fun c_25 => ?_)
      · refine lv_aload_n hx hb dX0_signal_31 rfl (lv_at hl 1 rfl) ?_
        refine xg_signals hx hb hts hown hw dX0_signal_32 ?_
        refine lv_iload_n hx hb dX0_signal_35 rfl (lv_at hl 2 rfl) ?_
        refine rf_ialdn (j := 8) (jx := k) hx hb hw (by decide) (by decide) rfl rfl hk (xln_lt 8) dX0_signal_36 ?_
        refine lv_bipush (v := 24) hx hb dX0_signal_37 (by decide) ?_
        refine lv_icmp_lt (tgt := 45) hx hb dX0_signal_39 (by decide) (fun c_39 => ?_) (fun c_39 => ?_)
        · have hin24 := rf_le_in (ok_remember (hO k hk)).2.2.1 (by decide) c_39
          refine lv_iload_n hx hb dX0_signal_45 rfl (lv_at hl 2 rfl) ?_
          refine lv_bipush (v := 24) hx hb dX0_signal_46 (by decide) ?_
          refine lv_imul hx hb dX0_signal_48 ?_
          refine lv_aload_n hx hb dX0_signal_49 rfl (lv_at hl 1 rfl) ?_
          refine xg_signals hx hb hts hown hw dX0_signal_50 ?_
          refine lv_iload_n hx hb dX0_signal_53 rfl (lv_at hl 2 rfl) ?_
          refine rf_ialdn (j := 8) (jx := k) hx hb hw (by decide) (by decide) rfl rfl hk (xln_lt 8) dX0_signal_54 ?_
          refine lv_iadd hx hb dX0_signal_55 ?_
          refine lv_istore (lv' := [(5, .int _), (4, .int _), (0, .ref _), (1, .int _), (2, .int _), (3, .int _)]) hx hb dX0_signal_56 hl (by decide) rfl (fun ls hl => ?_)
          refine lv_aload_n hx hb dX0_signal_58 rfl (lv_at hl 2 rfl) ?_
          refine xg_channelOf hx hb hts hown hw dX0_signal_59 ?_
          refine lv_iload hx hb dX0_signal_62 (lv_at hl 0 rfl) ?_
          refine lv_iload_n hx hb dX0_signal_64 rfl (lv_at hl 4 rfl) ?_
          refine lv_iconst (v := 1) hx hb dX0_signal_65 (by decide) ?_
          refine lv_iand hx hb dX0_signal_66 ?_
          refine rf_iastn (j := 9) (jx := (k * 24 + rf_ix (xx_remember σ k 8 k))) hx hb hg hA hw (by decide) (by decide) rfl (rf_ix24 k hin24 (by decide)) (rf_r24 hk hin24) (xln_lt 9) dX0_signal_67 (fun H locs hw => ?_)
          refine lv_aload_n hx hb dX0_signal_68 rfl (lv_at hl 2 rfl) ?_
          refine xg_valueOf hx hb hts hown hw dX0_signal_69 ?_
          refine lv_iload hx hb dX0_signal_72 (lv_at hl 0 rfl) ?_
          refine lv_iload_n hx hb dX0_signal_74 rfl (lv_at hl 5 rfl) ?_
          refine rf_iastn (j := 10) (jx := (k * 24 + rf_ix (xx_remember σ k 8 k))) hx hb hg hA hw (by decide) (by decide) rfl (rf_ix24 k hin24 (by decide)) (rf_r24 hk hin24) (xln_lt 10) dX0_signal_75 (fun H locs hw => ?_)
          refine lv_aload_n hx hb dX0_signal_76 rfl (lv_at hl 2 rfl) ?_
          refine xg_taken hx hb hts hown hw dX0_signal_77 ?_
          refine lv_iload hx hb dX0_signal_80 (lv_at hl 0 rfl) ?_
          refine lv_iconst (v := 0) hx hb dX0_signal_82 (by decide) ?_
          refine rf_zastn (j := 11) (jx := (k * 24 + rf_ix (xx_remember σ k 8 k))) hx hb hg hA hw (by decide) (by decide) rfl rfl (rf_ix24 k hin24 (by decide)) (rf_r24 hk hin24) (xln_lt 11) dX0_signal_83 (fun H locs hw => ?_)
          refine lv_aload_n hx hb dX0_signal_84 rfl (lv_at hl 2 rfl) ?_
          refine xg_signals hx hb hts hown hw dX0_signal_85 ?_
          refine lv_iload_n hx hb dX0_signal_88 rfl (lv_at hl 3 rfl) ?_
          refine lv_dup2_11 hx hb dX0_signal_89 rfl rfl ?_
          refine rf_ialdn (j := 8) (jx := k) hx hb hw (by decide) (by decide) rfl rfl hk (xln_lt 8) dX0_signal_90 ?_
          refine lv_iconst (v := 1) hx hb dX0_signal_91 (by decide) ?_
          refine lv_iadd hx hb dX0_signal_92 ?_
          refine rf_iastn (j := 8) (jx := k) hx hb hg hA hw (by decide) (by decide) rfl rfl hk (xln_lt 8) dX0_signal_93 (fun H locs hw => ?_)
          refine lv_iload hx hb dX0_signal_94 (lv_at hl 1 rfl) ?_
          refine lv_iconst (v := 3) hx hb dX0_signal_96 (by decide) ?_
          refine lv_icmp_ne (tgt := 105) hx hb dX0_signal_97 (by decide) (fun c_97 => ?_) (fun c_97 => ?_)
          · refine lv_aload_n hx hb dX0_signal_105 rfl (lv_at hl 2 rfl) ?_
            refine xg_states hx hb hts hown hw dX0_signal_106 ?_
            refine lv_iload_n hx hb dX0_signal_109 rfl (lv_at hl 3 rfl) ?_
            refine rf_ialdn (j := 16) (jx := k) hx hb hw (by decide) (by decide) rfl rfl hk (xln_lt 16) dX0_signal_110 ?_
            exact rf_iret hx hb hr hlk hw ⟨by simp only [xx_signal, xr_signal, xx_signalT, c_4, c_19, c_25, c_39, c_97, rf_ixk hk, ↓reduceIte] <;> rfl, by simp only [xx_signal, xr_signal, xx_signalT, c_4, c_19, c_25, c_39, c_97, rf_ixk hk, ↓reduceIte] <;> rfl⟩ dX0_signal_111
          · refine lv_aload_n hx hb dX0_signal_100 rfl (lv_at hl 2 rfl) ?_
            refine lv_iload_n hx hb dX0_signal_101 rfl (lv_at hl 3 rfl) ?_
            refine xk_carryOn ⟨hx, hb, hml, hown, hts⟩ hg hA hw hk (ok_put (ok_remember (hO k hk)) c_39) ⟨Nat.le_of_ble_eq_true rfl, Nat.le_of_ble_eq_true rfl⟩ hl.1 (Nat.le_of_ble_eq_true rfl) dX0_signal_102 ⟨Nat.le_refl _, Nat.le_refl _⟩ (fun H locs hw => ?_)
            refine lv_aload_n hx hb dX0_signal_105 rfl (lv_at hl 2 rfl) ?_
            refine xg_states hx hb hts hown hw dX0_signal_106 ?_
            refine lv_iload_n hx hb dX0_signal_109 rfl (lv_at hl 3 rfl) ?_
            refine rf_ialdn (j := 16) (jx := k) hx hb hw (by decide) (by decide) rfl rfl hk (xln_lt 16) dX0_signal_110 ?_
            exact rf_iret hx hb hr hlk hw ⟨by simp only [xx_signal, xr_signal, xx_signalT, c_4, c_19, c_25, c_39, c_97, rf_ixk hk, ↓reduceIte] <;> rfl, by simp only [xx_signal, xr_signal, xx_signalT, c_4, c_19, c_25, c_39, c_97, rf_ixk hk, ↓reduceIte] <;> rfl⟩ dX0_signal_111
        · refine lv_bipush (v := -2) hx hb dX0_signal_42 (by decide) ?_
          exact rf_iret hx hb hr hlk hw ⟨by simp only [xx_signal, xr_signal, xx_signalT, c_4, c_19, c_25, c_39, rf_ixk hk, ↓reduceIte] <;> rfl, by simp only [xx_signal, xr_signal, xx_signalT, c_4, c_19, c_25, c_39, rf_ixk hk, ↓reduceIte] <;> rfl⟩ dX0_signal_44
      · refine lv_bipush (v := -4) hx hb dX0_signal_28 (by decide) ?_
        exact rf_iret hx hb hr hlk hw ⟨by simp only [xx_signal, xr_signal, xx_signalT, c_4, c_19, c_25, rf_ixk hk, ↓reduceIte] <;> rfl, by simp only [xx_signal, xr_signal, xx_signalT, c_4, c_19, c_25, rf_ixk hk, ↓reduceIte] <;> rfl⟩ dX0_signal_30
  · refine lv_bipush (v := -3) hx hb dX0_signal_7 (by decide) ?_
    exact rf_iret hx hb hr hlk hw ⟨by simp only [xx_signal, xr_signal, xx_signalT, c_4, ↓reduceIte] <;> rfl, by simp only [xx_signal, xr_signal, xx_signalT, c_4, ↓reduceIte] <;> rfl⟩ dX0_signal_9

set_option maxHeartbeats 4000000 in
set_option maxRecDepth 100000 in
/-- pass -/
theorem xm_pass (l : Launch) (D : va_G) {g : Nat → Nat} (ca : Nat → ClassId) (hg : rf_g xS g) (σ : rf_Mem) (n : Int32) (hO : ¬ n < 0 → n ≤ 1000 → ∀ j, j < 3 → xx_ok (xx_passN (xx_now σ n) j) j) : rf_Mi l yX0_pass cX0_pass 5 .int (rf_rm 8 176) D vwCl xS g ca σ [.int n] (xr_pass σ n) (xx_pass σ n) := by
  refine rf_enter (by decide) (Nat.le_of_ble_eq_true rfl) ?_
  intro p e s m below meth c ls hx hb hr hlk hml hown hts hnm hB hl
  have hw : rf_w D vwCl xS g ca σ (rf_A xS g) s s.heap [] := ⟨hB.1, hB.2, va_S.rf⟩
  have hA : ∀ q, rf_A xS g q → rf_A xS g q := fun _ h => h
  have hl : lv_has ls 5 [(0, .ref (g 0)), (1, .int n)] := hl
  have K28 : ∀ (z k : Nat) (H : Heap) (locs : List Loc) (ls : Array Slot), k + z = 3 → ¬ n < 0 → n ≤ 1000 → rf_w D vwCl xS g ca (xx_passN (xx_now σ n) k) (rf_A xS g) s H locs → lv_has ls 5 [(3, .int (nI k)), (2, .int (nI (xr_passN (xx_now σ n) k))), (0, .ref (g 0))] → W p l e (rf_rm 8 176) s m ([.ref (g 0), .int n] : List Value).toArray below meth c H locs 0 0 (MQ below (va_Qi (fun r σ' => r = xr_pass σ n ∧ σ' = xx_pass σ n) (rf_J D vwCl xS g ca) (rf_A xS g)) ([.ref (g 0), .int n] : List Value).toArray s 0 0 (rf_A xS g)) (F0 m 28 ls []) := by
    intro z
    induction z with
    | zero =>
      intro k H locs ls hz hn0 hn1 hw hl
      obtain rfl : k = 3 := by omega
      refine lv_iload_n hx hb dX0_pass_28 rfl (lv_at hl 0 rfl) ?_
      refine lv_iconst (v := 3) hx hb dX0_pass_29 (by decide) ?_
      refine lv_icmp_ge (tgt := 86) hx hb dX0_pass_30 (by decide) (fun c_30 => ?_) (fun c_30 => ?_)
      · refine lv_iload_n hx hb dX0_pass_86 rfl (lv_at hl 1 rfl) ?_
        exact rf_iret hx hb hr hlk hw ⟨by rw [xr_pass, if_neg hn0, if_pos hn1], by rw [xx_pass, if_neg hn0, if_pos hn1]⟩ dX0_pass_87
      · exact absurd (nI_le (a := 3) (b := 3) (by omega) (by omega)) c_30
    | succ z ih =>
      intro k H locs ls hz hn0 hn1 hw hl
      have hk : k < 3 := by omega
      have hok := hO hn0 hn1 k hk
      have K80 : ∀ (H : Heap) (locs : List Loc) (ls : Array Slot), rf_w D vwCl xS g ca (xx_passN (xx_now σ n) (k + 1)) (rf_A xS g) s H locs → lv_has ls 5 [(3, .int (nI k)), (2, .int (nI (xr_passN (xx_now σ n) (k + 1)))), (0, .ref (g 0))] → W p l e (rf_rm 8 176) s m ([.ref (g 0), .int n] : List Value).toArray below meth c H locs 0 0 (MQ below (va_Qi (fun r σ' => r = xr_pass σ n ∧ σ' = xx_pass σ n) (rf_J D vwCl xS g ca) (rf_A xS g)) ([.ref (g 0), .int n] : List Value).toArray s 0 0 (rf_A xS g)) (F0 m 80 ls []) := by
        intro H locs ls hw hl
        refine lv_iinc (v := nI (k + 1)) (lv' := [(3, .int _), (2, .int _), (0, .ref _)]) hx hb dX0_pass_80 hl (k := 0) rfl (nI_1 k) (by decide) rfl (fun ls hl => ?_)
        refine lv_goto (tgt := 28) hx hb dX0_pass_83 (by decide) ?_
        exact ih (k + 1) _ _ _ (by omega) hn0 hn1 hw (lv_sub hl [0, 1, 2] rfl)
      refine lv_iload_n hx hb dX0_pass_28 rfl (lv_at hl 0 rfl) ?_
      refine lv_iconst (v := 3) hx hb dX0_pass_29 (by decide) ?_
      refine lv_icmp_ge (tgt := 86) hx hb dX0_pass_30 (by decide) (fun c_30 => ?_) (fun c_30 => ?_)
      · exact absurd c_30 (nI_ge (a := k) (b := 3) (by omega) (by omega))
      · refine lv_aload_n hx hb dX0_pass_33 rfl (lv_at hl 2 rfl) ?_
        refine lv_iload_n hx hb dX0_pass_34 rfl (lv_at hl 0 rfl) ?_
        refine xk_stateOf ⟨hx, hb, hml, hown, hts⟩ hg hA hw hk (ok_okb hok) ⟨Nat.le_of_ble_eq_true rfl, Nat.le_of_ble_eq_true rfl⟩ hl.1 (Nat.le_of_ble_eq_true rfl) dX0_pass_35 ⟨Nat.le_refl _, Nat.le_refl _⟩ (fun H locs hw => ?_)
        refine lv_istore (lv' := [(4, .int _), (3, .int _), (2, .int _), (0, .ref _)]) hx hb dX0_pass_38 hl (by decide) rfl (fun ls hl => ?_)
        refine lv_iload hx hb dX0_pass_40 (lv_at hl 0 rfl) ?_
        refine lv_iconst (v := 2) hx hb dX0_pass_42 (by decide) ?_
        refine lv_icmp_ne (tgt := 80) hx hb dX0_pass_43 (by decide) (fun (c_43 : ¬ xr_stateOf (xx_passN (xx_now σ n) k) k = 2) => ?_) (fun (c_43 : xr_stateOf (xx_passN (xx_now σ n) k) k = 2) => ?_)
        · exact K80 _ _ _ (rf_weq hw (by rw [xx_passN, xx_pass1, if_neg c_43] <;> rfl)) (by rw [show xr_passN (xx_now σ n) (k + 1) = xr_passN (xx_now σ n) k by rw [xr_passN, xr_pass1, if_neg c_43] <;> rfl]; exact lv_sub hl [1, 2, 3] rfl)
        · refine lv_aload_n hx hb dX0_pass_46 rfl (lv_at hl 3 rfl) ?_
          refine xg_wakesAt hx hb hts hown hw dX0_pass_47 ?_
          refine lv_iload_n hx hb dX0_pass_50 rfl (lv_at hl 1 rfl) ?_
          refine rf_ialdn (j := 12) (jx := k) hx hb hw (by decide) (by decide) rfl rfl hk (xln_lt 12) dX0_pass_51 ?_
          refine lv_aload_n hx hb dX0_pass_52 rfl (lv_at hl 3 rfl) ?_
          refine xg_now hx hb hts hown hw dX0_pass_53 ?_
          refine lv_icmp_gt (tgt := 80) hx hb dX0_pass_56 (by decide) (fun c_56 => ?_) (fun c_56 => ?_)
          · exact K80 _ _ _ (rf_weq hw (by rw [xx_passN, xx_pass1, if_pos c_43, if_pos c_56] <;> rfl)) (by rw [show xr_passN (xx_now σ n) (k + 1) = xr_passN (xx_now σ n) k by rw [xr_passN, xr_pass1, if_pos c_43, if_pos c_56] <;> rfl]; exact lv_sub hl [1, 2, 3] rfl)
          · refine lv_aload_n hx hb dX0_pass_59 rfl (lv_at hl 3 rfl) ?_
            refine xg_wakesAt hx hb hts hown hw dX0_pass_60 ?_
            refine lv_iload_n hx hb dX0_pass_63 rfl (lv_at hl 1 rfl) ?_
            refine lv_iconst (v := 0) hx hb dX0_pass_64 (by decide) ?_
            refine rf_iastn (j := 12) (jx := k) hx hb hg hA hw (by decide) (by decide) rfl rfl hk (xln_lt 12) dX0_pass_65 (fun H locs hw => ?_)
            refine lv_aload_n hx hb dX0_pass_66 rfl (lv_at hl 3 rfl) ?_
            refine lv_iload_n hx hb dX0_pass_67 rfl (lv_at hl 1 rfl) ?_
            refine lv_iconst (v := 0) hx hb dX0_pass_68 (by decide) ?_
            refine xk_addEvent ⟨hx, hb, hml, hown, hts⟩ hg hA hw hk (ok_wake (ok_remember hok)).2.1 ⟨Nat.le_of_ble_eq_true rfl, Nat.le_of_ble_eq_true rfl⟩ hl.1 (Nat.le_of_ble_eq_true rfl) dX0_pass_69 ⟨Nat.le_refl _, Nat.le_refl _⟩ (fun H locs hw => ?_)
            refine lv_aload_n hx hb dX0_pass_72 rfl (lv_at hl 3 rfl) ?_
            refine lv_iload_n hx hb dX0_pass_73 rfl (lv_at hl 1 rfl) ?_
            refine xk_carryOn ⟨hx, hb, hml, hown, hts⟩ hg hA hw hk (ok_addEvent (ok_wake (ok_remember hok))) ⟨Nat.le_of_ble_eq_true rfl, Nat.le_of_ble_eq_true rfl⟩ hl.1 (Nat.le_of_ble_eq_true rfl) dX0_pass_74 ⟨Nat.le_refl _, Nat.le_refl _⟩ (fun H locs hw => ?_)
            refine lv_iinc (v := nI (xr_passN (xx_now σ n) k + 1)) (lv' := [(2, .int _), (4, .int _), (3, .int _), (0, .ref _)]) hx hb dX0_pass_77 hl (k := 2) rfl (nI_1 _) (by decide) rfl (fun ls hl => ?_)
            exact K80 _ _ _ (rf_weq hw (by rw [xx_passN, xx_pass1, if_pos c_43, if_neg c_56] <;> rfl)) (by rw [show xr_passN (xx_now σ n) (k + 1) = xr_passN (xx_now σ n) k + 1 by rw [xr_passN, xr_pass1, if_pos c_43, if_neg c_56] <;> rfl]; exact lv_sub hl [2, 0, 3] rfl)
  refine lv_iload_n hx hb dX0_pass_0 rfl (lv_at hl 1 rfl) ?_
  refine lv_if_lt (tgt := 11) hx hb dX0_pass_1 (by decide) (fun c_1 => ?_) (fun c_1 => ?_)
  · refine lv_bipush (v := -6) hx hb dX0_pass_11 (by decide) ?_
    exact rf_iret hx hb hr hlk hw ⟨by rw [xr_pass, if_pos c_1] <;> rfl, by rw [xx_pass, if_pos c_1] <;> rfl⟩ dX0_pass_13
  · refine lv_iload_n hx hb dX0_pass_4 rfl (lv_at hl 1 rfl) ?_
    refine lv_sipush (v := 1000) hx hb dX0_pass_5 (by decide) ?_
    refine lv_icmp_le (tgt := 14) hx hb dX0_pass_8 (by decide) (fun c_8 => ?_) (fun c_8 => ?_)
    · refine lv_aload_n hx hb dX0_pass_14 rfl (lv_at hl 0 rfl) ?_
      refine lv_dup hx hb dX0_pass_15 rfl ?_
      refine xg_now hx hb hts hown hw dX0_pass_16 ?_
      refine lv_iload_n hx hb dX0_pass_19 rfl (lv_at hl 1 rfl) ?_
      refine lv_iadd hx hb dX0_pass_20 ?_
      refine xp_now hx hb hts hown hg hA hw dX0_pass_21 (fun H locs hw => ?_)
      refine lv_iconst (v := 0) hx hb dX0_pass_24 (by decide) ?_
      refine lv_istore_n (lv' := [(2, .int _), (0, .ref _), (1, .int _)]) hx hb dX0_pass_25 rfl hl (by decide) rfl (fun ls hl => ?_)
      refine lv_iconst (v := 0) hx hb dX0_pass_26 (by decide) ?_
      refine lv_istore_n (lv' := [(3, .int _), (2, .int _), (0, .ref _), (1, .int _)]) hx hb dX0_pass_27 rfl hl (by decide) rfl (fun ls hl => ?_)
      exact K28 3 0 _ _ _ (by omega) c_1 c_8 hw (lv_sub hl [0, 1, 2] rfl)
    · refine lv_bipush (v := -6) hx hb dX0_pass_11 (by decide) ?_
      exact rf_iret hx hb hr hlk hw ⟨by rw [xr_pass, if_neg c_1, if_neg c_8] <;> rfl, by rw [xx_pass, if_neg c_1, if_neg c_8] <;> rfl⟩ dX0_pass_13
end
section
set_option maxHeartbeats 4000000 in
set_option maxRecDepth 100000 in
/-- forget -/
theorem xm_forget (l : Launch) (D : va_G) {g : Nat → Nat} (ca : Nat → ClassId) (hg : rf_g xS g) (σ : rf_Mem) (r : Int32)  : rf_Mi l yX0_forget cX0_forget 3 .int (rf_rm 1 20) D vwCl xS g ca σ [.int r] (xr_forget r) (xx_forget σ r) := by
  refine rf_enter (by decide) (Nat.le_of_ble_eq_true rfl) ?_
  intro p e s m below meth c ls hx hb hr hlk hml hown hts hnm hB hl
  have hw : rf_w D vwCl xS g ca σ (rf_A xS g) s s.heap [] := ⟨hB.1, hB.2, va_S.rf⟩
  have hA : ∀ q, rf_A xS g q → rf_A xS g q := fun _ h => h
  have hl : lv_has ls 3 [(0, .ref (g 0)), (1, .int r)] := hl
  refine lv_iload_n hx hb dX0_forget_0 rfl (lv_at hl 1 rfl) ?_
  refine xk_badRun ⟨hx, hb, hml, hown, hts⟩ hw ⟨Nat.le_of_ble_eq_true rfl, Nat.le_of_ble_eq_true rfl⟩ hl.1 (Nat.le_of_ble_eq_true rfl) dX0_forget_1 ⟨Nat.le_refl _, Nat.le_refl _⟩ (fun H locs hw => ?_)
  refine lv_if_eq (tgt := 10) hx hb dX0_forget_4 (by decide) (fun c_4 => ?_) (fun c_4 => ?_)
  · obtain ⟨k, hk, rfl⟩ := rf_run c_4
    refine lv_aload_n hx hb dX0_forget_10 rfl (lv_at hl 0 rfl) ?_
    refine xg_known hx hb hts hown hw dX0_forget_11 ?_
    refine lv_iload_n hx hb dX0_forget_14 rfl (lv_at hl 1 rfl) ?_
    refine lv_iconst (v := 0) hx hb dX0_forget_15 (by decide) ?_
    refine rf_zastn (j := 13) (jx := k) hx hb hg hA hw (by decide) (by decide) rfl rfl rfl hk (xln_lt 13) dX0_forget_16 (fun H locs hw => ?_)
    refine lv_iconst (v := 0) hx hb dX0_forget_17 (by decide) ?_
    refine lv_istore_n (lv' := [(2, .int _), (0, .ref _), (1, .int _)]) hx hb dX0_forget_18 rfl hl (by decide) rfl (fun ls hl => ?_)
    refine lv_iload_n hx hb dX0_forget_19 rfl (lv_at hl 0 rfl) ?_
    refine lv_iconst (v := 4) hx hb dX0_forget_20 (by decide) ?_
    refine lv_icmp_ge (tgt := 41) hx hb dX0_forget_21 (by decide) (fun c_ => absurd c_ (by decide)) (fun _ => ?_)
    refine lv_aload_n hx hb dX0_forget_24 rfl (lv_at hl 1 rfl) ?_
    refine xg_registers hx hb hts hown hw dX0_forget_25 ?_
    refine lv_iload_n hx hb dX0_forget_28 rfl (lv_at hl 2 rfl) ?_
    refine lv_iconst (v := 4) hx hb dX0_forget_29 (by decide) ?_
    refine lv_imul hx hb dX0_forget_30 ?_
    refine lv_iload_n hx hb dX0_forget_31 rfl (lv_at hl 0 rfl) ?_
    refine lv_iadd hx hb dX0_forget_32 ?_
    refine lv_iconst (v := 0) hx hb dX0_forget_33 (by decide) ?_
    refine rf_iastn (j := 14) (jx := (k * 4 + 0)) hx hb hg hA hw (by decide) (by decide) rfl (rf_ix4n k 0) (show k * 4 + 0 < 12 by omega) (xln_lt 14) dX0_forget_34 (fun H locs hw => ?_)
    refine lv_iinc (v := 1) (lv' := [(2, .int _), (0, .ref _), (1, .int _)]) hx hb dX0_forget_35 hl (k := 0) rfl rfl (by decide) rfl (fun ls hl => ?_)
    refine lv_goto (tgt := 19) hx hb dX0_forget_38 (by decide) ?_
    refine lv_iload_n hx hb dX0_forget_19 rfl (lv_at hl 0 rfl) ?_
    refine lv_iconst (v := 4) hx hb dX0_forget_20 (by decide) ?_
    refine lv_icmp_ge (tgt := 41) hx hb dX0_forget_21 (by decide) (fun c_ => absurd c_ (by decide)) (fun _ => ?_)
    refine lv_aload_n hx hb dX0_forget_24 rfl (lv_at hl 1 rfl) ?_
    refine xg_registers hx hb hts hown hw dX0_forget_25 ?_
    refine lv_iload_n hx hb dX0_forget_28 rfl (lv_at hl 2 rfl) ?_
    refine lv_iconst (v := 4) hx hb dX0_forget_29 (by decide) ?_
    refine lv_imul hx hb dX0_forget_30 ?_
    refine lv_iload_n hx hb dX0_forget_31 rfl (lv_at hl 0 rfl) ?_
    refine lv_iadd hx hb dX0_forget_32 ?_
    refine lv_iconst (v := 0) hx hb dX0_forget_33 (by decide) ?_
    refine rf_iastn (j := 14) (jx := (k * 4 + 1)) hx hb hg hA hw (by decide) (by decide) rfl (rf_ix4n k 1) (show k * 4 + 1 < 12 by omega) (xln_lt 14) dX0_forget_34 (fun H locs hw => ?_)
    refine lv_iinc (v := 2) (lv' := [(2, .int _), (0, .ref _), (1, .int _)]) hx hb dX0_forget_35 hl (k := 0) rfl rfl (by decide) rfl (fun ls hl => ?_)
    refine lv_goto (tgt := 19) hx hb dX0_forget_38 (by decide) ?_
    refine lv_iload_n hx hb dX0_forget_19 rfl (lv_at hl 0 rfl) ?_
    refine lv_iconst (v := 4) hx hb dX0_forget_20 (by decide) ?_
    refine lv_icmp_ge (tgt := 41) hx hb dX0_forget_21 (by decide) (fun c_ => absurd c_ (by decide)) (fun _ => ?_)
    refine lv_aload_n hx hb dX0_forget_24 rfl (lv_at hl 1 rfl) ?_
    refine xg_registers hx hb hts hown hw dX0_forget_25 ?_
    refine lv_iload_n hx hb dX0_forget_28 rfl (lv_at hl 2 rfl) ?_
    refine lv_iconst (v := 4) hx hb dX0_forget_29 (by decide) ?_
    refine lv_imul hx hb dX0_forget_30 ?_
    refine lv_iload_n hx hb dX0_forget_31 rfl (lv_at hl 0 rfl) ?_
    refine lv_iadd hx hb dX0_forget_32 ?_
    refine lv_iconst (v := 0) hx hb dX0_forget_33 (by decide) ?_
    refine rf_iastn (j := 14) (jx := (k * 4 + 2)) hx hb hg hA hw (by decide) (by decide) rfl (rf_ix4n k 2) (show k * 4 + 2 < 12 by omega) (xln_lt 14) dX0_forget_34 (fun H locs hw => ?_)
    refine lv_iinc (v := 3) (lv' := [(2, .int _), (0, .ref _), (1, .int _)]) hx hb dX0_forget_35 hl (k := 0) rfl rfl (by decide) rfl (fun ls hl => ?_)
    refine lv_goto (tgt := 19) hx hb dX0_forget_38 (by decide) ?_
    refine lv_iload_n hx hb dX0_forget_19 rfl (lv_at hl 0 rfl) ?_
    refine lv_iconst (v := 4) hx hb dX0_forget_20 (by decide) ?_
    refine lv_icmp_ge (tgt := 41) hx hb dX0_forget_21 (by decide) (fun c_ => absurd c_ (by decide)) (fun _ => ?_)
    refine lv_aload_n hx hb dX0_forget_24 rfl (lv_at hl 1 rfl) ?_
    refine xg_registers hx hb hts hown hw dX0_forget_25 ?_
    refine lv_iload_n hx hb dX0_forget_28 rfl (lv_at hl 2 rfl) ?_
    refine lv_iconst (v := 4) hx hb dX0_forget_29 (by decide) ?_
    refine lv_imul hx hb dX0_forget_30 ?_
    refine lv_iload_n hx hb dX0_forget_31 rfl (lv_at hl 0 rfl) ?_
    refine lv_iadd hx hb dX0_forget_32 ?_
    refine lv_iconst (v := 0) hx hb dX0_forget_33 (by decide) ?_
    refine rf_iastn (j := 14) (jx := (k * 4 + 3)) hx hb hg hA hw (by decide) (by decide) rfl (rf_ix4n k 3) (show k * 4 + 3 < 12 by omega) (xln_lt 14) dX0_forget_34 (fun H locs hw => ?_)
    refine lv_iinc (v := 4) (lv' := [(2, .int _), (0, .ref _), (1, .int _)]) hx hb dX0_forget_35 hl (k := 0) rfl rfl (by decide) rfl (fun ls hl => ?_)
    refine lv_goto (tgt := 19) hx hb dX0_forget_38 (by decide) ?_
    refine lv_iload_n hx hb dX0_forget_19 rfl (lv_at hl 0 rfl) ?_
    refine lv_iconst (v := 4) hx hb dX0_forget_20 (by decide) ?_
    refine lv_icmp_ge (tgt := 41) hx hb dX0_forget_21 (by decide) (fun _ => ?_) (fun c_ => absurd c_ (by decide))
    refine lv_aload_n hx hb dX0_forget_41 rfl (lv_at hl 1 rfl) ?_
    refine xg_place hx hb hts hown hw dX0_forget_42 ?_
    refine lv_iload_n hx hb dX0_forget_45 rfl (lv_at hl 2 rfl) ?_
    refine lv_iconst (v := 0) hx hb dX0_forget_46 (by decide) ?_
    refine rf_iastn (j := 15) (jx := k) hx hb hg hA hw (by decide) (by decide) rfl rfl hk (xln_lt 15) dX0_forget_47 (fun H locs hw => ?_)
    refine lv_aload_n hx hb dX0_forget_48 rfl (lv_at hl 1 rfl) ?_
    refine xg_states hx hb hts hown hw dX0_forget_49 ?_
    refine lv_iload_n hx hb dX0_forget_52 rfl (lv_at hl 2 rfl) ?_
    refine lv_iconst (v := 0) hx hb dX0_forget_53 (by decide) ?_
    refine rf_iastn (j := 16) (jx := k) hx hb hg hA hw (by decide) (by decide) rfl rfl hk (xln_lt 16) dX0_forget_54 (fun H locs hw => ?_)
    refine lv_aload_n hx hb dX0_forget_55 rfl (lv_at hl 1 rfl) ?_
    refine xg_results hx hb hts hown hw dX0_forget_56 ?_
    refine lv_iload_n hx hb dX0_forget_59 rfl (lv_at hl 2 rfl) ?_
    refine lv_iconst (v := 0) hx hb dX0_forget_60 (by decide) ?_
    refine rf_iastn (j := 17) (jx := k) hx hb hg hA hw (by decide) (by decide) rfl rfl hk (xln_lt 17) dX0_forget_61 (fun H locs hw => ?_)
    refine lv_iconst (v := 0) hx hb dX0_forget_62 (by decide) ?_
    exact rf_iret hx hb hr hlk hw ⟨by simp only [xx_forget, xr_forget, c_4, rf_ixk hk, ↓reduceIte] <;> rfl, by simp only [xx_forget, xr_forget, c_4, rf_ixk hk, ↓reduceIte] <;> rfl⟩ dX0_forget_63
  · refine lv_bipush (v := -3) hx hb dX0_forget_7 (by decide) ?_
    exact rf_iret hx hb hr hlk hw ⟨by simp only [xx_forget, xr_forget, c_4, ↓reduceIte] <;> rfl, by simp only [xx_forget, xr_forget, c_4, ↓reduceIte] <;> rfl⟩ dX0_forget_9

set_option maxHeartbeats 4000000 in
set_option maxRecDepth 100000 in
/-- clear -/
theorem xm_clear (l : Launch) (D : va_G) {g : Nat → Nat} (ca : Nat → ClassId) (hg : rf_g xS g) (σ : rf_Mem)   : rf_Mv l yX0_clear cX0_clear 2 (rf_rm 0 0) D vwCl xS g ca σ [] (xx_clear σ) := by
  refine rf_enter (by decide) (Nat.le_of_ble_eq_true rfl) ?_
  intro p e s m below meth c ls hx hb hr hlk hml hown hts hnm hB hl
  have hw : rf_w D vwCl xS g ca σ (rf_A xS g) s s.heap [] := ⟨hB.1, hB.2, va_S.rf⟩
  have hA : ∀ q, rf_A xS g q → rf_A xS g q := fun _ h => h
  have hl : lv_has ls 2 [(0, .ref (g 0))] := hl
  refine lv_aload_n hx hb dX0_clear_0 rfl (lv_at hl 0 rfl) ?_
  refine lv_iconst (v := 0) hx hb dX0_clear_1 (by decide) ?_
  refine xp_length hx hb hts hown hg hA hw dX0_clear_2 (fun H locs hw => ?_)
  refine lv_aload_n hx hb dX0_clear_5 rfl (lv_at hl 0 rfl) ?_
  refine lv_iconst (v := 0) hx hb dX0_clear_6 (by decide) ?_
  refine xp_locked hx hb hts hown hg hA hw rfl rfl dX0_clear_7 (fun H locs hw => ?_)
  refine lv_aload_n hx hb dX0_clear_10 rfl (lv_at hl 0 rfl) ?_
  refine lv_iconst (v := 0) hx hb dX0_clear_11 (by decide) ?_
  refine xp_now hx hb hts hown hg hA hw dX0_clear_12 (fun H locs hw => ?_)
  refine lv_iconst (v := 0) hx hb dX0_clear_15 (by decide) ?_
  refine lv_istore_n (lv' := [(1, .int _), (0, .ref _)]) hx hb dX0_clear_16 rfl hl (by decide) rfl (fun ls hl => ?_)
  refine lv_iload_n hx hb dX0_clear_17 rfl (lv_at hl 0 rfl) ?_
  refine lv_iconst (v := 3) hx hb dX0_clear_18 (by decide) ?_
  refine lv_icmp_ge (tgt := 56) hx hb dX0_clear_19 (by decide) (fun c_ => absurd c_ (by decide)) (fun _ => ?_)
  refine lv_aload_n hx hb dX0_clear_22 rfl (lv_at hl 1 rfl) ?_
  refine xg_started hx hb hts hown hw dX0_clear_23 ?_
  refine lv_iload_n hx hb dX0_clear_26 rfl (lv_at hl 0 rfl) ?_
  refine lv_iconst (v := 0) hx hb dX0_clear_27 (by decide) ?_
  refine rf_zastn (j := 4) (jx := 0) hx hb hg hA hw (by decide) (by decide) rfl rfl rfl (show 0 < 3 by decide) (xln_lt 4) dX0_clear_28 (fun H locs hw => ?_)
  refine lv_aload_n hx hb dX0_clear_29 rfl (lv_at hl 1 rfl) ?_
  refine xg_known hx hb hts hown hw dX0_clear_30 ?_
  refine lv_iload_n hx hb dX0_clear_33 rfl (lv_at hl 0 rfl) ?_
  refine lv_iconst (v := 0) hx hb dX0_clear_34 (by decide) ?_
  refine rf_zastn (j := 13) (jx := 0) hx hb hg hA hw (by decide) (by decide) rfl rfl rfl (show 0 < 3 by decide) (xln_lt 13) dX0_clear_35 (fun H locs hw => ?_)
  refine lv_aload_n hx hb dX0_clear_36 rfl (lv_at hl 1 rfl) ?_
  refine xg_events hx hb hts hown hw dX0_clear_37 ?_
  refine lv_iload_n hx hb dX0_clear_40 rfl (lv_at hl 0 rfl) ?_
  refine lv_iconst (v := 0) hx hb dX0_clear_41 (by decide) ?_
  refine rf_iastn (j := 6) (jx := 0) hx hb hg hA hw (by decide) (by decide) rfl rfl (show 0 < 3 by decide) (xln_lt 6) dX0_clear_42 (fun H locs hw => ?_)
  refine lv_aload_n hx hb dX0_clear_43 rfl (lv_at hl 1 rfl) ?_
  refine xg_signals hx hb hts hown hw dX0_clear_44 ?_
  refine lv_iload_n hx hb dX0_clear_47 rfl (lv_at hl 0 rfl) ?_
  refine lv_iconst (v := 0) hx hb dX0_clear_48 (by decide) ?_
  refine rf_iastn (j := 8) (jx := 0) hx hb hg hA hw (by decide) (by decide) rfl rfl (show 0 < 3 by decide) (xln_lt 8) dX0_clear_49 (fun H locs hw => ?_)
  refine lv_iinc (v := 1) (lv' := [(1, .int _), (0, .ref _)]) hx hb dX0_clear_50 hl (k := 0) rfl rfl (by decide) rfl (fun ls hl => ?_)
  refine lv_goto (tgt := 17) hx hb dX0_clear_53 (by decide) ?_
  refine lv_iload_n hx hb dX0_clear_17 rfl (lv_at hl 0 rfl) ?_
  refine lv_iconst (v := 3) hx hb dX0_clear_18 (by decide) ?_
  refine lv_icmp_ge (tgt := 56) hx hb dX0_clear_19 (by decide) (fun c_ => absurd c_ (by decide)) (fun _ => ?_)
  refine lv_aload_n hx hb dX0_clear_22 rfl (lv_at hl 1 rfl) ?_
  refine xg_started hx hb hts hown hw dX0_clear_23 ?_
  refine lv_iload_n hx hb dX0_clear_26 rfl (lv_at hl 0 rfl) ?_
  refine lv_iconst (v := 0) hx hb dX0_clear_27 (by decide) ?_
  refine rf_zastn (j := 4) (jx := 1) hx hb hg hA hw (by decide) (by decide) rfl rfl rfl (show 1 < 3 by decide) (xln_lt 4) dX0_clear_28 (fun H locs hw => ?_)
  refine lv_aload_n hx hb dX0_clear_29 rfl (lv_at hl 1 rfl) ?_
  refine xg_known hx hb hts hown hw dX0_clear_30 ?_
  refine lv_iload_n hx hb dX0_clear_33 rfl (lv_at hl 0 rfl) ?_
  refine lv_iconst (v := 0) hx hb dX0_clear_34 (by decide) ?_
  refine rf_zastn (j := 13) (jx := 1) hx hb hg hA hw (by decide) (by decide) rfl rfl rfl (show 1 < 3 by decide) (xln_lt 13) dX0_clear_35 (fun H locs hw => ?_)
  refine lv_aload_n hx hb dX0_clear_36 rfl (lv_at hl 1 rfl) ?_
  refine xg_events hx hb hts hown hw dX0_clear_37 ?_
  refine lv_iload_n hx hb dX0_clear_40 rfl (lv_at hl 0 rfl) ?_
  refine lv_iconst (v := 0) hx hb dX0_clear_41 (by decide) ?_
  refine rf_iastn (j := 6) (jx := 1) hx hb hg hA hw (by decide) (by decide) rfl rfl (show 1 < 3 by decide) (xln_lt 6) dX0_clear_42 (fun H locs hw => ?_)
  refine lv_aload_n hx hb dX0_clear_43 rfl (lv_at hl 1 rfl) ?_
  refine xg_signals hx hb hts hown hw dX0_clear_44 ?_
  refine lv_iload_n hx hb dX0_clear_47 rfl (lv_at hl 0 rfl) ?_
  refine lv_iconst (v := 0) hx hb dX0_clear_48 (by decide) ?_
  refine rf_iastn (j := 8) (jx := 1) hx hb hg hA hw (by decide) (by decide) rfl rfl (show 1 < 3 by decide) (xln_lt 8) dX0_clear_49 (fun H locs hw => ?_)
  refine lv_iinc (v := 2) (lv' := [(1, .int _), (0, .ref _)]) hx hb dX0_clear_50 hl (k := 0) rfl rfl (by decide) rfl (fun ls hl => ?_)
  refine lv_goto (tgt := 17) hx hb dX0_clear_53 (by decide) ?_
  refine lv_iload_n hx hb dX0_clear_17 rfl (lv_at hl 0 rfl) ?_
  refine lv_iconst (v := 3) hx hb dX0_clear_18 (by decide) ?_
  refine lv_icmp_ge (tgt := 56) hx hb dX0_clear_19 (by decide) (fun c_ => absurd c_ (by decide)) (fun _ => ?_)
  refine lv_aload_n hx hb dX0_clear_22 rfl (lv_at hl 1 rfl) ?_
  refine xg_started hx hb hts hown hw dX0_clear_23 ?_
  refine lv_iload_n hx hb dX0_clear_26 rfl (lv_at hl 0 rfl) ?_
  refine lv_iconst (v := 0) hx hb dX0_clear_27 (by decide) ?_
  refine rf_zastn (j := 4) (jx := 2) hx hb hg hA hw (by decide) (by decide) rfl rfl rfl (show 2 < 3 by decide) (xln_lt 4) dX0_clear_28 (fun H locs hw => ?_)
  refine lv_aload_n hx hb dX0_clear_29 rfl (lv_at hl 1 rfl) ?_
  refine xg_known hx hb hts hown hw dX0_clear_30 ?_
  refine lv_iload_n hx hb dX0_clear_33 rfl (lv_at hl 0 rfl) ?_
  refine lv_iconst (v := 0) hx hb dX0_clear_34 (by decide) ?_
  refine rf_zastn (j := 13) (jx := 2) hx hb hg hA hw (by decide) (by decide) rfl rfl rfl (show 2 < 3 by decide) (xln_lt 13) dX0_clear_35 (fun H locs hw => ?_)
  refine lv_aload_n hx hb dX0_clear_36 rfl (lv_at hl 1 rfl) ?_
  refine xg_events hx hb hts hown hw dX0_clear_37 ?_
  refine lv_iload_n hx hb dX0_clear_40 rfl (lv_at hl 0 rfl) ?_
  refine lv_iconst (v := 0) hx hb dX0_clear_41 (by decide) ?_
  refine rf_iastn (j := 6) (jx := 2) hx hb hg hA hw (by decide) (by decide) rfl rfl (show 2 < 3 by decide) (xln_lt 6) dX0_clear_42 (fun H locs hw => ?_)
  refine lv_aload_n hx hb dX0_clear_43 rfl (lv_at hl 1 rfl) ?_
  refine xg_signals hx hb hts hown hw dX0_clear_44 ?_
  refine lv_iload_n hx hb dX0_clear_47 rfl (lv_at hl 0 rfl) ?_
  refine lv_iconst (v := 0) hx hb dX0_clear_48 (by decide) ?_
  refine rf_iastn (j := 8) (jx := 2) hx hb hg hA hw (by decide) (by decide) rfl rfl (show 2 < 3 by decide) (xln_lt 8) dX0_clear_49 (fun H locs hw => ?_)
  refine lv_iinc (v := 3) (lv' := [(1, .int _), (0, .ref _)]) hx hb dX0_clear_50 hl (k := 0) rfl rfl (by decide) rfl (fun ls hl => ?_)
  refine lv_goto (tgt := 17) hx hb dX0_clear_53 (by decide) ?_
  refine lv_iload_n hx hb dX0_clear_17 rfl (lv_at hl 0 rfl) ?_
  refine lv_iconst (v := 3) hx hb dX0_clear_18 (by decide) ?_
  refine lv_icmp_ge (tgt := 56) hx hb dX0_clear_19 (by decide) (fun _ => ?_) (fun c_ => absurd c_ (by decide))
  exact rf_vret hx hb hr hlk hw rfl dX0_clear_56

set_option maxHeartbeats 4000000 in
set_option maxRecDepth 100000 in
/-- state -/
theorem xm_state (l : Launch) (D : va_G) {g : Nat → Nat} (ca : Nat → ClassId) (hg : rf_g xS g) (σ : rf_Mem) (r : Int32) (hO : ∀ k, k < 3 → xx_ok σ k) : rf_Mi l yX0_state cX0_state 2 .int (rf_rm 8 176) D vwCl xS g ca σ [.int r] (xr_state σ r) (xx_state σ r) := by
  refine rf_enter (by decide) (Nat.le_of_ble_eq_true rfl) ?_
  intro p e s m below meth c ls hx hb hr hlk hml hown hts hnm hB hl
  have hw : rf_w D vwCl xS g ca σ (rf_A xS g) s s.heap [] := ⟨hB.1, hB.2, va_S.rf⟩
  have hA : ∀ q, rf_A xS g q → rf_A xS g q := fun _ h => h
  have hl : lv_has ls 2 [(0, .ref (g 0)), (1, .int r)] := hl
  refine lv_iload_n hx hb dX0_state_0 rfl (lv_at hl 1 rfl) ?_
  refine xk_badRun ⟨hx, hb, hml, hown, hts⟩ hw ⟨Nat.le_of_ble_eq_true rfl, Nat.le_of_ble_eq_true rfl⟩ hl.1 (Nat.le_of_ble_eq_true rfl) dX0_state_1 ⟨Nat.le_refl _, Nat.le_refl _⟩ (fun H locs hw => ?_)
  refine lv_if_eq (tgt := 12) hx hb dX0_state_4 (by decide) (fun c_4 => ?_) (fun c_4 => ?_)
  · obtain ⟨k, hk, rfl⟩ := rf_run c_4
    refine lv_aload_n hx hb dX0_state_12 rfl (lv_at hl 0 rfl) ?_
    refine lv_iload_n hx hb dX0_state_13 rfl (lv_at hl 1 rfl) ?_
    refine xk_stateOf ⟨hx, hb, hml, hown, hts⟩ hg hA hw hk (ok_okb (hO k hk)) ⟨Nat.le_of_ble_eq_true rfl, Nat.le_of_ble_eq_true rfl⟩ hl.1 (Nat.le_of_ble_eq_true rfl) dX0_state_14 ⟨Nat.le_refl _, Nat.le_refl _⟩ (fun H locs hw => ?_)
    exact rf_iret hx hb hr hlk hw ⟨by simp only [xx_state, xr_state, c_4, rf_ixk hk, ↓reduceIte] <;> rfl, by simp only [xx_state, xr_state, c_4, rf_ixk hk, ↓reduceIte] <;> rfl⟩ dX0_state_17
  · refine lv_bipush (v := -3) hx hb dX0_state_7 (by decide) ?_
    refine lv_goto (tgt := 17) hx hb dX0_state_9 (by decide) ?_
    exact rf_iret hx hb hr hlk hw ⟨by simp only [xx_state, xr_state, c_4, ↓reduceIte] <;> rfl, by simp only [xx_state, xr_state, c_4, ↓reduceIte] <;> rfl⟩ dX0_state_17

set_option maxHeartbeats 4000000 in
set_option maxRecDepth 100000 in
/-- register -/
theorem xm_register (l : Launch) (D : va_G) {g : Nat → Nat} (ca : Nat → ClassId) (hg : rf_g xS g) (σ : rf_Mem) (r a : Int32) (hO : ∀ k, k < 3 → xx_ok σ k) : rf_Mi l yX0_register cX0_register 3 .int (rf_rm 7 155) D vwCl xS g ca σ [.int r, .int a] (xr_register σ r a) (xx_register σ r) := by
  refine rf_enter (by decide) (Nat.le_of_ble_eq_true rfl) ?_
  intro p e s m below meth c ls hx hb hr hlk hml hown hts hnm hB hl
  have hw : rf_w D vwCl xS g ca σ (rf_A xS g) s s.heap [] := ⟨hB.1, hB.2, va_S.rf⟩
  have hA : ∀ q, rf_A xS g q → rf_A xS g q := fun _ h => h
  have hl : lv_has ls 3 [(0, .ref (g 0)), (1, .int r), (2, .int a)] := hl
  refine lv_iload_n hx hb dX0_register_0 rfl (lv_at hl 1 rfl) ?_
  refine xk_badRun ⟨hx, hb, hml, hown, hts⟩ hw ⟨Nat.le_of_ble_eq_true rfl, Nat.le_of_ble_eq_true rfl⟩ hl.1 (Nat.le_of_ble_eq_true rfl) dX0_register_1 ⟨Nat.le_refl _, Nat.le_refl _⟩ (fun H locs hw => ?_)
  refine lv_if_ne (tgt := 16) hx hb dX0_register_4 (by decide) (fun c_4 => ?_) (fun c_4 => ?_)
  · refine lv_iconst (v := 0) hx hb dX0_register_16 (by decide) ?_
    exact rf_iret hx hb hr hlk hw ⟨by simp only [xx_register, xr_register, c_4, ↓reduceIte] <;> rfl, by simp only [xx_register, xr_register, c_4, ↓reduceIte] <;> rfl⟩ dX0_register_17
  · obtain ⟨k, hk, rfl⟩ := rf_run c_4
    refine lv_aload_n hx hb dX0_register_7 rfl (lv_at hl 0 rfl) ?_
    refine xg_started hx hb hts hown hw dX0_register_8 ?_
    refine lv_iload_n hx hb dX0_register_11 rfl (lv_at hl 1 rfl) ?_
    refine rf_zaldn (j := 4) (jx := k) hx hb hw (by decide) (by decide) rfl rfl hk (xln_lt 4) dX0_register_12 ?_
    refine lv_if_ne (tgt := 18) hx hb dX0_register_13 (by decide) (fun c_13 => ?_) (fun c_13 => ?_)
    · refine lv_aload_n hx hb dX0_register_18 rfl (lv_at hl 0 rfl) ?_
      refine lv_iload_n hx hb dX0_register_19 rfl (lv_at hl 1 rfl) ?_
      refine xk_remember ⟨hx, hb, hml, hown, hts⟩ hg hA hw hk (ok_okb (hO k hk)) ⟨Nat.le_of_ble_eq_true rfl, Nat.le_of_ble_eq_true rfl⟩ hl.1 (Nat.le_of_ble_eq_true rfl) dX0_register_20 ⟨Nat.le_refl _, Nat.le_refl _⟩ (fun H locs hw => ?_)
      refine lv_aload_n hx hb dX0_register_23 rfl (lv_at hl 0 rfl) ?_
      refine xg_registers hx hb hts hown hw dX0_register_24 ?_
      refine lv_iload_n hx hb dX0_register_27 rfl (lv_at hl 1 rfl) ?_
      refine lv_iconst (v := 4) hx hb dX0_register_28 (by decide) ?_
      refine lv_imul hx hb dX0_register_29 ?_
      refine lv_iload_n hx hb dX0_register_30 rfl (lv_at hl 2 rfl) ?_
      refine lv_iconst (v := 3) hx hb dX0_register_31 (by decide) ?_
      refine lv_iand hx hb dX0_register_32 ?_
      refine lv_iadd hx hb dX0_register_33 ?_
      refine rf_ialdn (j := 14) (jx := (k * 4 + rf_q (a))) hx hb hw (by decide) (by decide) rfl (rf_ix4 k _) (rf_r4 hk _) (xln_lt 14) dX0_register_34 ?_
      exact rf_iret hx hb hr hlk hw ⟨by simp only [xx_register, xr_register, c_4, c_13, rf_ixk hk, ↓reduceIte] <;> rfl, by simp only [xx_register, xr_register, c_4, c_13, rf_ixk hk, ↓reduceIte] <;> rfl⟩ dX0_register_35
    · refine lv_iconst (v := 0) hx hb dX0_register_16 (by decide) ?_
      exact rf_iret hx hb hr hlk hw ⟨by simp only [xx_register, xr_register, c_4, c_13, rf_ixk hk, ↓reduceIte] <;> rfl, by simp only [xx_register, xr_register, c_4, c_13, rf_ixk hk, ↓reduceIte] <;> rfl⟩ dX0_register_17

set_option maxHeartbeats 4000000 in
set_option maxRecDepth 100000 in
/-- activity -/
theorem xm_activity (l : Launch) (D : va_G) {g : Nat → Nat} (ca : Nat → ClassId) (hg : rf_g xS g) (σ : rf_Mem) (r : Int32) (hO : ∀ k, k < 3 → xx_ok σ k) (hp : ∀ k, k < 3 → xr_stateOf σ k = 1 → vp_in (xx_remember σ k 15 k) 16) : rf_Mi l yX0_activity cX0_activity 3 .int (rf_rm 8 176) D vwCl xS g ca σ [.int r] (xr_activity σ r) (xx_state σ r) := by
  refine rf_enter (by decide) (Nat.le_of_ble_eq_true rfl) ?_
  intro p e s m below meth c ls hx hb hr hlk hml hown hts hnm hB hl
  have hw : rf_w D vwCl xS g ca σ (rf_A xS g) s s.heap [] := ⟨hB.1, hB.2, va_S.rf⟩
  have hA : ∀ q, rf_A xS g q → rf_A xS g q := fun _ h => h
  have hl : lv_has ls 3 [(0, .ref (g 0)), (1, .int r)] := hl
  refine lv_iload_n hx hb dX0_activity_0 rfl (lv_at hl 1 rfl) ?_
  refine xk_badRun ⟨hx, hb, hml, hown, hts⟩ hw ⟨Nat.le_of_ble_eq_true rfl, Nat.le_of_ble_eq_true rfl⟩ hl.1 (Nat.le_of_ble_eq_true rfl) dX0_activity_1 ⟨Nat.le_refl _, Nat.le_refl _⟩ (fun H locs hw => ?_)
  refine lv_if_eq (tgt := 10) hx hb dX0_activity_4 (by decide) (fun c_4 => ?_) (fun c_4 => ?_)
  · obtain ⟨k, hk, rfl⟩ := rf_run c_4
    refine lv_aload_n hx hb dX0_activity_10 rfl (lv_at hl 0 rfl) ?_
    refine lv_iload_n hx hb dX0_activity_11 rfl (lv_at hl 1 rfl) ?_
    refine xk_stateOf ⟨hx, hb, hml, hown, hts⟩ hg hA hw hk (ok_okb (hO k hk)) ⟨Nat.le_of_ble_eq_true rfl, Nat.le_of_ble_eq_true rfl⟩ hl.1 (Nat.le_of_ble_eq_true rfl) dX0_activity_12 ⟨Nat.le_refl _, Nat.le_refl _⟩ (fun H locs hw => ?_)
    refine lv_istore_n (lv' := [(2, .int _), (0, .ref _), (1, .int _)]) hx hb dX0_activity_15 rfl hl (by decide) rfl (fun ls hl => ?_)
    refine lv_iload_n hx hb dX0_activity_16 rfl (lv_at hl 0 rfl) ?_
    refine lv_iconst (v := 1) hx hb dX0_activity_17 (by decide) ?_
    refine lv_icmp_ne (tgt := 35) hx hb dX0_activity_18 (by decide) (fun c_18 => ?_) (fun c_18 => ?_)
    · refine lv_iconst (v := 0) hx hb dX0_activity_35 (by decide) ?_
      exact rf_iret hx hb hr hlk hw ⟨by simp only [xx_state, xr_activity, c_4, c_18, rf_ixk hk, ↓reduceIte] <;> rfl, by simp only [xx_state, xr_activity, c_4, c_18, rf_ixk hk, ↓reduceIte] <;> rfl⟩ dX0_activity_36
    · have hpl := hp k hk c_18
      refine lv_aload_n hx hb dX0_activity_21 rfl (lv_at hl 1 rfl) ?_
      refine xg_second hx hb hts hown hw dX0_activity_22 ?_
      refine lv_aload_n hx hb dX0_activity_25 rfl (lv_at hl 1 rfl) ?_
      refine xg_place hx hb hts hown hw dX0_activity_26 ?_
      refine lv_iload_n hx hb dX0_activity_29 rfl (lv_at hl 2 rfl) ?_
      refine rf_ialdn (j := 15) (jx := k) hx hb hw (by decide) (by decide) rfl rfl hk (xln_lt 15) dX0_activity_30 ?_
      refine rf_iald (j := 3) hx hb hw (by decide) (by decide) rfl hpl dX0_activity_31 ?_
      refine lv_goto (tgt := 36) hx hb dX0_activity_32 (by decide) ?_
      exact rf_iret hx hb hr hlk hw ⟨by simp only [xx_state, xr_activity, c_4, c_18, rf_ixk hk, ↓reduceIte] <;> rfl, by simp only [xx_state, xr_activity, c_4, c_18, rf_ixk hk, ↓reduceIte] <;> rfl⟩ dX0_activity_36
  · refine lv_bipush (v := -3) hx hb dX0_activity_7 (by decide) ?_
    exact rf_iret hx hb hr hlk hw ⟨by simp only [xx_state, xr_activity, c_4, ↓reduceIte] <;> rfl, by simp only [xx_state, xr_activity, c_4, ↓reduceIte] <;> rfl⟩ dX0_activity_9

set_option maxHeartbeats 4000000 in
set_option maxRecDepth 100000 in
/-- result -/
theorem xm_result (l : Launch) (D : va_G) {g : Nat → Nat} (ca : Nat → ClassId) (hg : rf_g xS g) (σ : rf_Mem) (r : Int32) (hO : ∀ k, k < 3 → xx_ok σ k) : rf_Mi l yX0_result cX0_result 3 .int (rf_rm 8 176) D vwCl xS g ca σ [.int r] (xr_result σ r) (xx_state σ r) := by
  refine rf_enter (by decide) (Nat.le_of_ble_eq_true rfl) ?_
  intro p e s m below meth c ls hx hb hr hlk hml hown hts hnm hB hl
  have hw : rf_w D vwCl xS g ca σ (rf_A xS g) s s.heap [] := ⟨hB.1, hB.2, va_S.rf⟩
  have hA : ∀ q, rf_A xS g q → rf_A xS g q := fun _ h => h
  have hl : lv_has ls 3 [(0, .ref (g 0)), (1, .int r)] := hl
  refine lv_iload_n hx hb dX0_result_0 rfl (lv_at hl 1 rfl) ?_
  refine xk_badRun ⟨hx, hb, hml, hown, hts⟩ hw ⟨Nat.le_of_ble_eq_true rfl, Nat.le_of_ble_eq_true rfl⟩ hl.1 (Nat.le_of_ble_eq_true rfl) dX0_result_1 ⟨Nat.le_refl _, Nat.le_refl _⟩ (fun H locs hw => ?_)
  refine lv_if_eq (tgt := 10) hx hb dX0_result_4 (by decide) (fun c_4 => ?_) (fun c_4 => ?_)
  · obtain ⟨k, hk, rfl⟩ := rf_run c_4
    refine lv_aload_n hx hb dX0_result_10 rfl (lv_at hl 0 rfl) ?_
    refine lv_iload_n hx hb dX0_result_11 rfl (lv_at hl 1 rfl) ?_
    refine xk_stateOf ⟨hx, hb, hml, hown, hts⟩ hg hA hw hk (ok_okb (hO k hk)) ⟨Nat.le_of_ble_eq_true rfl, Nat.le_of_ble_eq_true rfl⟩ hl.1 (Nat.le_of_ble_eq_true rfl) dX0_result_12 ⟨Nat.le_refl _, Nat.le_refl _⟩ (fun H locs hw => ?_)
    refine lv_istore_n (lv' := [(2, .int _), (0, .ref _), (1, .int _)]) hx hb dX0_result_15 rfl hl (by decide) rfl (fun ls hl => ?_)
    refine lv_iload_n hx hb dX0_result_16 rfl (lv_at hl 0 rfl) ?_
    refine lv_iconst (v := 4) hx hb dX0_result_17 (by decide) ?_
    refine lv_icmp_ne (tgt := 30) hx hb dX0_result_18 (by decide) (fun c_18 => ?_) (fun c_18 => ?_)
    · refine lv_iconst (v := 0) hx hb dX0_result_30 (by decide) ?_
      exact rf_iret hx hb hr hlk hw ⟨by simp only [xx_state, xr_result, c_4, c_18, rf_ixk hk, ↓reduceIte] <;> rfl, by simp only [xx_state, xr_result, c_4, c_18, rf_ixk hk, ↓reduceIte] <;> rfl⟩ dX0_result_31
    · refine lv_aload_n hx hb dX0_result_21 rfl (lv_at hl 1 rfl) ?_
      refine xg_results hx hb hts hown hw dX0_result_22 ?_
      refine lv_iload_n hx hb dX0_result_25 rfl (lv_at hl 2 rfl) ?_
      refine rf_ialdn (j := 17) (jx := k) hx hb hw (by decide) (by decide) rfl rfl hk (xln_lt 17) dX0_result_26 ?_
      refine lv_goto (tgt := 31) hx hb dX0_result_27 (by decide) ?_
      exact rf_iret hx hb hr hlk hw ⟨by simp only [xx_state, xr_result, c_4, c_18, rf_ixk hk, ↓reduceIte] <;> rfl, by simp only [xx_state, xr_result, c_4, c_18, rf_ixk hk, ↓reduceIte] <;> rfl⟩ dX0_result_31
  · refine lv_bipush (v := -3) hx hb dX0_result_7 (by decide) ?_
    exact rf_iret hx hb hr hlk hw ⟨by simp only [xx_state, xr_result, c_4, ↓reduceIte] <;> rfl, by simp only [xx_state, xr_result, c_4, ↓reduceIte] <;> rfl⟩ dX0_result_9

set_option maxHeartbeats 4000000 in
set_option maxRecDepth 100000 in
/-- untaken -/
theorem xm_untaken (l : Launch) (D : va_G) {g : Nat → Nat} (ca : Nat → ClassId) (hg : rf_g xS g) (σ : rf_Mem) (r : Int32) (hO : ∀ k, k < 3 → xx_ok σ k) : rf_Mi l yX0_untaken cX0_untaken 4 .int (rf_rm 1 20) D vwCl xS g ca σ [.int r] (xr_untaken σ r) (σ) := by
  refine rf_enter (by decide) (Nat.le_of_ble_eq_true rfl) ?_
  intro p e s m below meth c ls hx hb hr hlk hml hown hts hnm hB hl
  have hw : rf_w D vwCl xS g ca σ (rf_A xS g) s s.heap [] := ⟨hB.1, hB.2, va_S.rf⟩
  have hA : ∀ q, rf_A xS g q → rf_A xS g q := fun _ h => h
  have hl : lv_has ls 4 [(0, .ref (g 0)), (1, .int r)] := hl
  refine lv_iload_n hx hb dX0_untaken_0 rfl (lv_at hl 1 rfl) ?_
  refine xk_badRun ⟨hx, hb, hml, hown, hts⟩ hw ⟨Nat.le_of_ble_eq_true rfl, Nat.le_of_ble_eq_true rfl⟩ hl.1 (Nat.le_of_ble_eq_true rfl) dX0_untaken_1 ⟨Nat.le_refl _, Nat.le_refl _⟩ (fun H locs hw => ?_)
  refine lv_if_eq (tgt := 10) hx hb dX0_untaken_4 (by decide) (fun c_4 => ?_) (fun c_4 => ?_)
  · obtain ⟨k, hk, rfl⟩ := rf_run c_4
    obtain ⟨n0, hn0, en0⟩ := (hO k hk).2.2.1
    have hn1 : rf_ix (σ 8 k) = n0 := by show (σ 8 k).toNatClampNeg = n0; rw [en0, nI_clamp (by omega)]
    have hres : xr_untaken σ (nI k) = nI (rf_count (σ 11) (k * 24) n0 0) := by rw [xr_untaken, if_pos c_4, rf_ixk hk, hn1]
    have K17 : ∀ (n t q : Nat) (H : Heap) (locs : List Loc) (ls : Array Slot), t + n = n0 → rf_count (σ 11) (k * 24) n0 0 = q + rf_count (σ 11) (k * 24) n t → rf_w D vwCl xS g ca σ (rf_A xS g) s H locs → lv_has ls 4 [(3, .int (nI (k * 24 + t))), (2, .int (nI q)), (0, .ref (g 0)), (1, .int (nI k))] → W p l e (rf_rm 1 20) s m ([.ref (g 0), .int (nI k)] : List Value).toArray below meth c H locs 0 0 (MQ below (va_Qi (fun r σ' => r = xr_untaken σ (nI k) ∧ σ' = σ) (rf_J D vwCl xS g ca) (rf_A xS g)) ([.ref (g 0), .int (nI k)] : List Value).toArray s 0 0 (rf_A xS g)) (F0 m 17 ls []) := by
      intro n
      induction n with
      | zero =>
        intro t q H locs ls ht hf hw hl
        refine lv_iload_n hx hb dX0_untaken_17 rfl (lv_at hl 0 rfl) ?_
        refine lv_iload_n hx hb dX0_untaken_18 rfl (lv_at hl 3 rfl) ?_
        refine lv_bipush (v := 24) hx hb dX0_untaken_19 (by decide) ?_
        refine lv_imul hx hb dX0_untaken_21 ?_
        refine lv_aload_n hx hb dX0_untaken_22 rfl (lv_at hl 2 rfl) ?_
        refine xg_signals hx hb hts hown hw dX0_untaken_23 ?_
        refine lv_iload_n hx hb dX0_untaken_26 rfl (lv_at hl 3 rfl) ?_
        refine rf_ialdn (j := 8) (jx := k) hx hb hw (by decide) (by decide) rfl rfl hk (xln_lt 8) dX0_untaken_27 ?_
        refine lv_iadd hx hb dX0_untaken_28 ?_
        refine lv_icmp_ge (tgt := 50) hx hb dX0_untaken_29 (by decide) (fun c_29 => ?_) (fun c_29 => ?_)
        · refine lv_iload_n hx hb dX0_untaken_50 rfl (lv_at hl 1 rfl) ?_
          exact rf_iret hx hb hr hlk hw ⟨by rw [hres, hf]; rfl, rfl⟩ dX0_untaken_51
        · exact absurd (by rw [en0, rf_ix24n, nI_add]; exact nI_le (by omega) (by omega)) c_29
      | succ n ih =>
        intro t q H locs ls ht hf hw hl
        refine lv_iload_n hx hb dX0_untaken_17 rfl (lv_at hl 0 rfl) ?_
        refine lv_iload_n hx hb dX0_untaken_18 rfl (lv_at hl 3 rfl) ?_
        refine lv_bipush (v := 24) hx hb dX0_untaken_19 (by decide) ?_
        refine lv_imul hx hb dX0_untaken_21 ?_
        refine lv_aload_n hx hb dX0_untaken_22 rfl (lv_at hl 2 rfl) ?_
        refine xg_signals hx hb hts hown hw dX0_untaken_23 ?_
        refine lv_iload_n hx hb dX0_untaken_26 rfl (lv_at hl 3 rfl) ?_
        refine rf_ialdn (j := 8) (jx := k) hx hb hw (by decide) (by decide) rfl rfl hk (xln_lt 8) dX0_untaken_27 ?_
        refine lv_iadd hx hb dX0_untaken_28 ?_
        refine lv_icmp_ge (tgt := 50) hx hb dX0_untaken_29 (by decide) (fun c_29 => ?_) (fun c_29 => ?_)
        · exact absurd c_29 (by rw [en0, rf_ix24n, nI_add]; exact nI_ge (by omega) (by omega))
        · refine lv_aload_n hx hb dX0_untaken_32 rfl (lv_at hl 2 rfl) ?_
          refine xg_taken hx hb hts hown hw dX0_untaken_33 ?_
          refine lv_iload_n hx hb dX0_untaken_36 rfl (lv_at hl 0 rfl) ?_
          refine rf_zaldn (j := 11) (jx := (k * 24 + t)) hx hb hw (by decide) (by decide) rfl rfl (show k * 24 + t < 72 by omega) (xln_lt 11) dX0_untaken_37 ?_
          refine lv_if_ne (tgt := 44) hx hb dX0_untaken_38 (by decide) (fun c_38 => ?_) (fun c_38 => ?_)
          · refine lv_iinc (v := nI (k * 24 + (t + 1))) (lv' := [(3, .int _), (2, .int _), (0, .ref _), (1, .int _)]) hx hb dX0_untaken_44 hl (k := 0) rfl (nI_1 (k * 24 + t)) (by decide) rfl (fun ls hl => ?_)
            refine lv_goto (tgt := 17) hx hb dX0_untaken_47 (by decide) ?_
            exact ih (t + 1) _ _ _ _ (by omega) (by rw [hf, rf_count, if_neg c_38] <;> omega) hw (lv_sub hl [0, 1, 2, 3] rfl)
          · refine lv_iinc (v := nI (q + 1)) (lv' := [(2, .int _), (3, .int _), (0, .ref _), (1, .int _)]) hx hb dX0_untaken_41 hl (k := 1) rfl (nI_1 q) (by decide) rfl (fun ls hl => ?_)
            refine lv_iinc (v := nI (k * 24 + (t + 1))) (lv' := [(3, .int _), (2, .int _), (0, .ref _), (1, .int _)]) hx hb dX0_untaken_44 hl (k := 1) rfl (nI_1 (k * 24 + t)) (by decide) rfl (fun ls hl => ?_)
            refine lv_goto (tgt := 17) hx hb dX0_untaken_47 (by decide) ?_
            exact ih (t + 1) _ _ _ _ (by omega) (by rw [hf, rf_count, if_pos c_38] <;> omega) hw (lv_sub hl [0, 1, 2, 3] rfl)
    refine lv_iconst (v := 0) hx hb dX0_untaken_10 (by decide) ?_
    refine lv_istore_n (lv' := [(2, .int _), (0, .ref _), (1, .int _)]) hx hb dX0_untaken_11 rfl hl (by decide) rfl (fun ls hl => ?_)
    refine lv_iload_n hx hb dX0_untaken_12 rfl (lv_at hl 2 rfl) ?_
    refine lv_bipush (v := 24) hx hb dX0_untaken_13 (by decide) ?_
    refine lv_imul hx hb dX0_untaken_15 ?_
    rw [show (nI k) * 24 = nI (k * 24 + 0) from (rf_ix24n k)]
    refine lv_istore_n (lv' := [(3, .int _), (2, .int _), (0, .ref _), (1, .int _)]) hx hb dX0_untaken_16 rfl hl (by decide) rfl (fun ls hl => ?_)
    exact K17 n0 0 0 _ _ _ (by omega) (by omega) hw (lv_sub hl [0, 1, 2, 3] rfl)
  · refine lv_bipush (v := -3) hx hb dX0_untaken_7 (by decide) ?_
    exact rf_iret hx hb hr hlk hw ⟨by simp only [xr_untaken, c_4, ↓reduceIte] <;> rfl, by simp only [xr_untaken, c_4, ↓reduceIte] <;> rfl⟩ dX0_untaken_9

set_option maxHeartbeats 4000000 in
set_option maxRecDepth 100000 in
/-- time -/
theorem xm_time (l : Launch) (D : va_G) {g : Nat → Nat} (ca : Nat → ClassId) (hg : rf_g xS g) (σ : rf_Mem)   : rf_Mi l yX0_time cX0_time 1 .int (rf_rm 0 0) D vwCl xS g ca σ [] (σ 0 2) (σ) := by
  refine rf_enter (by decide) (Nat.le_of_ble_eq_true rfl) ?_
  intro p e s m below meth c ls hx hb hr hlk hml hown hts hnm hB hl
  have hw : rf_w D vwCl xS g ca σ (rf_A xS g) s s.heap [] := ⟨hB.1, hB.2, va_S.rf⟩
  have hA : ∀ q, rf_A xS g q → rf_A xS g q := fun _ h => h
  have hl : lv_has ls 1 [(0, .ref (g 0))] := hl
  refine lv_aload_n hx hb dX0_time_0 rfl (lv_at hl 0 rfl) ?_
  refine xg_now hx hb hts hown hw dX0_time_1 ?_
  exact rf_iret hx hb hr hlk hw ⟨rfl, rfl⟩ dX0_time_4
end
section
theorem rf_lt_of {x y : Int32} (h : ¬ y ≤ x) : x < y := Int32.not_le.mp h
/-! what ReplayFlowModel's methods do to its memory -/
def mm_end (σ : rf_Mem) (k : Nat) (v : Int32) : rf_Mem := rf_wr (rf_wr σ 4 k 4) 8 k v
def mr_isRun (r : Int32) : Int32 := if r < 0 then 0 else if 3 ≤ r then 0 else 1
def mr_first (σ : rf_Mem) (k : Nat) (ch : Int32) : Int32 := match rf_find (σ 14) (σ 12) ch (k * 24) (rf_ix (σ 11 k)) 0 with
  | none => -1
  | some i => nI i
/-- the register that the instruction at the run's place names -/
def mm_fa (σ : rf_Mem) (k : Nat) : Nat := k * 4 + rf_ix (σ 2 (rf_ix (σ 5 k)))
def mm_pastT (σ : rf_Mem) (k : Nat) : rf_Mem := rf_wr (rf_wr (rf_wr σ 5 k (σ 5 k + 1)) 6 k 0) 10 k (σ 10 k + 1)
def mm_pastWait (σ : rf_Mem) (k : Nat) (set v : Int32) : rf_Mem := if set = 0 then mm_pastT σ k else mm_pastT (rf_wr σ 7 (mm_fa σ k) v) k
def mr_isWait (σ : rf_Mem) (a : Int32) : Int32 := if σ 1 (rf_ix a) < 5 then 0 else if 7 < σ 1 (rf_ix a) then 0 else 1
def mm_op (σ : rf_Mem) (k : Nat) : Int32 := σ 1 (rf_ix (σ 5 k))
def mm_se (σ : rf_Mem) (k : Nat) : Int32 := σ 3 (rf_ix (σ 5 k))
def mm_take (σ : rf_Mem) (k : Nat) : rf_Mem := match rf_find (σ 14) (σ 12) (mm_se σ k &&& 1) (k * 24) (rf_ix (σ 11 k)) 0 with
  | none => rf_wr σ 4 k 3
  | some i => mm_pastWait (rf_wr (rf_wr σ 4 k 3) 14 i 1) k 1 (σ 13 i)
def mr_take (σ : rf_Mem) (k : Nat) : Int32 := match rf_find (σ 14) (σ 12) (mm_se σ k &&& 1) (k * 24) (rf_ix (σ 11 k)) 0 with
  | none => 0
  | some _ => 1
/-- waits: the instruction is 5, 6, 7 or 8 -/
def mm_waits (σ : rf_Mem) (k : Nat) : rf_Mem :=
  if mm_op σ k = 8 then mm_end σ k (σ 7 (mm_fa σ k))
  else if mm_op σ k = 5 then rf_wr σ 4 k 1
  else if mm_op σ k = 6 then rf_wr (rf_wr σ 4 k 2) 9 k (σ 0 2 + rf_clamp (mm_se σ k))
  else if mm_op σ k = 7 then mm_take σ k else σ
def mr_waits (σ : rf_Mem) (k : Nat) : Int32 := if mm_op σ k = 7 then mr_take σ k else 0
def mm_plain4 (σ : rf_Mem) (k : Nat) (o b : Int32) (a : Nat) : rf_Mem := if o = 3 then rf_wr σ 5 k b else if o = 4 then (if σ 7 a ≤ 0 then σ else rf_wr σ 5 k b) else σ
def mm_plain3 (σ : rf_Mem) (k : Nat) (o b x : Int32) (a : Nat) : rf_Mem := if o = 2 then mm_plain4 (rf_wr σ 7 a (σ 7 a - x)) k o b a else mm_plain4 σ k o b a
def mm_plain2 (σ : rf_Mem) (k : Nat) (o b x : Int32) (a : Nat) : rf_Mem := if o = 1 then mm_plain3 (rf_wr σ 7 a (σ 7 a + x)) k o b x a else mm_plain3 σ k o b x a
def mm_plain1 (σ : rf_Mem) (k : Nat) (o b x : Int32) (a : Nat) : rf_Mem := if o = 0 then mm_plain2 (rf_wr σ 7 a b) k o b x a else mm_plain2 σ k o b x a
def mm_plain (σ : rf_Mem) (k : Nat) : rf_Mem := mm_plain1 (rf_wr σ 5 k (σ 5 k + 1)) k (mm_op σ k) (mm_se σ k) (σ 7 (k * 4 + rf_q (mm_se σ k))) (mm_fa σ k)
def mm_plainS (σ : rf_Mem) (k : Nat) : rf_Mem := mm_plain (rf_wr σ 6 k (σ 6 k + 1)) k
/-- one turn of goOn's loop: the memory, and whether it goes on -/
def mm_turn (σ : rf_Mem) (k : Nat) : rf_Mem := if σ 5 k < 0 then mm_end σ k 0 else if σ 0 0 ≤ σ 5 k then mm_end σ k 0 else if σ 6 k = 60 then mm_end σ k 0 else if mr_isWait σ (σ 5 k) = 0 then (if mm_op σ k < 5 then mm_plainS σ k else mm_waits σ k) else if σ 10 k = 40 then mm_end σ k 0 else if mm_op σ k < 5 then mm_plainS σ k else mm_waits σ k
def mr_turn (σ : rf_Mem) (k : Nat) : Int32 := if σ 5 k < 0 then 0 else if σ 0 0 ≤ σ 5 k then 0 else if σ 6 k = 60 then 0 else if mr_isWait σ (σ 5 k) = 0 then (if mm_op σ k < 5 then 1 else mr_waits σ k) else if σ 10 k = 40 then 0 else if mm_op σ k < 5 then 1 else mr_waits σ k
def mm_loop : Nat → rf_Mem → Nat → Int32 → rf_Mem
  | 0, σ, _, _ => σ
  | n + 1, σ, k, more => if more = 0 then σ else mm_loop n (mm_turn σ k) k (mr_turn σ k)
def mm_goOn (σ : rf_Mem) (k : Nat) : rf_Mem := mm_loop 3000 σ k 1
/-! in range -/
def mm_ok (σ : rf_Mem) (k : Nat) : Prop := rf_le (σ 0 0) 16 ∧ rf_le (σ 11 k) 24 ∧ ∀ j, j < 16 → vp_in (σ 2 j) 4
theorem rf_ix4v (k : Nat) {x : Int32} {n : Nat} (h : vp_in x n) (hn : n < 2 ^ 31) : nI k * 4 + x = nI (k * 4 + rf_ix x) := by
  conv => lhs; rw [(rf_in h hn).2]
  rw [show (4 : Int32) = nI 4 from rfl, pk_mul, nI_add]
theorem mm_r4 {k : Nat} (hk : k < 3) {x : Int32} (h : vp_in x 4) : k * 4 + rf_ix x < 12 := by
  have := (rf_in h (by decide)).1
  omega
theorem mm_as {σ : rf_Mem} {k : Nat} (h : mm_ok σ k) {x : Int32} (hx : vp_in x 16) : vp_in (σ 2 (rf_ix x)) 4 := h.2.2 _ (rf_in hx (by decide)).1
theorem rf_find_lt {tk chn : Nat → Int32} {ch : Int32} {b i : Nat} : ∀ (n t : Nat), rf_find tk chn ch b n t = some i → b + t ≤ i ∧ i < b + t + n
  | 0, _, h => by cases h
  | n + 1, t, h => by
    rw [rf_find] at h
    split at h
    · cases h
      omega
    · have := rf_find_lt n (t + 1) h
      omega
theorem mm_fs {σ : rf_Mem} {k : Nat} {ch : Int32} (h : rf_le (σ 11 k) 24) (h0 : 0 ≤ mr_first σ k ch) : ∃ i, rf_find (σ 14) (σ 12) ch (k * 24) (rf_ix (σ 11 k)) 0 = some i ∧ mr_first σ k ch = nI i ∧ i < k * 24 + 24 := by
  unfold mr_first at h0 ⊢
  cases hf : rf_find (σ 14) (σ 12) ch (k * 24) (rf_ix (σ 11 k)) 0 with
  | none => rw [hf] at h0; exact absurd h0 (by decide)
  | some i =>
    refine ⟨i, rfl, rfl, ?_⟩
    have h1 := rf_find_lt _ _ hf
    have h2 := (rf_le_ix h (by decide)).1
    omega
theorem mm_fn {σ : rf_Mem} {k : Nat} {ch : Int32} (hk : k < 3) (h : rf_le (σ 11 k) 24) (h0 : ¬ 0 ≤ mr_first σ k ch) : rf_find (σ 14) (σ 12) ch (k * 24) (rf_ix (σ 11 k)) 0 = none := by
  unfold mr_first at h0
  cases hf : rf_find (σ 14) (σ 12) ch (k * 24) (rf_ix (σ 11 k)) 0 with
  | none => rfl
  | some i =>
    rw [hf] at h0
    have h1 := rf_find_lt _ _ hf
    have h2 := (rf_le_ix h (by decide)).1
    exact absurd (nI_pos' (by omega)) h0
/-! what stays in range -/
theorem mo_end {σ : rf_Mem} {k : Nat} {v : Int32} (h : mm_ok σ k) : mm_ok (mm_end σ k v) k := by
  simpa [mm_ok, mm_end, rf_wr_at] using h
theorem mo_pastT {σ : rf_Mem} {k : Nat} (h : mm_ok σ k) : mm_ok (mm_pastT σ k) k := by
  simpa [mm_ok, mm_pastT, rf_wr_at] using h
theorem mo_reg {σ : rf_Mem} {k i : Nat} {v : Int32} (h : mm_ok σ k) : mm_ok (rf_wr σ 7 i v) k := by
  simpa [mm_ok, rf_wr_at] using h
theorem mo_state {σ : rf_Mem} {k i : Nat} {v : Int32} (h : mm_ok σ k) : mm_ok (rf_wr σ 4 i v) k := by
  simpa [mm_ok, rf_wr_at] using h
theorem mo_place {σ : rf_Mem} {k i : Nat} {v : Int32} (h : mm_ok σ k) : mm_ok (rf_wr σ 5 i v) k := by
  simpa [mm_ok, rf_wr_at] using h
theorem mo_step {σ : rf_Mem} {k i : Nat} {v : Int32} (h : mm_ok σ k) : mm_ok (rf_wr σ 6 i v) k := by
  simpa [mm_ok, rf_wr_at] using h
theorem mo_wake {σ : rf_Mem} {k i : Nat} {v : Int32} (h : mm_ok σ k) : mm_ok (rf_wr σ 9 i v) k := by
  simpa [mm_ok, rf_wr_at] using h
theorem mo_taken {σ : rf_Mem} {k i : Nat} {v : Int32} (h : mm_ok σ k) : mm_ok (rf_wr σ 14 i v) k := by
  simpa [mm_ok, rf_wr_at] using h
theorem mo_past {σ : rf_Mem} {k : Nat} {s v : Int32} (h : mm_ok σ k) : mm_ok (mm_pastWait σ k s v) k := by
  unfold mm_pastWait
  split
  · exact mo_pastT h
  · exact mo_pastT (mo_reg h)
theorem mo_take {σ : rf_Mem} {k : Nat} (h : mm_ok σ k) : mm_ok (mm_take σ k) k := by
  unfold mm_take
  cases rf_find (σ 14) (σ 12) (mm_se σ k &&& 1) (k * 24) (rf_ix (σ 11 k)) 0 with
  | none => exact mo_state h
  | some i => exact mo_past (mo_taken (mo_state h))
theorem mo_waits {σ : rf_Mem} {k : Nat} (h : mm_ok σ k) : mm_ok (mm_waits σ k) k := by
  unfold mm_waits
  split
  · exact mo_end h
  · split
    · exact mo_state h
    · split
      · exact mo_wake (mo_state h)
      · split
        · exact mo_take h
        · exact h
theorem mo_plain4 {σ : rf_Mem} {k a : Nat} {o b : Int32} (h : mm_ok σ k) : mm_ok (mm_plain4 σ k o b a) k := by
  unfold mm_plain4
  split
  · exact mo_place h
  · split
    · split
      · exact h
      · exact mo_place h
    · exact h
theorem mo_plain3 {σ : rf_Mem} {k a : Nat} {o b x : Int32} (h : mm_ok σ k) : mm_ok (mm_plain3 σ k o b x a) k := by
  unfold mm_plain3
  split
  · exact mo_plain4 (mo_reg h)
  · exact mo_plain4 h
theorem mo_plain2 {σ : rf_Mem} {k a : Nat} {o b x : Int32} (h : mm_ok σ k) : mm_ok (mm_plain2 σ k o b x a) k := by
  unfold mm_plain2
  split
  · exact mo_plain3 (mo_reg h)
  · exact mo_plain3 h
theorem mo_plain1 {σ : rf_Mem} {k a : Nat} {o b x : Int32} (h : mm_ok σ k) : mm_ok (mm_plain1 σ k o b x a) k := by
  unfold mm_plain1
  split
  · exact mo_plain2 (mo_reg h)
  · exact mo_plain2 h
theorem mo_plainS {σ : rf_Mem} {k : Nat} (h : mm_ok σ k) : mm_ok (mm_plainS σ k) k := mo_plain1 (mo_place (mo_step h))
theorem mo_turn {σ : rf_Mem} {k : Nat} (h : mm_ok σ k) : mm_ok (mm_turn σ k) k := by
  unfold mm_turn
  split
  · exact mo_end h
  · split
    · exact mo_end h
    · split
      · exact mo_end h
      · split
        · split
          · exact mo_plainS h
          · exact mo_waits h
        · split
          · exact mo_end h
          · split
            · exact mo_plainS h
            · exact mo_waits h
theorem mr_waits_01 (σ : rf_Mem) (k : Nat) : mr_waits σ k = 0 ∨ mr_waits σ k = 1 := by
  unfold mr_waits mr_take
  split
  · cases rf_find (σ 14) (σ 12) (mm_se σ k &&& 1) (k * 24) (rf_ix (σ 11 k)) 0 with
    | none => exact Or.inl rfl
    | some i => exact Or.inr rfl
  · exact Or.inl rfl
theorem mr_turn_01 (σ : rf_Mem) (k : Nat) : mr_turn σ k = 0 ∨ mr_turn σ k = 1 := by
  unfold mr_turn
  split
  · exact Or.inl rfl
  · split
    · exact Or.inl rfl
    · split
      · exact Or.inl rfl
      · split
        · split
          · exact Or.inr rfl
          · exact mr_waits_01 σ k
        · split
          · exact Or.inl rfl
          · split
            · exact Or.inr rfl
            · exact mr_waits_01 σ k
theorem mo_loop (n : Nat) {σ : rf_Mem} {k : Nat} {more : Int32} (h : mm_ok σ k) : mm_ok (mm_loop n σ k more) k := by
  induction n generalizing σ more with
  | zero => exact h
  | succ n ih =>
    unfold mm_loop
    split
    · exact h
    · exact ih (mo_turn h)
theorem mo_goOn {σ : rf_Mem} {k : Nat} (h : mm_ok σ k) : mm_ok (mm_goOn σ k) k := mo_loop _ h
/-! the public methods -/
theorem mr_run {r : Int32} (h : ¬ mr_isRun r = 0) : ∃ k : Nat, k < 3 ∧ r = nI k := by
  unfold mr_isRun at h
  split at h
  · exact absurd rfl h
  · split at h
    · exact absurd rfl h
    · rename_i h0 h1
      obtain ⟨j, hj, e⟩ := nI_of h0
      rw [e] at h1
      have h2 : ¬ 3 ≤ j := fun q => h1 (nI_le (a := 3) q hj)
      exact ⟨j, by omega, e⟩
theorem mr_run1 {k : Nat} (hk : k < 3) : mr_isRun (nI k) = 1 := by
  unfold mr_isRun
  rw [if_neg (nI_pos (by omega)), if_neg (show ¬ (3 : Int32) ≤ nI k from nI_ge (b := 3) hk (by decide))]
def mm_emit (σ : rf_Mem) (o a b : Int32) : rf_Mem := if o < 0 then σ else if o ≤ 8 then (if σ 0 0 = 16 then σ else if σ 0 1 = 0 then rf_wr (rf_wr (rf_wr (rf_wr σ 1 (rf_ix (σ 0 0)) o) 2 (rf_ix (σ 0 0)) (a &&& 3)) 3 (rf_ix (σ 0 0)) b) 0 0 (σ 0 0 + 1) else σ) else σ
def mr_emit (σ : rf_Mem) (o : Int32) : Int32 := if o < 0 then -1 else if o ≤ 8 then (if σ 0 0 = 16 then -2 else if σ 0 1 = 0 then σ 0 0 + 1 - 1 else -5) else -1
def mm_zero (σ : rf_Mem) (k : Nat) : rf_Mem := rf_wr (rf_wr (rf_wr (rf_wr σ 7 (k * 4 + 0) 0) 7 (k * 4 + 1) 0) 7 (k * 4 + 2) 0) 7 (k * 4 + 3) 0
def mm_startI (σ : rf_Mem) (k : Nat) (a : Int32) : rf_Mem := rf_wr (rf_wr (rf_wr (rf_wr (rf_wr (rf_wr (mm_zero (rf_wr σ 0 1 1) k) 7 (k * 4) a) 5 k 0) 6 k 0) 10 k 0) 11 k 0) 8 k 0
theorem mo_startI {σ : rf_Mem} {k : Nat} {a : Int32} (h : mm_ok σ k) : mm_ok (mm_startI σ k a) k := by
  refine ⟨by simpa [mm_startI, mm_zero, rf_wr_at] using h.1, ?_, by simpa [mm_startI, mm_zero, rf_wr_at] using h.2.2⟩
  simp only [mm_startI, rf_wr_at, and_self, ↓reduceIte]
  exact ⟨0, by decide, rfl⟩
def mm_start (σ : rf_Mem) (r a : Int32) : rf_Mem := if mr_isRun r = 0 then σ else if σ 4 (rf_ix r) = 0 then mm_goOn (mm_startI σ (rf_ix r) a) (rf_ix r) else σ
def mr_start (σ : rf_Mem) (r a : Int32) : Int32 := if mr_isRun r = 0 then -3 else if σ 4 (rf_ix r) = 0 then mm_goOn (mm_startI σ (rf_ix r) a) (rf_ix r) 4 (rf_ix r) else -5
def mm_answer (σ : rf_Mem) (r v : Int32) : rf_Mem := if mr_isRun r = 0 then σ else if σ 4 (rf_ix r) = 1 then mm_goOn (mm_pastWait σ (rf_ix r) 1 v) (rf_ix r) else σ
def mr_answer (σ : rf_Mem) (r v : Int32) : Int32 := if mr_isRun r = 0 then -3 else if σ 4 (rf_ix r) = 1 then mm_goOn (mm_pastWait σ (rf_ix r) 1 v) (rf_ix r) 4 (rf_ix r) else -4
def mm_put (σ : rf_Mem) (k : Nat) (c v : Int32) : rf_Mem := rf_wr (rf_wr (rf_wr (rf_wr σ 12 (k * 24 + rf_ix (σ 11 k)) (c &&& 1)) 13 (k * 24 + rf_ix (σ 11 k)) v) 14 (k * 24 + rf_ix (σ 11 k)) 0) 11 k (σ 11 k + 1)
theorem rf_ne_lt {x : Int32} {n : Nat} (h : rf_le x n) (hn : n < 2 ^ 31) (hx : ¬ x = nI n) : x < nI n := by
  obtain ⟨j, hj, e⟩ := h
  rw [e] at hx ⊢
  have : ¬ j = n := fun q => hx (by rw [q])
  exact nI_lt (by omega) hn
theorem mo_put {σ : rf_Mem} {k : Nat} {c v : Int32} (h : mm_ok σ k) (h1 : ¬ σ 11 k = 24) : mm_ok (mm_put σ k c v) k := by
  refine ⟨by simpa [mm_put, rf_wr_at] using h.1, ?_, by simpa [mm_put, rf_wr_at] using h.2.2⟩
  simp only [mm_put, rf_wr_at, and_self, ↓reduceIte]
  exact rf_inc h.2.1 (by decide) (rf_ne_lt h.2.1 (by decide) h1)
def mm_signalT (σ : rf_Mem) (k : Nat) (c v : Int32) : rf_Mem := if σ 4 k = 3 then mm_goOn (mm_put σ k c v) k else mm_put σ k c v
def mm_signal (σ : rf_Mem) (r c v : Int32) : rf_Mem := if mr_isRun r = 0 then σ else if σ 4 (rf_ix r) = 0 then σ else if σ 4 (rf_ix r) = 4 then σ else if σ 11 (rf_ix r) = 24 then σ else mm_signalT σ (rf_ix r) c v
def mr_signal (σ : rf_Mem) (r c v : Int32) : Int32 := if mr_isRun r = 0 then -3 else if σ 4 (rf_ix r) = 0 then -4 else if σ 4 (rf_ix r) = 4 then -4 else if σ 11 (rf_ix r) = 24 then -2 else mm_signalT σ (rf_ix r) c v 4 (rf_ix r)
def mm_wake (σ : rf_Mem) (k : Nat) : rf_Mem := mm_goOn (mm_pastWait σ k 0 0) k
def mm_pass1 (σ : rf_Mem) (k : Nat) : rf_Mem := if σ 4 k = 2 then (if σ 0 2 < σ 9 k then σ else mm_wake σ k) else σ
def mr_pass1 (σ : rf_Mem) (k : Nat) : Nat := if σ 4 k = 2 then (if σ 0 2 < σ 9 k then 0 else 1) else 0
def mm_passN (σ : rf_Mem) : Nat → rf_Mem
  | 0 => σ
  | j + 1 => mm_pass1 (mm_passN σ j) j
def mr_passN (σ : rf_Mem) : Nat → Nat
  | 0 => 0
  | j + 1 => mr_passN σ j + mr_pass1 (mm_passN σ j) j
def mm_now (σ : rf_Mem) (n : Int32) : rf_Mem := rf_wr σ 0 2 (σ 0 2 + n)
def mm_pass (σ : rf_Mem) (n : Int32) : rf_Mem := if n < 0 then σ else if n ≤ 1000 then mm_passN (mm_now σ n) 3 else σ
def mr_pass (σ : rf_Mem) (n : Int32) : Int32 := if n < 0 then -6 else if n ≤ 1000 then nI (mr_passN (mm_now σ n) 3) else -6
def mr_forget (r : Int32) : Int32 := if mr_isRun r = 0 then -3 else 0
def mm_clear (σ : rf_Mem) : rf_Mem := rf_wr (rf_wr (rf_wr (rf_wr (rf_wr (rf_wr σ 0 0 0) 0 1 0) 0 2 0) 4 0 0) 4 1 0) 4 2 0
def mr_state (σ : rf_Mem) (r : Int32) : Int32 := if mr_isRun r = 0 then -3 else σ 4 (rf_ix r)
def mr_register (σ : rf_Mem) (r a : Int32) : Int32 := if mr_isRun r = 0 then 0 else if σ 4 (rf_ix r) = 0 then 0 else σ 7 (rf_ix r * 4 + rf_q a)
def mr_activity (σ : rf_Mem) (r : Int32) : Int32 := if mr_isRun r = 0 then -3 else if σ 4 (rf_ix r) = 1 then mm_se σ (rf_ix r) else 0
def mr_result (σ : rf_Mem) (r : Int32) : Int32 := if mr_isRun r = 0 then -3 else if σ 4 (rf_ix r) = 4 then σ 8 (rf_ix r) else 0
def mr_cnt (σ : rf_Mem) (k n t : Nat) : Nat := if σ 4 k = 0 then 0 else rf_count (σ 14) (k * 24) n t
def mr_untaken (σ : rf_Mem) (r : Int32) : Int32 := if mr_isRun r = 0 then -3 else nI (mr_cnt σ (rf_ix r) (rf_ix (σ 11 (rf_ix r))) 0)
end
section
set_option maxHeartbeats 4000000 in
set_option maxRecDepth 100000 in
/-- end -/
theorem mt_end (l : Launch) (D : va_G) {g : Nat → Nat} (ca : Nat → ClassId) (hg : rf_g mS g) (σ : rf_Mem) (k : Nat) (v : Int32) (hk : k < 3) : rf_Mv l yX1_end cX1_end 3 (rf_rm 0 0) D vwCl mS g ca σ [.int (nI k), .int v] (mm_end σ k v) := by
  refine rf_enter (by decide) (Nat.le_of_ble_eq_true rfl) ?_
  intro p e s m below meth c ls hx hb hr hlk hml hown hts hnm hB hl
  have hw : rf_w D vwCl mS g ca σ (rf_A mS g) s s.heap [] := ⟨hB.1, hB.2, va_S.rf⟩
  have hA : ∀ q, rf_A mS g q → rf_A mS g q := fun _ h => h
  have hl : lv_has ls 3 [(0, .ref (g 0)), (1, .int (nI k)), (2, .int v)] := hl
  refine lv_aload_n hx hb dX1_end_0 rfl (lv_at hl 0 rfl) ?_
  refine mg_states hx hb hts hown hw dX1_end_1 ?_
  refine lv_iload_n hx hb dX1_end_4 rfl (lv_at hl 1 rfl) ?_
  refine lv_iconst (v := 4) hx hb dX1_end_5 (by decide) ?_
  refine rf_iastn (j := 4) (jx := k) hx hb hg hA hw (by decide) (by decide) rfl rfl hk (mln_lt 4) dX1_end_6 (fun H locs hw => ?_)
  refine lv_aload_n hx hb dX1_end_7 rfl (lv_at hl 0 rfl) ?_
  refine mg_results hx hb hts hown hw dX1_end_8 ?_
  refine lv_iload_n hx hb dX1_end_11 rfl (lv_at hl 1 rfl) ?_
  refine lv_iload_n hx hb dX1_end_12 rfl (lv_at hl 2 rfl) ?_
  refine rf_iastn (j := 8) (jx := k) hx hb hg hA hw (by decide) (by decide) rfl rfl hk (mln_lt 8) dX1_end_13 (fun H locs hw => ?_)
  exact rf_vret hx hb hr hlk hw rfl dX1_end_14
theorem mk_end {p : Program} {l : Launch} {e : Env} {R : Room} {s : State} {m : MethodId} {args : Array Value} {below : List Frame} {meth : Method} {c : Code} {H : Heap} {locs : List Loc} {cells slots : Nat} {Q : State → Prop} {cc : ByteArray} {pc : Nat} {ls : Array Slot} {rest : List Value} {D : va_G} {g : Nat → Nat} {ca : Nat → ClassId} {σ : rf_Mem} {A : Nat → Prop} {nL : Nat} (S0 : CallFix p m c cc nL s args lw_all RX1) (hg : rf_g mS g) (hA : ∀ q, rf_A mS g q → A q) (hw : rf_w D vwCl mS g ca σ A s H locs) {k : Nat} {v : Int32} (hk : k < 3) (hR : 0 + 1 ≤ R.frames ∧ 8 + (3 + 11) + 0 ≤ R.locals) (hls : ls.size = nL) (hst : (rest.map fun v => v.category).sum ≤ 8) (hdg : decode cc pc = .ok (.invokevirtual 72, 3)) (hf : cells ≤ R.cells ∧ slots ≤ R.slots)
    (kk : ∀ (H1 : Heap) (locs1 : List Loc), rf_w D vwCl mS g ca (mm_end σ k v) A s H1 locs1 → W p l e R s m args below meth c H1 locs1 cells slots Q (F0 m (pc + 3) ls (rest))) : W p l e R s m args below meth c H locs cells slots Q (F0 m pc ls (.int v :: .int (nI k) :: .ref (g 0) :: rest)) :=
  rf_callv S0 (mt_end l D ca hg σ k v hk) (cwV 2 S0.2.2.2.2 (lw_V q281 q283 qs15 q22 q284) rfl rfl rfl (by decide +kernel) hR) hw hA rfl rfl hls hst hdg hf rfl (fun H1 locs1 h _ _ => kk H1 locs1 h)

set_option maxHeartbeats 4000000 in
set_option maxRecDepth 100000 in
/-- isRun -/
theorem mt_isRun (l : Launch) (D : va_G) {g : Nat → Nat} (ca : Nat → ClassId) (hg : rf_g mS g) (σ : rf_Mem) (r : Int32)  : rf_Mi l yX1_isRun cX1_isRun 2 .boolean (rf_rm 0 0) D vwCl mS g ca σ [.int r] (mr_isRun r) (σ) := by
  refine rf_enter (by decide) (Nat.le_of_ble_eq_true rfl) ?_
  intro p e s m below meth c ls hx hb hr hlk hml hown hts hnm hB hl
  have hw : rf_w D vwCl mS g ca σ (rf_A mS g) s s.heap [] := ⟨hB.1, hB.2, va_S.rf⟩
  have hA : ∀ q, rf_A mS g q → rf_A mS g q := fun _ h => h
  have hl : lv_has ls 2 [(0, .ref (g 0)), (1, .int r)] := hl
  refine lv_iload_n hx hb dX1_isRun_0 rfl (lv_at hl 1 rfl) ?_
  refine lv_if_lt (tgt := 13) hx hb dX1_isRun_1 (by decide) (fun c_1 => ?_) (fun c_1 => ?_)
  · refine lv_iconst (v := 0) hx hb dX1_isRun_13 (by decide) ?_
    exact rf_zret hx hb hr hlk rfl hw ⟨by rw [mr_isRun, if_pos c_1], rfl⟩ dX1_isRun_14
  · refine lv_iload_n hx hb dX1_isRun_4 rfl (lv_at hl 1 rfl) ?_
    refine lv_iconst (v := 3) hx hb dX1_isRun_5 (by decide) ?_
    refine lv_icmp_ge (tgt := 13) hx hb dX1_isRun_6 (by decide) (fun c_6 => ?_) (fun c_6 => ?_)
    · refine lv_iconst (v := 0) hx hb dX1_isRun_13 (by decide) ?_
      exact rf_zret hx hb hr hlk rfl hw ⟨by rw [mr_isRun, if_neg c_1, if_pos c_6], rfl⟩ dX1_isRun_14
    · refine lv_iconst (v := 1) hx hb dX1_isRun_9 (by decide) ?_
      refine lv_goto (tgt := 14) hx hb dX1_isRun_10 (by decide) ?_
      exact rf_zret hx hb hr hlk rfl hw ⟨by rw [mr_isRun, if_neg c_1, if_neg c_6], rfl⟩ dX1_isRun_14
theorem mk_isRun {p : Program} {l : Launch} {e : Env} {R : Room} {s : State} {m : MethodId} {args : Array Value} {below : List Frame} {meth : Method} {c : Code} {H : Heap} {locs : List Loc} {cells slots : Nat} {Q : State → Prop} {cc : ByteArray} {pc : Nat} {ls : Array Slot} {rest : List Value} {D : va_G} {g : Nat → Nat} {ca : Nat → ClassId} {σ : rf_Mem} {A : Nat → Prop} {nL : Nat} (S0 : CallFix p m c cc nL s args lw_all RX1) (hg : rf_g mS g) (hA : ∀ q, rf_A mS g q → A q) (hw : rf_w D vwCl mS g ca σ A s H locs) {r : Int32}  (hR : 0 + 1 ≤ R.frames ∧ 8 + (2 + 11) + 0 ≤ R.locals) (hls : ls.size = nL) (hst : (rest.map fun v => v.category).sum ≤ 8) (hdg : decode cc pc = .ok (.invokevirtual 61, 3)) (hf : cells ≤ R.cells ∧ slots ≤ R.slots)
    (kk : ∀ (H1 : Heap) (locs1 : List Loc), rf_w D vwCl mS g ca (σ) A s H1 locs1 → W p l e R s m args below meth c H1 locs1 cells slots Q (F0 m (pc + 3) ls (.int (mr_isRun r) :: rest))) : W p l e R s m args below meth c H locs cells slots Q (F0 m pc ls (.int r :: .ref (g 0) :: rest)) :=
  rf_calli S0 (mt_isRun l D ca hg σ r ) (cwV 1 S0.2.2.2.2 (lw_V q269 q271 qs12 q22 q272) rfl rfl rfl (by decide +kernel) hR) hw hA rfl rfl hls hst hdg hf rfl (fun H1 locs1 h _ _ => kk H1 locs1 h)

set_option maxHeartbeats 4000000 in
set_option maxRecDepth 100000 in
/-- isWait -/
theorem mt_isWait (l : Launch) (D : va_G) {g : Nat → Nat} (ca : Nat → ClassId) (hg : rf_g mS g) (σ : rf_Mem) (a : Int32) (hin : vp_in a 16) : rf_Mi l yX1_isWait cX1_isWait 2 .boolean (rf_rm 0 0) D vwCl mS g ca σ [.int a] (mr_isWait σ a) (σ) := by
  refine rf_enter (by decide) (Nat.le_of_ble_eq_true rfl) ?_
  intro p e s m below meth c ls hx hb hr hlk hml hown hts hnm hB hl
  have hw : rf_w D vwCl mS g ca σ (rf_A mS g) s s.heap [] := ⟨hB.1, hB.2, va_S.rf⟩
  have hA : ∀ q, rf_A mS g q → rf_A mS g q := fun _ h => h
  have hl : lv_has ls 2 [(0, .ref (g 0)), (1, .int a)] := hl
  refine lv_aload_n hx hb dX1_isWait_0 rfl (lv_at hl 0 rfl) ?_
  refine mg_ops hx hb hts hown hw dX1_isWait_1 ?_
  refine lv_iload_n hx hb dX1_isWait_4 rfl (lv_at hl 1 rfl) ?_
  refine rf_iald (j := 1) hx hb hw (by decide) (by decide) rfl hin dX1_isWait_5 ?_
  refine lv_iconst (v := 5) hx hb dX1_isWait_6 (by decide) ?_
  refine lv_icmp_lt (tgt := 25) hx hb dX1_isWait_7 (by decide) (fun c_7 => ?_) (fun c_7 => ?_)
  · refine lv_iconst (v := 0) hx hb dX1_isWait_25 (by decide) ?_
    exact rf_zret hx hb hr hlk rfl hw ⟨by rw [mr_isWait, if_pos c_7], rfl⟩ dX1_isWait_26
  · refine lv_aload_n hx hb dX1_isWait_10 rfl (lv_at hl 0 rfl) ?_
    refine mg_ops hx hb hts hown hw dX1_isWait_11 ?_
    refine lv_iload_n hx hb dX1_isWait_14 rfl (lv_at hl 1 rfl) ?_
    refine rf_iald (j := 1) hx hb hw (by decide) (by decide) rfl hin dX1_isWait_15 ?_
    refine lv_bipush (v := 7) hx hb dX1_isWait_16 (by decide) ?_
    refine lv_icmp_gt (tgt := 25) hx hb dX1_isWait_18 (by decide) (fun c_18 => ?_) (fun c_18 => ?_)
    · refine lv_iconst (v := 0) hx hb dX1_isWait_25 (by decide) ?_
      exact rf_zret hx hb hr hlk rfl hw ⟨by rw [mr_isWait, if_neg c_7, if_pos c_18], rfl⟩ dX1_isWait_26
    · refine lv_iconst (v := 1) hx hb dX1_isWait_21 (by decide) ?_
      refine lv_goto (tgt := 26) hx hb dX1_isWait_22 (by decide) ?_
      exact rf_zret hx hb hr hlk rfl hw ⟨by rw [mr_isWait, if_neg c_7, if_neg c_18], rfl⟩ dX1_isWait_26
theorem mk_isWait {p : Program} {l : Launch} {e : Env} {R : Room} {s : State} {m : MethodId} {args : Array Value} {below : List Frame} {meth : Method} {c : Code} {H : Heap} {locs : List Loc} {cells slots : Nat} {Q : State → Prop} {cc : ByteArray} {pc : Nat} {ls : Array Slot} {rest : List Value} {D : va_G} {g : Nat → Nat} {ca : Nat → ClassId} {σ : rf_Mem} {A : Nat → Prop} {nL : Nat} (S0 : CallFix p m c cc nL s args lw_all RX1) (hg : rf_g mS g) (hA : ∀ q, rf_A mS g q → A q) (hw : rf_w D vwCl mS g ca σ A s H locs) {a : Int32} (hin : vp_in a 16) (hR : 0 + 1 ≤ R.frames ∧ 8 + (2 + 11) + 0 ≤ R.locals) (hls : ls.size = nL) (hst : (rest.map fun v => v.category).sum ≤ 8) (hdg : decode cc pc = .ok (.invokevirtual 69, 3)) (hf : cells ≤ R.cells ∧ slots ≤ R.slots)
    (kk : ∀ (H1 : Heap) (locs1 : List Loc), rf_w D vwCl mS g ca (σ) A s H1 locs1 → W p l e R s m args below meth c H1 locs1 cells slots Q (F0 m (pc + 3) ls (.int (mr_isWait σ a) :: rest))) : W p l e R s m args below meth c H locs cells slots Q (F0 m pc ls (.int a :: .ref (g 0) :: rest)) :=
  rf_calli S0 (mt_isWait l D ca hg σ a hin) (cwV 1 S0.2.2.2.2 (lw_V q277 q279 qs14 q22 q280) rfl rfl rfl (by decide +kernel) hR) hw hA rfl rfl hls hst hdg hf rfl (fun H1 locs1 h _ _ => kk H1 locs1 h)

set_option maxHeartbeats 4000000 in
set_option maxRecDepth 100000 in
/-- firstSignal -/
theorem mt_firstSignal (l : Launch) (D : va_G) {g : Nat → Nat} (ca : Nat → ClassId) (hg : rf_g mS g) (σ : rf_Mem) (k : Nat) (ch : Int32) (hk : k < 3) (hSg : rf_le (σ 11 k) 24) : rf_Mi l yX1_firstSignal cX1_firstSignal 4 .int (rf_rm 0 0) D vwCl mS g ca σ [.int (nI k), .int ch] (mr_first σ k ch) (σ) := by
  refine rf_enter (by decide) (Nat.le_of_ble_eq_true rfl) ?_
  intro p e s m below meth c ls hx hb hr hlk hml hown hts hnm hB hl
  have hw : rf_w D vwCl mS g ca σ (rf_A mS g) s s.heap [] := ⟨hB.1, hB.2, va_S.rf⟩
  have hA : ∀ q, rf_A mS g q → rf_A mS g q := fun _ h => h
  have hl : lv_has ls 4 [(0, .ref (g 0)), (1, .int (nI k)), (2, .int ch)] := hl
  obtain ⟨n0, hn0, en0⟩ := hSg
  have hn1 : rf_ix (σ 11 k) = n0 := by show (σ 11 k).toNatClampNeg = n0; rw [en0, nI_clamp (by omega)]
  have K5 : ∀ (n t : Nat) (H : Heap) (locs : List Loc) (ls : Array Slot), t + n = n0 → rf_find (σ 14) (σ 12) ch (k * 24) n0 0 = rf_find (σ 14) (σ 12) ch (k * 24) n t → rf_w D vwCl mS g ca σ (rf_A mS g) s H locs → lv_has ls 4 [(3, .int (nI (k * 24 + t))), (0, .ref (g 0)), (1, .int (nI k)), (2, .int ch)] → W p l e (rf_rm 0 0) s m ([.ref (g 0), .int (nI k), .int ch] : List Value).toArray below meth c H locs 0 0 (MQ below (va_Qi (fun r σ' => r = mr_first σ k ch ∧ σ' = σ) (rf_J D vwCl mS g ca) (rf_A mS g)) ([.ref (g 0), .int (nI k), .int ch] : List Value).toArray s 0 0 (rf_A mS g)) (F0 m 5 ls []) := by
    intro n
    induction n with
    | zero =>
      intro t H locs ls ht hf hw hl
      refine lv_iload_n hx hb dX1_firstSignal_5 rfl (lv_at hl 0 rfl) ?_
      refine lv_iload_n hx hb dX1_firstSignal_6 rfl (lv_at hl 2 rfl) ?_
      refine lv_bipush (v := 24) hx hb dX1_firstSignal_7 (by decide) ?_
      refine lv_imul hx hb dX1_firstSignal_9 ?_
      refine lv_aload_n hx hb dX1_firstSignal_10 rfl (lv_at hl 1 rfl) ?_
      refine mg_signals hx hb hts hown hw dX1_firstSignal_11 ?_
      refine lv_iload_n hx hb dX1_firstSignal_14 rfl (lv_at hl 2 rfl) ?_
      refine rf_ialdn (j := 11) (jx := k) hx hb hw (by decide) (by decide) rfl rfl hk (mln_lt 11) dX1_firstSignal_15 ?_
      refine lv_iadd hx hb dX1_firstSignal_16 ?_
      refine lv_icmp_ge (tgt := 47) hx hb dX1_firstSignal_17 (by decide) (fun c_17 => ?_) (fun c_17 => ?_)
      · refine lv_iconst (v := -1) hx hb dX1_firstSignal_47 (by decide) ?_
        exact rf_iret hx hb hr hlk hw ⟨by rw [mr_first, hn1, hf] <;> rfl, rfl⟩ dX1_firstSignal_48
      · exact absurd (by rw [en0, rf_ix24n, nI_add]; exact nI_le (by omega) (by omega)) c_17
    | succ n ih =>
      intro t H locs ls ht hf hw hl
      refine lv_iload_n hx hb dX1_firstSignal_5 rfl (lv_at hl 0 rfl) ?_
      refine lv_iload_n hx hb dX1_firstSignal_6 rfl (lv_at hl 2 rfl) ?_
      refine lv_bipush (v := 24) hx hb dX1_firstSignal_7 (by decide) ?_
      refine lv_imul hx hb dX1_firstSignal_9 ?_
      refine lv_aload_n hx hb dX1_firstSignal_10 rfl (lv_at hl 1 rfl) ?_
      refine mg_signals hx hb hts hown hw dX1_firstSignal_11 ?_
      refine lv_iload_n hx hb dX1_firstSignal_14 rfl (lv_at hl 2 rfl) ?_
      refine rf_ialdn (j := 11) (jx := k) hx hb hw (by decide) (by decide) rfl rfl hk (mln_lt 11) dX1_firstSignal_15 ?_
      refine lv_iadd hx hb dX1_firstSignal_16 ?_
      refine lv_icmp_ge (tgt := 47) hx hb dX1_firstSignal_17 (by decide) (fun c_17 => ?_) (fun c_17 => ?_)
      · exact absurd c_17 (by rw [en0, rf_ix24n, nI_add]; exact nI_ge (by omega) (by omega))
      · refine lv_aload_n hx hb dX1_firstSignal_20 rfl (lv_at hl 1 rfl) ?_
        refine mg_signalChannel hx hb hts hown hw dX1_firstSignal_21 ?_
        refine lv_iload_n hx hb dX1_firstSignal_24 rfl (lv_at hl 0 rfl) ?_
        refine rf_ialdn (j := 12) (jx := (k * 24 + t)) hx hb hw (by decide) (by decide) rfl rfl (show k * 24 + t < 72 by omega) (mln_lt 12) dX1_firstSignal_25 ?_
        refine lv_iload_n hx hb dX1_firstSignal_26 rfl (lv_at hl 3 rfl) ?_
        refine lv_icmp_ne (tgt := 41) hx hb dX1_firstSignal_27 (by decide) (fun c_27 => ?_) (fun c_27 => ?_)
        · refine lv_iinc (v := nI (k * 24 + (t + 1))) (lv' := [(3, .int _), (0, .ref _), (1, .int _), (2, .int _)]) hx hb dX1_firstSignal_41 hl (k := 0) rfl (nI_1 (k * 24 + t)) (by decide) rfl (fun ls hl => ?_)
          refine lv_goto (tgt := 5) hx hb dX1_firstSignal_44 (by decide) ?_
          exact ih (t + 1) _ _ _ (by omega) (by rw [hf, rf_find, if_neg (fun q => c_27 q.1)]) hw (lv_sub hl [0, 1, 2, 3] rfl)
        · refine lv_aload_n hx hb dX1_firstSignal_30 rfl (lv_at hl 1 rfl) ?_
          refine mg_signalTaken hx hb hts hown hw dX1_firstSignal_31 ?_
          refine lv_iload_n hx hb dX1_firstSignal_34 rfl (lv_at hl 0 rfl) ?_
          refine rf_zaldn (j := 14) (jx := (k * 24 + t)) hx hb hw (by decide) (by decide) rfl rfl (show k * 24 + t < 72 by omega) (mln_lt 14) dX1_firstSignal_35 ?_
          refine lv_if_ne (tgt := 41) hx hb dX1_firstSignal_36 (by decide) (fun c_36 => ?_) (fun c_36 => ?_)
          · refine lv_iinc (v := nI (k * 24 + (t + 1))) (lv' := [(3, .int _), (0, .ref _), (1, .int _), (2, .int _)]) hx hb dX1_firstSignal_41 hl (k := 0) rfl (nI_1 (k * 24 + t)) (by decide) rfl (fun ls hl => ?_)
            refine lv_goto (tgt := 5) hx hb dX1_firstSignal_44 (by decide) ?_
            exact ih (t + 1) _ _ _ (by omega) (by rw [hf, rf_find, if_neg (fun q => c_36 q.2)]) hw (lv_sub hl [0, 1, 2, 3] rfl)
          · refine lv_iload_n hx hb dX1_firstSignal_39 rfl (lv_at hl 0 rfl) ?_
            exact rf_iret hx hb hr hlk hw ⟨by rw [mr_first, hn1, hf, rf_find, if_pos ⟨c_27, c_36⟩], rfl⟩ dX1_firstSignal_40
  refine lv_iload_n hx hb dX1_firstSignal_0 rfl (lv_at hl 1 rfl) ?_
  refine lv_bipush (v := 24) hx hb dX1_firstSignal_1 (by decide) ?_
  refine lv_imul hx hb dX1_firstSignal_3 ?_
  rw [show (nI k) * 24 = nI (k * 24 + 0) from (rf_ix24n k)]
  refine lv_istore_n (lv' := [(3, .int _), (0, .ref _), (1, .int _), (2, .int _)]) hx hb dX1_firstSignal_4 rfl hl (by decide) rfl (fun ls hl => ?_)
  exact K5 n0 0 _ _ _ (by omega) rfl hw (lv_sub hl [0, 1, 2, 3] rfl)
theorem mk_firstSignal {p : Program} {l : Launch} {e : Env} {R : Room} {s : State} {m : MethodId} {args : Array Value} {below : List Frame} {meth : Method} {c : Code} {H : Heap} {locs : List Loc} {cells slots : Nat} {Q : State → Prop} {cc : ByteArray} {pc : Nat} {ls : Array Slot} {rest : List Value} {D : va_G} {g : Nat → Nat} {ca : Nat → ClassId} {σ : rf_Mem} {A : Nat → Prop} {nL : Nat} (S0 : CallFix p m c cc nL s args lw_all RX1) (hg : rf_g mS g) (hA : ∀ q, rf_A mS g q → A q) (hw : rf_w D vwCl mS g ca σ A s H locs) {k : Nat} {ch : Int32} (hk : k < 3) (hSg : rf_le (σ 11 k) 24) (hR : 0 + 1 ≤ R.frames ∧ 8 + (4 + 11) + 0 ≤ R.locals) (hls : ls.size = nL) (hst : (rest.map fun v => v.category).sum ≤ 8) (hdg : decode cc pc = .ok (.invokevirtual 85, 3)) (hf : cells ≤ R.cells ∧ slots ≤ R.slots)
    (kk : ∀ (H1 : Heap) (locs1 : List Loc), rf_w D vwCl mS g ca (σ) A s H1 locs1 → W p l e R s m args below meth c H1 locs1 cells slots Q (F0 m (pc + 3) ls (.int (mr_first σ k ch) :: rest))) : W p l e R s m args below meth c H locs cells slots Q (F0 m pc ls (.int ch :: .int (nI k) :: .ref (g 0) :: rest)) :=
  rf_calli S0 (mt_firstSignal l D ca hg σ k ch hk hSg) (cwV 2 S0.2.2.2.2 (lw_V q289 q291 qs17 q22 q292) rfl rfl rfl (by decide +kernel) hR) hw hA rfl rfl hls hst hdg hf rfl (fun H1 locs1 h _ _ => kk H1 locs1 h)

set_option maxHeartbeats 4000000 in
set_option maxRecDepth 100000 in
/-- pastWait -/
theorem mt_pastWait (l : Launch) (D : va_G) {g : Nat → Nat} (ca : Nat → ClassId) (hg : rf_g mS g) (σ : rf_Mem) (k : Nat) (z v : Int32) (hk : k < 3) (hpz : ¬ z = 0 → vp_in (σ 5 k) 16 ∧ vp_in (σ 2 (rf_ix (σ 5 k))) 4) : rf_Mv l yX1_pastWait cX1_pastWait 4 (rf_rm 0 0) D vwCl mS g ca σ [.int (nI k), .int z, .int v] (mm_pastWait σ k z v) := by
  refine rf_enter (by decide) (Nat.le_of_ble_eq_true rfl) ?_
  intro p e s m below meth c ls hx hb hr hlk hml hown hts hnm hB hl
  have hw : rf_w D vwCl mS g ca σ (rf_A mS g) s s.heap [] := ⟨hB.1, hB.2, va_S.rf⟩
  have hA : ∀ q, rf_A mS g q → rf_A mS g q := fun _ h => h
  have hl : lv_has ls 4 [(0, .ref (g 0)), (1, .int (nI k)), (2, .int z), (3, .int v)] := hl
  refine lv_iload_n hx hb dX1_pastWait_0 rfl (lv_at hl 2 rfl) ?_
  refine lv_if_eq (tgt := 25) hx hb dX1_pastWait_1 (by decide) (fun c_1 => ?_) (fun c_1 => ?_)
  · refine lv_aload_n hx hb dX1_pastWait_25 rfl (lv_at hl 0 rfl) ?_
    refine mg_places hx hb hts hown hw dX1_pastWait_26 ?_
    refine lv_iload_n hx hb dX1_pastWait_29 rfl (lv_at hl 1 rfl) ?_
    refine lv_dup2_11 hx hb dX1_pastWait_30 rfl rfl ?_
    refine rf_ialdn (j := 5) (jx := k) hx hb hw (by decide) (by decide) rfl rfl hk (mln_lt 5) dX1_pastWait_31 ?_
    refine lv_iconst (v := 1) hx hb dX1_pastWait_32 (by decide) ?_
    refine lv_iadd hx hb dX1_pastWait_33 ?_
    refine rf_iastn (j := 5) (jx := k) hx hb hg hA hw (by decide) (by decide) rfl rfl hk (mln_lt 5) dX1_pastWait_34 (fun H locs hw => ?_)
    refine lv_aload_n hx hb dX1_pastWait_35 rfl (lv_at hl 0 rfl) ?_
    refine mg_steps hx hb hts hown hw dX1_pastWait_36 ?_
    refine lv_iload_n hx hb dX1_pastWait_39 rfl (lv_at hl 1 rfl) ?_
    refine lv_iconst (v := 0) hx hb dX1_pastWait_40 (by decide) ?_
    refine rf_iastn (j := 6) (jx := k) hx hb hg hA hw (by decide) (by decide) rfl rfl hk (mln_lt 6) dX1_pastWait_41 (fun H locs hw => ?_)
    refine lv_aload_n hx hb dX1_pastWait_42 rfl (lv_at hl 0 rfl) ?_
    refine mg_over hx hb hts hown hw dX1_pastWait_43 ?_
    refine lv_iload_n hx hb dX1_pastWait_46 rfl (lv_at hl 1 rfl) ?_
    refine lv_dup2_11 hx hb dX1_pastWait_47 rfl rfl ?_
    refine rf_ialdn (j := 10) (jx := k) hx hb hw (by decide) (by decide) rfl rfl hk (mln_lt 10) dX1_pastWait_48 ?_
    refine lv_iconst (v := 1) hx hb dX1_pastWait_49 (by decide) ?_
    refine lv_iadd hx hb dX1_pastWait_50 ?_
    refine rf_iastn (j := 10) (jx := k) hx hb hg hA hw (by decide) (by decide) rfl rfl hk (mln_lt 10) dX1_pastWait_51 (fun H locs hw => ?_)
    exact rf_vret hx hb hr hlk hw (by rw [mm_pastWait, if_pos c_1] <;> rfl) dX1_pastWait_52
  · obtain ⟨hpl, has⟩ := hpz c_1
    refine lv_aload_n hx hb dX1_pastWait_4 rfl (lv_at hl 0 rfl) ?_
    refine mg_registers hx hb hts hown hw dX1_pastWait_5 ?_
    refine lv_iload_n hx hb dX1_pastWait_8 rfl (lv_at hl 1 rfl) ?_
    refine lv_iconst (v := 4) hx hb dX1_pastWait_9 (by decide) ?_
    refine lv_imul hx hb dX1_pastWait_10 ?_
    refine lv_aload_n hx hb dX1_pastWait_11 rfl (lv_at hl 0 rfl) ?_
    refine mg_as hx hb hts hown hw dX1_pastWait_12 ?_
    refine lv_aload_n hx hb dX1_pastWait_15 rfl (lv_at hl 0 rfl) ?_
    refine mg_places hx hb hts hown hw dX1_pastWait_16 ?_
    refine lv_iload_n hx hb dX1_pastWait_19 rfl (lv_at hl 1 rfl) ?_
    refine rf_ialdn (j := 5) (jx := k) hx hb hw (by decide) (by decide) rfl rfl hk (mln_lt 5) dX1_pastWait_20 ?_
    refine rf_iald (j := 2) hx hb hw (by decide) (by decide) rfl hpl dX1_pastWait_21 ?_
    refine lv_iadd hx hb dX1_pastWait_22 ?_
    refine lv_iload_n hx hb dX1_pastWait_23 rfl (lv_at hl 3 rfl) ?_
    refine rf_iastn (j := 7) (jx := (mm_fa σ k)) hx hb hg hA hw (by decide) (by decide) rfl (rf_ix4v k has (by decide)) (mm_r4 hk has) (mln_lt 7) dX1_pastWait_24 (fun H locs hw => ?_)
    refine lv_aload_n hx hb dX1_pastWait_25 rfl (lv_at hl 0 rfl) ?_
    refine mg_places hx hb hts hown hw dX1_pastWait_26 ?_
    refine lv_iload_n hx hb dX1_pastWait_29 rfl (lv_at hl 1 rfl) ?_
    refine lv_dup2_11 hx hb dX1_pastWait_30 rfl rfl ?_
    refine rf_ialdn (j := 5) (jx := k) hx hb hw (by decide) (by decide) rfl rfl hk (mln_lt 5) dX1_pastWait_31 ?_
    refine lv_iconst (v := 1) hx hb dX1_pastWait_32 (by decide) ?_
    refine lv_iadd hx hb dX1_pastWait_33 ?_
    refine rf_iastn (j := 5) (jx := k) hx hb hg hA hw (by decide) (by decide) rfl rfl hk (mln_lt 5) dX1_pastWait_34 (fun H locs hw => ?_)
    refine lv_aload_n hx hb dX1_pastWait_35 rfl (lv_at hl 0 rfl) ?_
    refine mg_steps hx hb hts hown hw dX1_pastWait_36 ?_
    refine lv_iload_n hx hb dX1_pastWait_39 rfl (lv_at hl 1 rfl) ?_
    refine lv_iconst (v := 0) hx hb dX1_pastWait_40 (by decide) ?_
    refine rf_iastn (j := 6) (jx := k) hx hb hg hA hw (by decide) (by decide) rfl rfl hk (mln_lt 6) dX1_pastWait_41 (fun H locs hw => ?_)
    refine lv_aload_n hx hb dX1_pastWait_42 rfl (lv_at hl 0 rfl) ?_
    refine mg_over hx hb hts hown hw dX1_pastWait_43 ?_
    refine lv_iload_n hx hb dX1_pastWait_46 rfl (lv_at hl 1 rfl) ?_
    refine lv_dup2_11 hx hb dX1_pastWait_47 rfl rfl ?_
    refine rf_ialdn (j := 10) (jx := k) hx hb hw (by decide) (by decide) rfl rfl hk (mln_lt 10) dX1_pastWait_48 ?_
    refine lv_iconst (v := 1) hx hb dX1_pastWait_49 (by decide) ?_
    refine lv_iadd hx hb dX1_pastWait_50 ?_
    refine rf_iastn (j := 10) (jx := k) hx hb hg hA hw (by decide) (by decide) rfl rfl hk (mln_lt 10) dX1_pastWait_51 (fun H locs hw => ?_)
    exact rf_vret hx hb hr hlk hw (by rw [mm_pastWait, if_neg c_1] <;> rfl) dX1_pastWait_52
theorem mk_pastWait {p : Program} {l : Launch} {e : Env} {R : Room} {s : State} {m : MethodId} {args : Array Value} {below : List Frame} {meth : Method} {c : Code} {H : Heap} {locs : List Loc} {cells slots : Nat} {Q : State → Prop} {cc : ByteArray} {pc : Nat} {ls : Array Slot} {rest : List Value} {D : va_G} {g : Nat → Nat} {ca : Nat → ClassId} {σ : rf_Mem} {A : Nat → Prop} {nL : Nat} (S0 : CallFix p m c cc nL s args lw_all RX1) (hg : rf_g mS g) (hA : ∀ q, rf_A mS g q → A q) (hw : rf_w D vwCl mS g ca σ A s H locs) {k : Nat} {z v : Int32} (hk : k < 3) (hpz : ¬ z = 0 → vp_in (σ 5 k) 16 ∧ vp_in (σ 2 (rf_ix (σ 5 k))) 4) (hR : 0 + 1 ≤ R.frames ∧ 8 + (4 + 11) + 0 ≤ R.locals) (hls : ls.size = nL) (hst : (rest.map fun v => v.category).sum ≤ 8) (hdg : decode cc pc = .ok (.invokevirtual 89, 3)) (hf : cells ≤ R.cells ∧ slots ≤ R.slots)
    (kk : ∀ (H1 : Heap) (locs1 : List Loc), rf_w D vwCl mS g ca (mm_pastWait σ k z v) A s H1 locs1 → W p l e R s m args below meth c H1 locs1 cells slots Q (F0 m (pc + 3) ls (rest))) : W p l e R s m args below meth c H locs cells slots Q (F0 m pc ls (.int v :: .int z :: .int (nI k) :: .ref (g 0) :: rest)) :=
  rf_callv S0 (mt_pastWait l D ca hg σ k z v hk hpz) (cwV 3 S0.2.2.2.2 (lw_V q293 q295 qs18 q22 q296) rfl rfl rfl (by decide +kernel) hR) hw hA rfl rfl hls hst hdg hf rfl (fun H1 locs1 h _ _ => kk H1 locs1 h)
end
section
set_option maxHeartbeats 4000000 in
set_option maxRecDepth 100000 in
/-- waits: a wait or the end -/
theorem mt_waits (l : Launch) (D : va_G) {g : Nat → Nat} (ca : Nat → ClassId) (hg : rf_g mS g) (σ : rf_Mem) (k : Nat) (hk : k < 3) (hok : mm_ok σ k) (hpl : vp_in (σ 5 k) 16) : rf_Mi l yX1_waits cX1_waits 5 .boolean (rf_rm 1 23) D vwCl mS g ca σ [.int (nI k)] (mr_waits σ k) (mm_waits σ k) := by
  refine rf_enter (by decide) (Nat.le_of_ble_eq_true rfl) ?_
  intro p e s m below meth c ls hx hb hr hlk hml hown hts hnm hB hl
  have hw : rf_w D vwCl mS g ca σ (rf_A mS g) s s.heap [] := ⟨hB.1, hB.2, va_S.rf⟩
  have hA : ∀ q, rf_A mS g q → rf_A mS g q := fun _ h => h
  have hl : lv_has ls 5 [(0, .ref (g 0)), (1, .int (nI k))] := hl
  have has := mm_as hok hpl
  refine lv_aload_n hx hb dX1_waits_0 rfl (lv_at hl 0 rfl) ?_
  refine mg_places hx hb hts hown hw dX1_waits_1 ?_
  refine lv_iload_n hx hb dX1_waits_4 rfl (lv_at hl 1 rfl) ?_
  refine rf_ialdn (j := 5) (jx := k) hx hb hw (by decide) (by decide) rfl rfl hk (mln_lt 5) dX1_waits_5 ?_
  refine lv_istore_n (lv' := [(2, .int _), (0, .ref _), (1, .int _)]) hx hb dX1_waits_6 rfl hl (by decide) rfl (fun ls hl => ?_)
  refine lv_aload_n hx hb dX1_waits_7 rfl (lv_at hl 1 rfl) ?_
  refine mg_ops hx hb hts hown hw dX1_waits_8 ?_
  refine lv_iload_n hx hb dX1_waits_11 rfl (lv_at hl 0 rfl) ?_
  refine rf_iald (j := 1) hx hb hw (by decide) (by decide) rfl hpl dX1_waits_12 ?_
  refine lv_istore_n (lv' := [(3, .int _), (2, .int _), (0, .ref _), (1, .int _)]) hx hb dX1_waits_13 rfl hl (by decide) rfl (fun ls hl => ?_)
  refine lv_iload_n hx hb dX1_waits_14 rfl (lv_at hl 0 rfl) ?_
  refine lv_bipush (v := 8) hx hb dX1_waits_15 (by decide) ?_
  refine lv_icmp_ne (tgt := 40) hx hb dX1_waits_17 (by decide) (fun (c_17 : ¬ mm_op σ k = 8) => ?_) (fun (c_17 : mm_op σ k = 8) => ?_)
  · refine lv_iload_n hx hb dX1_waits_40 rfl (lv_at hl 0 rfl) ?_
    refine lv_iconst (v := 5) hx hb dX1_waits_41 (by decide) ?_
    refine lv_icmp_ne (tgt := 52) hx hb dX1_waits_42 (by decide) (fun (c_42 : ¬ mm_op σ k = 5) => ?_) (fun (c_42 : mm_op σ k = 5) => ?_)
    · refine lv_iload_n hx hb dX1_waits_52 rfl (lv_at hl 0 rfl) ?_
      refine lv_bipush (v := 6) hx hb dX1_waits_53 (by decide) ?_
      refine lv_icmp_ne (tgt := 112) hx hb dX1_waits_55 (by decide) (fun (c_55 : ¬ mm_op σ k = 6) => ?_) (fun (c_55 : mm_op σ k = 6) => ?_)
      · refine lv_iload_n hx hb dX1_waits_112 rfl (lv_at hl 0 rfl) ?_
        refine lv_bipush (v := 7) hx hb dX1_waits_113 (by decide) ?_
        refine lv_icmp_eq (tgt := 120) hx hb dX1_waits_115 (by decide) (fun (c_115 : mm_op σ k = 7) => ?_) (fun (c_115 : ¬ mm_op σ k = 7) => ?_)
        · refine lv_aload_n hx hb dX1_waits_120 rfl (lv_at hl 2 rfl) ?_
          refine lv_iload_n hx hb dX1_waits_121 rfl (lv_at hl 3 rfl) ?_
          refine lv_aload_n hx hb dX1_waits_122 rfl (lv_at hl 2 rfl) ?_
          refine mg_bs hx hb hts hown hw dX1_waits_123 ?_
          refine lv_iload_n hx hb dX1_waits_126 rfl (lv_at hl 1 rfl) ?_
          refine rf_iald (j := 3) hx hb hw (by decide) (by decide) rfl hpl dX1_waits_127 ?_
          refine lv_iconst (v := 1) hx hb dX1_waits_128 (by decide) ?_
          refine lv_iand hx hb dX1_waits_129 ?_
          refine mk_firstSignal ⟨hx, hb, hml, hown, hts⟩ hg hA hw hk hok.2.1 ⟨Nat.le_of_ble_eq_true rfl, Nat.le_of_ble_eq_true rfl⟩ hl.1 (Nat.le_of_ble_eq_true rfl) dX1_waits_130 ⟨Nat.le_refl _, Nat.le_refl _⟩ (fun H locs hw => ?_)
          refine lv_istore (lv' := [(4, .int _), (3, .int _), (2, .int _), (0, .ref _), (1, .int _)]) hx hb dX1_waits_133 hl (by decide) rfl (fun ls hl => ?_)
          refine lv_aload_n hx hb dX1_waits_135 rfl (lv_at hl 3 rfl) ?_
          refine mg_states hx hb hts hown hw dX1_waits_136 ?_
          refine lv_iload_n hx hb dX1_waits_139 rfl (lv_at hl 4 rfl) ?_
          refine lv_iconst (v := 3) hx hb dX1_waits_140 (by decide) ?_
          refine rf_iastn (j := 4) (jx := k) hx hb hg hA hw (by decide) (by decide) rfl rfl hk (mln_lt 4) dX1_waits_141 (fun H locs hw => ?_)
          refine lv_iload hx hb dX1_waits_142 (lv_at hl 0 rfl) ?_
          refine lv_if_ge (tgt := 149) hx hb dX1_waits_144 (by decide) (fun (c_144 : 0 ≤ mr_first σ k (mm_se σ k &&& 1)) => ?_) (fun (c_144 : ¬ 0 ≤ mr_first σ k (mm_se σ k &&& 1)) => ?_)
          · obtain ⟨i, hf1, hf2, hi3⟩ := mm_fs hok.2.1 c_144
            refine lv_aload_n hx hb dX1_waits_149 rfl (lv_at hl 3 rfl) ?_
            refine mg_signalTaken hx hb hts hown hw dX1_waits_150 ?_
            refine lv_iload hx hb dX1_waits_153 (lv_at hl 0 rfl) ?_
            refine lv_iconst (v := 1) hx hb dX1_waits_155 (by decide) ?_
            refine rf_zastn (j := 14) (jx := i) hx hb hg hA hw (by decide) (by decide) rfl rfl hf2 (show i < 72 by omega) (mln_lt 14) dX1_waits_156 (fun H locs hw => ?_)
            refine lv_aload_n hx hb dX1_waits_157 rfl (lv_at hl 3 rfl) ?_
            refine lv_iload_n hx hb dX1_waits_158 rfl (lv_at hl 4 rfl) ?_
            refine lv_iconst (v := 1) hx hb dX1_waits_159 (by decide) ?_
            refine lv_aload_n hx hb dX1_waits_160 rfl (lv_at hl 3 rfl) ?_
            refine mg_signalValue hx hb hts hown hw dX1_waits_161 ?_
            refine lv_iload hx hb dX1_waits_164 (lv_at hl 0 rfl) ?_
            refine rf_ialdn (j := 13) (jx := i) hx hb hw (by decide) (by decide) rfl hf2 (show i < 72 by omega) (mln_lt 13) dX1_waits_166 ?_
            refine mk_pastWait ⟨hx, hb, hml, hown, hts⟩ hg hA hw hk (fun _ => ⟨hpl, has⟩) ⟨Nat.le_of_ble_eq_true rfl, Nat.le_of_ble_eq_true rfl⟩ hl.1 (Nat.le_of_ble_eq_true rfl) dX1_waits_167 ⟨Nat.le_refl _, Nat.le_refl _⟩ (fun H locs hw => ?_)
            refine lv_iconst (v := 1) hx hb dX1_waits_170 (by decide) ?_
            exact rf_zret hx hb hr hlk rfl hw ⟨by rw [mr_waits, if_pos c_115, mr_take, hf1] <;> rfl, by rw [mm_waits, if_neg c_17, if_neg c_42, if_neg c_55, if_pos c_115, mm_take, hf1] <;> rfl⟩ dX1_waits_171
          · refine lv_iconst (v := 0) hx hb dX1_waits_147 (by decide) ?_
            exact rf_zret hx hb hr hlk rfl hw ⟨by rw [mr_waits, if_pos c_115, mr_take, (mm_fn hk hok.2.1 c_144)] <;> rfl, by rw [mm_waits, if_neg c_17, if_neg c_42, if_neg c_55, if_pos c_115, mm_take, (mm_fn hk hok.2.1 c_144)] <;> rfl⟩ dX1_waits_148
        · refine lv_iconst (v := 0) hx hb dX1_waits_118 (by decide) ?_
          exact rf_zret hx hb hr hlk rfl hw ⟨by rw [mr_waits, if_neg c_115] <;> rfl, by rw [mm_waits, if_neg c_17, if_neg c_42, if_neg c_55, if_neg c_115] <;> rfl⟩ dX1_waits_119
      · refine lv_aload_n hx hb dX1_waits_58 rfl (lv_at hl 2 rfl) ?_
        refine mg_states hx hb hts hown hw dX1_waits_59 ?_
        refine lv_iload_n hx hb dX1_waits_62 rfl (lv_at hl 3 rfl) ?_
        refine lv_iconst (v := 2) hx hb dX1_waits_63 (by decide) ?_
        refine rf_iastn (j := 4) (jx := k) hx hb hg hA hw (by decide) (by decide) rfl rfl hk (mln_lt 4) dX1_waits_64 (fun H locs hw => ?_)
        refine lv_aload_n hx hb dX1_waits_65 rfl (lv_at hl 2 rfl) ?_
        refine mg_wakes hx hb hts hown hw dX1_waits_66 ?_
        refine lv_iload_n hx hb dX1_waits_69 rfl (lv_at hl 3 rfl) ?_
        refine lv_aload_n hx hb dX1_waits_70 rfl (lv_at hl 2 rfl) ?_
        refine mg_now hx hb hts hown hw dX1_waits_71 ?_
        refine lv_aload_n hx hb dX1_waits_74 rfl (lv_at hl 2 rfl) ?_
        refine mg_bs hx hb hts hown hw dX1_waits_75 ?_
        refine lv_iload_n hx hb dX1_waits_78 rfl (lv_at hl 1 rfl) ?_
        refine rf_iald (j := 3) hx hb hw (by decide) (by decide) rfl hpl dX1_waits_79 ?_
        refine lv_iconst (v := 1) hx hb dX1_waits_80 (by decide) ?_
        refine lv_icmp_ge (tgt := 88) hx hb dX1_waits_81 (by decide) (fun (c_81 : 1 ≤ mm_se σ k) => ?_) (fun (c_81 : ¬ 1 ≤ mm_se σ k) => ?_)
        · refine lv_aload_n hx hb dX1_waits_88 rfl (lv_at hl 2 rfl) ?_
          refine mg_bs hx hb hts hown hw dX1_waits_89 ?_
          refine lv_iload_n hx hb dX1_waits_92 rfl (lv_at hl 1 rfl) ?_
          refine rf_iald (j := 3) hx hb hw (by decide) (by decide) rfl hpl dX1_waits_93 ?_
          refine lv_bipush (v := 100) hx hb dX1_waits_94 (by decide) ?_
          refine lv_icmp_le (tgt := 104) hx hb dX1_waits_96 (by decide) (fun (c_96 : mm_se σ k ≤ 100) => ?_) (fun (c_96 : ¬ mm_se σ k ≤ 100) => ?_)
          · refine lv_aload_n hx hb dX1_waits_104 rfl (lv_at hl 2 rfl) ?_
            refine mg_bs hx hb hts hown hw dX1_waits_105 ?_
            refine lv_iload_n hx hb dX1_waits_108 rfl (lv_at hl 1 rfl) ?_
            refine rf_iald (j := 3) hx hb hw (by decide) (by decide) rfl hpl dX1_waits_109 ?_
            refine lv_iadd hx hb dX1_waits_110 ?_
            refine rf_iastn (j := 9) (jx := k) hx hb hg hA hw (by decide) (by decide) rfl rfl hk (mln_lt 9) dX1_waits_111 (fun H locs hw => ?_)
            refine lv_iload_n hx hb dX1_waits_112 rfl (lv_at hl 0 rfl) ?_
            refine lv_bipush (v := 7) hx hb dX1_waits_113 (by decide) ?_
            refine lv_icmp_eq (tgt := 120) hx hb dX1_waits_115 (by decide) (fun (c_115 : mm_op σ k = 7) => ?_) (fun (c_115 : ¬ mm_op σ k = 7) => ?_)
            · exact absurd (c_55.symm.trans c_115) (by decide)
            · refine lv_iconst (v := 0) hx hb dX1_waits_118 (by decide) ?_
              exact rf_zret hx hb hr hlk rfl hw ⟨by rw [mr_waits, if_neg c_115] <;> rfl, by rw [mm_waits, if_neg c_17, if_neg c_42, if_pos c_55, rf_clamp, if_pos c_81, if_pos c_96] <;> rfl⟩ dX1_waits_119
          · refine lv_bipush (v := 100) hx hb dX1_waits_99 (by decide) ?_
            refine lv_goto (tgt := 110) hx hb dX1_waits_101 (by decide) ?_
            refine lv_iadd hx hb dX1_waits_110 ?_
            refine rf_iastn (j := 9) (jx := k) hx hb hg hA hw (by decide) (by decide) rfl rfl hk (mln_lt 9) dX1_waits_111 (fun H locs hw => ?_)
            refine lv_iload_n hx hb dX1_waits_112 rfl (lv_at hl 0 rfl) ?_
            refine lv_bipush (v := 7) hx hb dX1_waits_113 (by decide) ?_
            refine lv_icmp_eq (tgt := 120) hx hb dX1_waits_115 (by decide) (fun (c_115 : mm_op σ k = 7) => ?_) (fun (c_115 : ¬ mm_op σ k = 7) => ?_)
            · exact absurd (c_55.symm.trans c_115) (by decide)
            · refine lv_iconst (v := 0) hx hb dX1_waits_118 (by decide) ?_
              exact rf_zret hx hb hr hlk rfl hw ⟨by rw [mr_waits, if_neg c_115] <;> rfl, by rw [mm_waits, if_neg c_17, if_neg c_42, if_pos c_55, rf_clamp, if_pos c_81, if_neg c_96] <;> rfl⟩ dX1_waits_119
        · refine lv_iconst (v := 1) hx hb dX1_waits_84 (by decide) ?_
          refine lv_goto (tgt := 110) hx hb dX1_waits_85 (by decide) ?_
          refine lv_iadd hx hb dX1_waits_110 ?_
          refine rf_iastn (j := 9) (jx := k) hx hb hg hA hw (by decide) (by decide) rfl rfl hk (mln_lt 9) dX1_waits_111 (fun H locs hw => ?_)
          refine lv_iload_n hx hb dX1_waits_112 rfl (lv_at hl 0 rfl) ?_
          refine lv_bipush (v := 7) hx hb dX1_waits_113 (by decide) ?_
          refine lv_icmp_eq (tgt := 120) hx hb dX1_waits_115 (by decide) (fun (c_115 : mm_op σ k = 7) => ?_) (fun (c_115 : ¬ mm_op σ k = 7) => ?_)
          · exact absurd (c_55.symm.trans c_115) (by decide)
          · refine lv_iconst (v := 0) hx hb dX1_waits_118 (by decide) ?_
            exact rf_zret hx hb hr hlk rfl hw ⟨by rw [mr_waits, if_neg c_115] <;> rfl, by rw [mm_waits, if_neg c_17, if_neg c_42, if_pos c_55, rf_clamp, if_neg c_81] <;> rfl⟩ dX1_waits_119
    · refine lv_aload_n hx hb dX1_waits_45 rfl (lv_at hl 2 rfl) ?_
      refine mg_states hx hb hts hown hw dX1_waits_46 ?_
      refine lv_iload_n hx hb dX1_waits_49 rfl (lv_at hl 3 rfl) ?_
      refine lv_iconst (v := 1) hx hb dX1_waits_50 (by decide) ?_
      refine rf_iastn (j := 4) (jx := k) hx hb hg hA hw (by decide) (by decide) rfl rfl hk (mln_lt 4) dX1_waits_51 (fun H locs hw => ?_)
      refine lv_iload_n hx hb dX1_waits_52 rfl (lv_at hl 0 rfl) ?_
      refine lv_bipush (v := 6) hx hb dX1_waits_53 (by decide) ?_
      refine lv_icmp_ne (tgt := 112) hx hb dX1_waits_55 (by decide) (fun (c_55 : ¬ mm_op σ k = 6) => ?_) (fun (c_55 : mm_op σ k = 6) => ?_)
      · refine lv_iload_n hx hb dX1_waits_112 rfl (lv_at hl 0 rfl) ?_
        refine lv_bipush (v := 7) hx hb dX1_waits_113 (by decide) ?_
        refine lv_icmp_eq (tgt := 120) hx hb dX1_waits_115 (by decide) (fun (c_115 : mm_op σ k = 7) => ?_) (fun (c_115 : ¬ mm_op σ k = 7) => ?_)
        · exact absurd (c_42.symm.trans c_115) (by decide)
        · refine lv_iconst (v := 0) hx hb dX1_waits_118 (by decide) ?_
          exact rf_zret hx hb hr hlk rfl hw ⟨by rw [mr_waits, if_neg c_115] <;> rfl, by rw [mm_waits, if_neg c_17, if_pos c_42] <;> rfl⟩ dX1_waits_119
      · exact absurd (c_42.symm.trans c_55) (by decide)
  · refine lv_aload_n hx hb dX1_waits_20 rfl (lv_at hl 2 rfl) ?_
    refine lv_iload_n hx hb dX1_waits_21 rfl (lv_at hl 3 rfl) ?_
    refine lv_aload_n hx hb dX1_waits_22 rfl (lv_at hl 2 rfl) ?_
    refine mg_registers hx hb hts hown hw dX1_waits_23 ?_
    refine lv_iload_n hx hb dX1_waits_26 rfl (lv_at hl 3 rfl) ?_
    refine lv_iconst (v := 4) hx hb dX1_waits_27 (by decide) ?_
    refine lv_imul hx hb dX1_waits_28 ?_
    refine lv_aload_n hx hb dX1_waits_29 rfl (lv_at hl 2 rfl) ?_
    refine mg_as hx hb hts hown hw dX1_waits_30 ?_
    refine lv_iload_n hx hb dX1_waits_33 rfl (lv_at hl 1 rfl) ?_
    refine rf_iald (j := 2) hx hb hw (by decide) (by decide) rfl hpl dX1_waits_34 ?_
    refine lv_iadd hx hb dX1_waits_35 ?_
    refine rf_ialdn (j := 7) (jx := (mm_fa σ k)) hx hb hw (by decide) (by decide) rfl (rf_ix4v k has (by decide)) (mm_r4 hk has) (mln_lt 7) dX1_waits_36 ?_
    refine mk_end ⟨hx, hb, hml, hown, hts⟩ hg hA hw hk ⟨Nat.le_of_ble_eq_true rfl, Nat.le_of_ble_eq_true rfl⟩ hl.1 (Nat.le_of_ble_eq_true rfl) dX1_waits_37 ⟨Nat.le_refl _, Nat.le_refl _⟩ (fun H locs hw => ?_)
    refine lv_iload_n hx hb dX1_waits_40 rfl (lv_at hl 0 rfl) ?_
    refine lv_iconst (v := 5) hx hb dX1_waits_41 (by decide) ?_
    refine lv_icmp_ne (tgt := 52) hx hb dX1_waits_42 (by decide) (fun (c_42 : ¬ mm_op σ k = 5) => ?_) (fun (c_42 : mm_op σ k = 5) => ?_)
    · refine lv_iload_n hx hb dX1_waits_52 rfl (lv_at hl 0 rfl) ?_
      refine lv_bipush (v := 6) hx hb dX1_waits_53 (by decide) ?_
      refine lv_icmp_ne (tgt := 112) hx hb dX1_waits_55 (by decide) (fun (c_55 : ¬ mm_op σ k = 6) => ?_) (fun (c_55 : mm_op σ k = 6) => ?_)
      · refine lv_iload_n hx hb dX1_waits_112 rfl (lv_at hl 0 rfl) ?_
        refine lv_bipush (v := 7) hx hb dX1_waits_113 (by decide) ?_
        refine lv_icmp_eq (tgt := 120) hx hb dX1_waits_115 (by decide) (fun (c_115 : mm_op σ k = 7) => ?_) (fun (c_115 : ¬ mm_op σ k = 7) => ?_)
        · exact absurd (c_17.symm.trans c_115) (by decide)
        · refine lv_iconst (v := 0) hx hb dX1_waits_118 (by decide) ?_
          exact rf_zret hx hb hr hlk rfl hw ⟨by rw [mr_waits, if_neg c_115] <;> rfl, by rw [mm_waits, if_pos c_17] <;> rfl⟩ dX1_waits_119
      · exact absurd (c_17.symm.trans c_55) (by decide)
    · exact absurd (c_17.symm.trans c_42) (by decide)
theorem mk_waits {p : Program} {l : Launch} {e : Env} {R : Room} {s : State} {m : MethodId} {args : Array Value} {below : List Frame} {meth : Method} {c : Code} {H : Heap} {locs : List Loc} {cells slots : Nat} {Q : State → Prop} {cc : ByteArray} {pc : Nat} {ls : Array Slot} {rest : List Value} {D : va_G} {g : Nat → Nat} {ca : Nat → ClassId} {σ : rf_Mem} {A : Nat → Prop} {nL : Nat} (S0 : CallFix p m c cc nL s args lw_all RX1) (hg : rf_g mS g) (hA : ∀ q, rf_A mS g q → A q) (hw : rf_w D vwCl mS g ca σ A s H locs) {k : Nat} (hk : k < 3) (hok : mm_ok σ k) (hpl : vp_in (σ 5 k) 16) (hR : 1 + 1 ≤ R.frames ∧ 8 + (5 + 11) + 23 ≤ R.locals) (hls : ls.size = nL) (hst : (rest.map fun v => v.category).sum ≤ 8) (hdg : decode cc pc = .ok (.invokevirtual 76, 3)) (hf : cells ≤ R.cells ∧ slots ≤ R.slots)
    (kk : ∀ (H1 : Heap) (locs1 : List Loc), rf_w D vwCl mS g ca (mm_waits σ k) A s H1 locs1 → W p l e R s m args below meth c H1 locs1 cells slots Q (F0 m (pc + 3) ls (.int (mr_waits σ k) :: rest))) : W p l e R s m args below meth c H locs cells slots Q (F0 m pc ls (.int (nI k) :: .ref (g 0) :: rest)) :=
  rf_calli S0 (mt_waits l D ca hg σ k hk hok hpl) (cwV 1 S0.2.2.2.2 (lw_V q285 q287 qs16 q22 q288) rfl rfl rfl (by decide +kernel) hR) hw hA rfl rfl hls hst hdg hf rfl (fun H1 locs1 h _ _ => kk H1 locs1 h)

set_option maxHeartbeats 4000000 in
set_option maxRecDepth 100000 in
/-- plain -/
theorem mt_plain (l : Launch) (D : va_G) {g : Nat → Nat} (ca : Nat → ClassId) (hg : rf_g mS g) (σ : rf_Mem) (k : Nat) (hk : k < 3) (hok : mm_ok σ k) (hpl : vp_in (σ 5 k) 16) : rf_Mv l yX1_plain cX1_plain 6 (rf_rm 0 0) D vwCl mS g ca σ [.int (nI k)] (mm_plain σ k) := by
  refine rf_enter (by decide) (Nat.le_of_ble_eq_true rfl) ?_
  intro p e s m below meth c ls hx hb hr hlk hml hown hts hnm hB hl
  have hw : rf_w D vwCl mS g ca σ (rf_A mS g) s s.heap [] := ⟨hB.1, hB.2, va_S.rf⟩
  have hA : ∀ q, rf_A mS g q → rf_A mS g q := fun _ h => h
  have hl : lv_has ls 6 [(0, .ref (g 0)), (1, .int (nI k))] := hl
  have has := mm_as hok hpl
  have K109 : ∀ (σ1 : rf_Mem) (H : Heap) (locs : List Loc) (ls : Array Slot), σ1 1 (rf_ix (σ 5 k)) = mm_op σ k → mm_plain σ k = mm_plain4 σ1 k (mm_op σ k) (mm_se σ k) (mm_fa σ k) → rf_w D vwCl mS g ca σ1 (rf_A mS g) s H locs → lv_has ls 6 [(2, .int (σ 5 k)), (3, .int (nI (mm_fa σ k))), (4, .int (mm_se σ k)), (5, .int (σ 7 (k * 4 + rf_q (mm_se σ k)))), (0, .ref (g 0)), (1, .int (nI k))] → W p l e (rf_rm 0 0) s m ([.ref (g 0), .int (nI k)] : List Value).toArray below meth c H locs 0 0 (MQ below (va_Qv (fun σ' => σ' = mm_plain σ k) (rf_J D vwCl mS g ca) (rf_A mS g)) ([.ref (g 0), .int (nI k)] : List Value).toArray s 0 0 (rf_A mS g)) (F0 m 109 ls []) := by
    intro σ1 H locs ls hop he hw hl
    refine lv_aload_n hx hb dX1_plain_109 rfl (lv_at hl 4 rfl) ?_
    refine mg_ops hx hb hts hown hw dX1_plain_110 ?_
    refine lv_iload_n hx hb dX1_plain_113 rfl (lv_at hl 0 rfl) ?_
    refine rf_iald (j := 1) hx hb hw (by decide) (by decide) rfl hpl dX1_plain_114 ?_
    rw [hop]
    refine lv_iconst (v := 3) hx hb dX1_plain_115 (by decide) ?_
    refine lv_icmp_eq (tgt := 138) hx hb dX1_plain_116 (by decide) (fun c_116 => ?_) (fun c_116 => ?_)
    · refine lv_aload_n hx hb dX1_plain_138 rfl (lv_at hl 4 rfl) ?_
      refine mg_places hx hb hts hown hw dX1_plain_139 ?_
      refine lv_iload_n hx hb dX1_plain_142 rfl (lv_at hl 5 rfl) ?_
      refine lv_iload hx hb dX1_plain_143 (lv_at hl 2 rfl) ?_
      refine rf_iastn (j := 5) (jx := k) hx hb hg hA hw (by decide) (by decide) rfl rfl hk (mln_lt 5) dX1_plain_145 (fun H locs hw => ?_)
      exact rf_vret hx hb hr hlk hw (by rw [he, mm_plain4, if_pos c_116] <;> rfl) dX1_plain_146
    · refine lv_aload_n hx hb dX1_plain_119 rfl (lv_at hl 4 rfl) ?_
      refine mg_ops hx hb hts hown hw dX1_plain_120 ?_
      refine lv_iload_n hx hb dX1_plain_123 rfl (lv_at hl 0 rfl) ?_
      refine rf_iald (j := 1) hx hb hw (by decide) (by decide) rfl hpl dX1_plain_124 ?_
      rw [hop]
      refine lv_iconst (v := 4) hx hb dX1_plain_125 (by decide) ?_
      refine lv_icmp_ne (tgt := 146) hx hb dX1_plain_126 (by decide) (fun c_126 => ?_) (fun c_126 => ?_)
      · exact rf_vret hx hb hr hlk hw (by rw [he, mm_plain4, if_neg c_116, if_neg c_126] <;> rfl) dX1_plain_146
      · refine lv_aload_n hx hb dX1_plain_129 rfl (lv_at hl 4 rfl) ?_
        refine mg_registers hx hb hts hown hw dX1_plain_130 ?_
        refine lv_iload_n hx hb dX1_plain_133 rfl (lv_at hl 1 rfl) ?_
        refine rf_ialdn (j := 7) (jx := (mm_fa σ k)) hx hb hw (by decide) (by decide) rfl rfl (mm_r4 hk has) (mln_lt 7) dX1_plain_134 ?_
        refine lv_if_le (tgt := 146) hx hb dX1_plain_135 (by decide) (fun c_135 => ?_) (fun c_135 => ?_)
        · exact rf_vret hx hb hr hlk hw (by rw [he, mm_plain4, if_neg c_116, if_pos c_126, if_pos c_135] <;> rfl) dX1_plain_146
        · refine lv_aload_n hx hb dX1_plain_138 rfl (lv_at hl 4 rfl) ?_
          refine mg_places hx hb hts hown hw dX1_plain_139 ?_
          refine lv_iload_n hx hb dX1_plain_142 rfl (lv_at hl 5 rfl) ?_
          refine lv_iload hx hb dX1_plain_143 (lv_at hl 2 rfl) ?_
          refine rf_iastn (j := 5) (jx := k) hx hb hg hA hw (by decide) (by decide) rfl rfl hk (mln_lt 5) dX1_plain_145 (fun H locs hw => ?_)
          exact rf_vret hx hb hr hlk hw (by rw [he, mm_plain4, if_neg c_116, if_pos c_126, if_neg c_135] <;> rfl) dX1_plain_146
  have K88 : ∀ (σ1 : rf_Mem) (H : Heap) (locs : List Loc) (ls : Array Slot), σ1 1 (rf_ix (σ 5 k)) = mm_op σ k → mm_plain σ k = mm_plain3 σ1 k (mm_op σ k) (mm_se σ k) (σ 7 (k * 4 + rf_q (mm_se σ k))) (mm_fa σ k) → rf_w D vwCl mS g ca σ1 (rf_A mS g) s H locs → lv_has ls 6 [(2, .int (σ 5 k)), (3, .int (nI (mm_fa σ k))), (4, .int (mm_se σ k)), (5, .int (σ 7 (k * 4 + rf_q (mm_se σ k)))), (0, .ref (g 0)), (1, .int (nI k))] → W p l e (rf_rm 0 0) s m ([.ref (g 0), .int (nI k)] : List Value).toArray below meth c H locs 0 0 (MQ below (va_Qv (fun σ' => σ' = mm_plain σ k) (rf_J D vwCl mS g ca) (rf_A mS g)) ([.ref (g 0), .int (nI k)] : List Value).toArray s 0 0 (rf_A mS g)) (F0 m 88 ls []) := by
    intro σ1 H locs ls hop he hw hl
    refine lv_aload_n hx hb dX1_plain_88 rfl (lv_at hl 4 rfl) ?_
    refine mg_ops hx hb hts hown hw dX1_plain_89 ?_
    refine lv_iload_n hx hb dX1_plain_92 rfl (lv_at hl 0 rfl) ?_
    refine rf_iald (j := 1) hx hb hw (by decide) (by decide) rfl hpl dX1_plain_93 ?_
    rw [hop]
    refine lv_iconst (v := 2) hx hb dX1_plain_94 (by decide) ?_
    refine lv_icmp_ne (tgt := 109) hx hb dX1_plain_95 (by decide) (fun c_95 => ?_) (fun c_95 => ?_)
    · exact K109 σ1 _ _ _ hop (by rw [he, mm_plain3, if_neg c_95]) hw (lv_sub hl [0, 1, 2, 3, 4, 5] rfl)
    · refine lv_aload_n hx hb dX1_plain_98 rfl (lv_at hl 4 rfl) ?_
      refine mg_registers hx hb hts hown hw dX1_plain_99 ?_
      refine lv_iload_n hx hb dX1_plain_102 rfl (lv_at hl 1 rfl) ?_
      refine lv_dup2_11 hx hb dX1_plain_103 rfl rfl ?_
      refine rf_ialdn (j := 7) (jx := (mm_fa σ k)) hx hb hw (by decide) (by decide) rfl rfl (mm_r4 hk has) (mln_lt 7) dX1_plain_104 ?_
      refine lv_iload hx hb dX1_plain_105 (lv_at hl 3 rfl) ?_
      refine lv_isub hx hb dX1_plain_107 ?_
      refine rf_iastn (j := 7) (jx := (mm_fa σ k)) hx hb hg hA hw (by decide) (by decide) rfl rfl (mm_r4 hk has) (mln_lt 7) dX1_plain_108 (fun H locs hw => ?_)
      exact K109 (rf_wr σ1 7 (mm_fa σ k) ((σ1 7 (mm_fa σ k)) - (σ 7 (k * 4 + rf_q (mm_se σ k))))) _ _ _ hop (by rw [he, mm_plain3, if_pos c_95]) hw (lv_sub hl [0, 1, 2, 3, 4, 5] rfl)
  have K67 : ∀ (σ1 : rf_Mem) (H : Heap) (locs : List Loc) (ls : Array Slot), σ1 1 (rf_ix (σ 5 k)) = mm_op σ k → mm_plain σ k = mm_plain2 σ1 k (mm_op σ k) (mm_se σ k) (σ 7 (k * 4 + rf_q (mm_se σ k))) (mm_fa σ k) → rf_w D vwCl mS g ca σ1 (rf_A mS g) s H locs → lv_has ls 6 [(2, .int (σ 5 k)), (3, .int (nI (mm_fa σ k))), (4, .int (mm_se σ k)), (5, .int (σ 7 (k * 4 + rf_q (mm_se σ k)))), (0, .ref (g 0)), (1, .int (nI k))] → W p l e (rf_rm 0 0) s m ([.ref (g 0), .int (nI k)] : List Value).toArray below meth c H locs 0 0 (MQ below (va_Qv (fun σ' => σ' = mm_plain σ k) (rf_J D vwCl mS g ca) (rf_A mS g)) ([.ref (g 0), .int (nI k)] : List Value).toArray s 0 0 (rf_A mS g)) (F0 m 67 ls []) := by
    intro σ1 H locs ls hop he hw hl
    refine lv_aload_n hx hb dX1_plain_67 rfl (lv_at hl 4 rfl) ?_
    refine mg_ops hx hb hts hown hw dX1_plain_68 ?_
    refine lv_iload_n hx hb dX1_plain_71 rfl (lv_at hl 0 rfl) ?_
    refine rf_iald (j := 1) hx hb hw (by decide) (by decide) rfl hpl dX1_plain_72 ?_
    rw [hop]
    refine lv_iconst (v := 1) hx hb dX1_plain_73 (by decide) ?_
    refine lv_icmp_ne (tgt := 88) hx hb dX1_plain_74 (by decide) (fun c_74 => ?_) (fun c_74 => ?_)
    · exact K88 σ1 _ _ _ hop (by rw [he, mm_plain2, if_neg c_74]) hw (lv_sub hl [0, 1, 2, 3, 4, 5] rfl)
    · refine lv_aload_n hx hb dX1_plain_77 rfl (lv_at hl 4 rfl) ?_
      refine mg_registers hx hb hts hown hw dX1_plain_78 ?_
      refine lv_iload_n hx hb dX1_plain_81 rfl (lv_at hl 1 rfl) ?_
      refine lv_dup2_11 hx hb dX1_plain_82 rfl rfl ?_
      refine rf_ialdn (j := 7) (jx := (mm_fa σ k)) hx hb hw (by decide) (by decide) rfl rfl (mm_r4 hk has) (mln_lt 7) dX1_plain_83 ?_
      refine lv_iload hx hb dX1_plain_84 (lv_at hl 3 rfl) ?_
      refine lv_iadd hx hb dX1_plain_86 ?_
      refine rf_iastn (j := 7) (jx := (mm_fa σ k)) hx hb hg hA hw (by decide) (by decide) rfl rfl (mm_r4 hk has) (mln_lt 7) dX1_plain_87 (fun H locs hw => ?_)
      exact K88 (rf_wr σ1 7 (mm_fa σ k) ((σ1 7 (mm_fa σ k)) + (σ 7 (k * 4 + rf_q (mm_se σ k))))) _ _ _ hop (by rw [he, mm_plain2, if_pos c_74]) hw (lv_sub hl [0, 1, 2, 3, 4, 5] rfl)
  refine lv_aload_n hx hb dX1_plain_0 rfl (lv_at hl 0 rfl) ?_
  refine mg_places hx hb hts hown hw dX1_plain_1 ?_
  refine lv_iload_n hx hb dX1_plain_4 rfl (lv_at hl 1 rfl) ?_
  refine rf_ialdn (j := 5) (jx := k) hx hb hw (by decide) (by decide) rfl rfl hk (mln_lt 5) dX1_plain_5 ?_
  refine lv_istore_n (lv' := [(2, .int _), (0, .ref _), (1, .int _)]) hx hb dX1_plain_6 rfl hl (by decide) rfl (fun ls hl => ?_)
  refine lv_iload_n hx hb dX1_plain_7 rfl (lv_at hl 2 rfl) ?_
  refine lv_iconst (v := 4) hx hb dX1_plain_8 (by decide) ?_
  refine lv_imul hx hb dX1_plain_9 ?_
  refine lv_aload_n hx hb dX1_plain_10 rfl (lv_at hl 1 rfl) ?_
  refine mg_as hx hb hts hown hw dX1_plain_11 ?_
  refine lv_iload_n hx hb dX1_plain_14 rfl (lv_at hl 0 rfl) ?_
  refine rf_iald (j := 2) hx hb hw (by decide) (by decide) rfl hpl dX1_plain_15 ?_
  refine lv_iadd hx hb dX1_plain_16 ?_
  rw [show ((nI k) * 4) + (σ 2 (rf_ix (σ 5 k))) = nI (mm_fa σ k) from (rf_ix4v k has (by decide))]
  refine lv_istore_n (lv' := [(3, .int _), (2, .int _), (0, .ref _), (1, .int _)]) hx hb dX1_plain_17 rfl hl (by decide) rfl (fun ls hl => ?_)
  refine lv_aload_n hx hb dX1_plain_18 rfl (lv_at hl 2 rfl) ?_
  refine mg_bs hx hb hts hown hw dX1_plain_19 ?_
  refine lv_iload_n hx hb dX1_plain_22 rfl (lv_at hl 1 rfl) ?_
  refine rf_iald (j := 3) hx hb hw (by decide) (by decide) rfl hpl dX1_plain_23 ?_
  refine lv_istore (lv' := [(4, .int _), (3, .int _), (2, .int _), (0, .ref _), (1, .int _)]) hx hb dX1_plain_24 hl (by decide) rfl (fun ls hl => ?_)
  refine lv_aload_n hx hb dX1_plain_26 rfl (lv_at hl 3 rfl) ?_
  refine mg_registers hx hb hts hown hw dX1_plain_27 ?_
  refine lv_iload_n hx hb dX1_plain_30 rfl (lv_at hl 4 rfl) ?_
  refine lv_iconst (v := 4) hx hb dX1_plain_31 (by decide) ?_
  refine lv_imul hx hb dX1_plain_32 ?_
  refine lv_iload hx hb dX1_plain_33 (lv_at hl 0 rfl) ?_
  refine lv_iconst (v := 3) hx hb dX1_plain_35 (by decide) ?_
  refine lv_iand hx hb dX1_plain_36 ?_
  refine lv_iadd hx hb dX1_plain_37 ?_
  refine rf_ialdn (j := 7) (jx := (k * 4 + rf_q (mm_se σ k))) hx hb hw (by decide) (by decide) rfl (rf_ix4 k _) (rf_r4 hk _) (mln_lt 7) dX1_plain_38 ?_
  refine lv_istore (lv' := [(5, .int _), (4, .int _), (3, .int _), (2, .int _), (0, .ref _), (1, .int _)]) hx hb dX1_plain_39 hl (by decide) rfl (fun ls hl => ?_)
  refine lv_aload_n hx hb dX1_plain_41 rfl (lv_at hl 4 rfl) ?_
  refine mg_places hx hb hts hown hw dX1_plain_42 ?_
  refine lv_iload_n hx hb dX1_plain_45 rfl (lv_at hl 5 rfl) ?_
  refine lv_iload_n hx hb dX1_plain_46 rfl (lv_at hl 3 rfl) ?_
  refine lv_iconst (v := 1) hx hb dX1_plain_47 (by decide) ?_
  refine lv_iadd hx hb dX1_plain_48 ?_
  refine rf_iastn (j := 5) (jx := k) hx hb hg hA hw (by decide) (by decide) rfl rfl hk (mln_lt 5) dX1_plain_49 (fun H locs hw => ?_)
  refine lv_aload_n hx hb dX1_plain_50 rfl (lv_at hl 4 rfl) ?_
  refine mg_ops hx hb hts hown hw dX1_plain_51 ?_
  refine lv_iload_n hx hb dX1_plain_54 rfl (lv_at hl 3 rfl) ?_
  refine rf_iald (j := 1) hx hb hw (by decide) (by decide) rfl hpl dX1_plain_55 ?_
  refine lv_if_ne (tgt := 67) hx hb dX1_plain_56 (by decide) (fun (c_56 : ¬ mm_op σ k = 0) => ?_) (fun (c_56 : mm_op σ k = 0) => ?_)
  · exact K67 (rf_wr σ 5 k ((σ 5 k) + 1)) _ _ _ rfl (by rw [mm_plain, mm_plain1, if_neg c_56] <;> rfl) hw (lv_sub hl [3, 2, 1, 0, 4, 5] rfl)
  · refine lv_aload_n hx hb dX1_plain_59 rfl (lv_at hl 4 rfl) ?_
    refine mg_registers hx hb hts hown hw dX1_plain_60 ?_
    refine lv_iload_n hx hb dX1_plain_63 rfl (lv_at hl 2 rfl) ?_
    refine lv_iload hx hb dX1_plain_64 (lv_at hl 1 rfl) ?_
    refine rf_iastn (j := 7) (jx := (mm_fa σ k)) hx hb hg hA hw (by decide) (by decide) rfl rfl (mm_r4 hk has) (mln_lt 7) dX1_plain_66 (fun H locs hw => ?_)
    exact K67 (rf_wr (rf_wr σ 5 k ((σ 5 k) + 1)) 7 (mm_fa σ k) (σ 3 (rf_ix (σ 5 k)))) _ _ _ rfl (by rw [mm_plain, mm_plain1, if_pos c_56] <;> rfl) hw (lv_sub hl [3, 2, 1, 0, 4, 5] rfl)
theorem mk_plain {p : Program} {l : Launch} {e : Env} {R : Room} {s : State} {m : MethodId} {args : Array Value} {below : List Frame} {meth : Method} {c : Code} {H : Heap} {locs : List Loc} {cells slots : Nat} {Q : State → Prop} {cc : ByteArray} {pc : Nat} {ls : Array Slot} {rest : List Value} {D : va_G} {g : Nat → Nat} {ca : Nat → ClassId} {σ : rf_Mem} {A : Nat → Prop} {nL : Nat} (S0 : CallFix p m c cc nL s args lw_all RX1) (hg : rf_g mS g) (hA : ∀ q, rf_A mS g q → A q) (hw : rf_w D vwCl mS g ca σ A s H locs) {k : Nat} (hk : k < 3) (hok : mm_ok σ k) (hpl : vp_in (σ 5 k) 16) (hR : 0 + 1 ≤ R.frames ∧ 8 + (6 + 11) + 0 ≤ R.locals) (hls : ls.size = nL) (hst : (rest.map fun v => v.category).sum ≤ 8) (hdg : decode cc pc = .ok (.invokevirtual 79, 3)) (hf : cells ≤ R.cells ∧ slots ≤ R.slots)
    (kk : ∀ (H1 : Heap) (locs1 : List Loc), rf_w D vwCl mS g ca (mm_plain σ k) A s H1 locs1 → W p l e R s m args below meth c H1 locs1 cells slots Q (F0 m (pc + 3) ls (rest))) : W p l e R s m args below meth c H locs cells slots Q (F0 m pc ls (.int (nI k) :: .ref (g 0) :: rest)) :=
  rf_callv S0 (mt_plain l D ca hg σ k hk hok hpl) (cwV 1 S0.2.2.2.2 (lw_V q297 q299 qs19 q22 q300) rfl rfl rfl (by decide +kernel) hR) hw hA rfl rfl hls hst hdg hf rfl (fun H1 locs1 h _ _ => kk H1 locs1 h)

set_option maxHeartbeats 4000000 in
set_option maxRecDepth 100000 in
/-- goOn -/
theorem mt_goOn (l : Launch) (D : va_G) {g : Nat → Nat} (ca : Nat → ClassId) (hg : rf_g mS g) (σ : rf_Mem) (k : Nat) (hk : k < 3) (hok : mm_ok σ k) : rf_Mv l yX1_goOn cX1_goOn 5 (rf_rm 2 47) D vwCl mS g ca σ [.int (nI k)] (mm_goOn σ k) := by
  refine rf_enter (by decide) (Nat.le_of_ble_eq_true rfl) ?_
  intro p e s m below meth c ls hx hb hr hlk hml hown hts hnm hB hl
  have hw : rf_w D vwCl mS g ca σ (rf_A mS g) s s.heap [] := ⟨hB.1, hB.2, va_S.rf⟩
  have hA : ∀ q, rf_A mS g q → rf_A mS g q := fun _ h => h
  have hl : lv_has ls 5 [(0, .ref (g 0)), (1, .int (nI k))] := hl
  have K4 : ∀ (n i : Nat) (more : Int32) (σ1 : rf_Mem) (H : Heap) (locs : List Loc) (ls : Array Slot), i + n = 3000 → (more = 0 ∨ more = 1) → mm_ok σ1 k → mm_goOn σ k = mm_loop n σ1 k more → rf_w D vwCl mS g ca σ1 (rf_A mS g) s H locs → lv_has ls 5 [(3, .int (nI i)), (2, .int more), (0, .ref (g 0)), (1, .int (nI k))] → W p l e (rf_rm 2 47) s m ([.ref (g 0), .int (nI k)] : List Value).toArray below meth c H locs 0 0 (MQ below (va_Qv (fun σ' => σ' = mm_goOn σ k) (rf_J D vwCl mS g ca) (rf_A mS g)) ([.ref (g 0), .int (nI k)] : List Value).toArray s 0 0 (rf_A mS g)) (F0 m 4 ls []) := by
    intro n
    induction n with
    | zero =>
      intro i more σ1 H locs ls hi hmr hok1 he hw hl
      refine lv_iload_n hx hb dX1_goOn_4 rfl (lv_at hl 0 rfl) ?_
      refine lv_sipush (v := 3000) hx hb dX1_goOn_5 (by decide) ?_
      refine lv_icmp_ge (tgt := 140) hx hb dX1_goOn_8 (by decide) (fun c_8 => ?_) (fun c_8 => ?_)
      · exact rf_vret hx hb hr hlk hw he.symm dX1_goOn_140
      · exact absurd (show (3000 : Int32) ≤ nI i from nI_le (a := 3000) (by omega) (by omega)) c_8
    | succ n ih =>
      intro i more σ1 H locs ls hi hmr hok1 he hw hl
      have K134 : ∀ (H : Heap) (locs : List Loc) (ls : Array Slot), ¬ more = 0 → rf_w D vwCl mS g ca (mm_turn σ1 k) (rf_A mS g) s H locs → lv_has ls 5 [(3, .int (nI i)), (2, .int (mr_turn σ1 k)), (0, .ref (g 0)), (1, .int (nI k))] → W p l e (rf_rm 2 47) s m ([.ref (g 0), .int (nI k)] : List Value).toArray below meth c H locs 0 0 (MQ below (va_Qv (fun σ' => σ' = mm_goOn σ k) (rf_J D vwCl mS g ca) (rf_A mS g)) ([.ref (g 0), .int (nI k)] : List Value).toArray s 0 0 (rf_A mS g)) (F0 m 134 ls []) := by
        intro H locs ls hm hw hl
        refine lv_iinc (v := nI (i + 1)) (lv' := [(3, .int _), (2, .int _), (0, .ref _), (1, .int _)]) hx hb dX1_goOn_134 hl (k := 0) rfl (nI_1 i) (by decide) rfl (fun ls hl => ?_)
        refine lv_goto (tgt := 4) hx hb dX1_goOn_137 (by decide) ?_
        exact ih (i + 1) _ _ _ _ _ (by omega) (mr_turn_01 σ1 k) (mo_turn hok1) (by rw [he, mm_loop, if_neg hm]) hw (lv_sub hl [0, 1, 2, 3] rfl)
      refine lv_iload_n hx hb dX1_goOn_4 rfl (lv_at hl 0 rfl) ?_
      refine lv_sipush (v := 3000) hx hb dX1_goOn_5 (by decide) ?_
      refine lv_icmp_ge (tgt := 140) hx hb dX1_goOn_8 (by decide) (fun c_8 => ?_) (fun c_8 => ?_)
      · exact absurd c_8 (nI_ge (a := i) (b := 3000) (by omega) (by omega))
      · refine lv_iload_n hx hb dX1_goOn_11 rfl (lv_at hl 1 rfl) ?_
        refine lv_if_eq (tgt := 140) hx hb dX1_goOn_12 (by decide) (fun c_12 => ?_) (fun c_12 => ?_)
        · exact rf_vret hx hb hr hlk hw (by rw [he, mm_loop, if_pos c_12]) dX1_goOn_140
        · have hm1 : more = 1 := hmr.resolve_left c_12
          rw [hm1] at hl
          refine lv_aload_n hx hb dX1_goOn_15 rfl (lv_at hl 2 rfl) ?_
          refine mg_places hx hb hts hown hw dX1_goOn_16 ?_
          refine lv_iload_n hx hb dX1_goOn_19 rfl (lv_at hl 3 rfl) ?_
          refine rf_ialdn (j := 5) (jx := k) hx hb hw (by decide) (by decide) rfl rfl hk (mln_lt 5) dX1_goOn_20 ?_
          refine lv_if_lt (tgt := 41) hx hb dX1_goOn_21 (by decide) (fun c_21 => ?_) (fun c_21 => ?_)
          · refine lv_iconst (v := 0) hx hb dX1_goOn_41 (by decide) ?_
            refine lv_istore (lv' := [(4, .int _), (3, .int _), (2, .int _), (0, .ref _), (1, .int _)]) hx hb dX1_goOn_42 hl (by decide) rfl (fun ls hl => ?_)
            refine lv_iload hx hb dX1_goOn_44 (lv_at hl 0 rfl) ?_
            refine lv_if_eq (tgt := 84) hx hb dX1_goOn_46 (by decide) (fun _ => ?_) (fun c_ => absurd c_ (by decide))
            refine lv_aload_n hx hb dX1_goOn_84 rfl (lv_at hl 3 rfl) ?_
            refine lv_iload_n hx hb dX1_goOn_85 rfl (lv_at hl 4 rfl) ?_
            refine lv_iconst (v := 0) hx hb dX1_goOn_86 (by decide) ?_
            refine mk_end ⟨hx, hb, hml, hown, hts⟩ hg hA hw hk ⟨Nat.le_of_ble_eq_true rfl, Nat.le_of_ble_eq_true rfl⟩ hl.1 (Nat.le_of_ble_eq_true rfl) dX1_goOn_87 ⟨Nat.le_refl _, Nat.le_refl _⟩ (fun H locs hw => ?_)
            refine lv_iconst (v := 0) hx hb dX1_goOn_90 (by decide) ?_
            refine lv_istore_n (lv' := [(2, .int _), (4, .int _), (3, .int _), (0, .ref _), (1, .int _)]) hx hb dX1_goOn_91 rfl hl (by decide) rfl (fun ls hl => ?_)
            refine lv_goto (tgt := 134) hx hb dX1_goOn_92 (by decide) ?_
            exact K134 _ _ _ c_12 (rf_weq hw (by rw [mm_turn, if_pos c_21] <;> rfl)) (by rw [show mr_turn σ1 k = 0 by rw [mr_turn, if_pos c_21] <;> rfl]; exact lv_sub hl [2, 0, 3, 4] rfl)
          · refine lv_aload_n hx hb dX1_goOn_24 rfl (lv_at hl 2 rfl) ?_
            refine mg_places hx hb hts hown hw dX1_goOn_25 ?_
            refine lv_iload_n hx hb dX1_goOn_28 rfl (lv_at hl 3 rfl) ?_
            refine rf_ialdn (j := 5) (jx := k) hx hb hw (by decide) (by decide) rfl rfl hk (mln_lt 5) dX1_goOn_29 ?_
            refine lv_aload_n hx hb dX1_goOn_30 rfl (lv_at hl 2 rfl) ?_
            refine mg_length hx hb hts hown hw dX1_goOn_31 ?_
            refine lv_icmp_ge (tgt := 41) hx hb dX1_goOn_34 (by decide) (fun c_34 => ?_) (fun c_34 => ?_)
            · refine lv_iconst (v := 0) hx hb dX1_goOn_41 (by decide) ?_
              refine lv_istore (lv' := [(4, .int _), (3, .int _), (2, .int _), (0, .ref _), (1, .int _)]) hx hb dX1_goOn_42 hl (by decide) rfl (fun ls hl => ?_)
              refine lv_iload hx hb dX1_goOn_44 (lv_at hl 0 rfl) ?_
              refine lv_if_eq (tgt := 84) hx hb dX1_goOn_46 (by decide) (fun _ => ?_) (fun c_ => absurd c_ (by decide))
              refine lv_aload_n hx hb dX1_goOn_84 rfl (lv_at hl 3 rfl) ?_
              refine lv_iload_n hx hb dX1_goOn_85 rfl (lv_at hl 4 rfl) ?_
              refine lv_iconst (v := 0) hx hb dX1_goOn_86 (by decide) ?_
              refine mk_end ⟨hx, hb, hml, hown, hts⟩ hg hA hw hk ⟨Nat.le_of_ble_eq_true rfl, Nat.le_of_ble_eq_true rfl⟩ hl.1 (Nat.le_of_ble_eq_true rfl) dX1_goOn_87 ⟨Nat.le_refl _, Nat.le_refl _⟩ (fun H locs hw => ?_)
              refine lv_iconst (v := 0) hx hb dX1_goOn_90 (by decide) ?_
              refine lv_istore_n (lv' := [(2, .int _), (4, .int _), (3, .int _), (0, .ref _), (1, .int _)]) hx hb dX1_goOn_91 rfl hl (by decide) rfl (fun ls hl => ?_)
              refine lv_goto (tgt := 134) hx hb dX1_goOn_92 (by decide) ?_
              exact K134 _ _ _ c_12 (rf_weq hw (by rw [mm_turn, if_neg c_21, if_pos c_34] <;> rfl)) (by rw [show mr_turn σ1 k = 0 by rw [mr_turn, if_neg c_21, if_pos c_34] <;> rfl]; exact lv_sub hl [2, 0, 3, 4] rfl)
            · refine lv_iconst (v := 1) hx hb dX1_goOn_37 (by decide) ?_
              refine lv_goto (tgt := 42) hx hb dX1_goOn_38 (by decide) ?_
              refine lv_istore (lv' := [(4, .int _), (3, .int _), (2, .int _), (0, .ref _), (1, .int _)]) hx hb dX1_goOn_42 hl (by decide) rfl (fun ls hl => ?_)
              refine lv_iload hx hb dX1_goOn_44 (lv_at hl 0 rfl) ?_
              refine lv_if_eq (tgt := 84) hx hb dX1_goOn_46 (by decide) (fun c_ => absurd c_ (by decide)) (fun _ => ?_)
              have hpl : vp_in (σ1 5 k) 16 := rf_in_of hok1.1 c_21 (rf_lt_of c_34)
              refine lv_aload_n hx hb dX1_goOn_49 rfl (lv_at hl 3 rfl) ?_
              refine mg_steps hx hb hts hown hw dX1_goOn_50 ?_
              refine lv_iload_n hx hb dX1_goOn_53 rfl (lv_at hl 4 rfl) ?_
              refine rf_ialdn (j := 6) (jx := k) hx hb hw (by decide) (by decide) rfl rfl hk (mln_lt 6) dX1_goOn_54 ?_
              refine lv_bipush (v := 60) hx hb dX1_goOn_55 (by decide) ?_
              refine lv_icmp_eq (tgt := 84) hx hb dX1_goOn_57 (by decide) (fun c_57 => ?_) (fun c_57 => ?_)
              · refine lv_aload_n hx hb dX1_goOn_84 rfl (lv_at hl 3 rfl) ?_
                refine lv_iload_n hx hb dX1_goOn_85 rfl (lv_at hl 4 rfl) ?_
                refine lv_iconst (v := 0) hx hb dX1_goOn_86 (by decide) ?_
                refine mk_end ⟨hx, hb, hml, hown, hts⟩ hg hA hw hk ⟨Nat.le_of_ble_eq_true rfl, Nat.le_of_ble_eq_true rfl⟩ hl.1 (Nat.le_of_ble_eq_true rfl) dX1_goOn_87 ⟨Nat.le_refl _, Nat.le_refl _⟩ (fun H locs hw => ?_)
                refine lv_iconst (v := 0) hx hb dX1_goOn_90 (by decide) ?_
                refine lv_istore_n (lv' := [(2, .int _), (4, .int _), (3, .int _), (0, .ref _), (1, .int _)]) hx hb dX1_goOn_91 rfl hl (by decide) rfl (fun ls hl => ?_)
                refine lv_goto (tgt := 134) hx hb dX1_goOn_92 (by decide) ?_
                exact K134 _ _ _ c_12 (rf_weq hw (by rw [mm_turn, if_neg c_21, if_neg c_34, if_pos c_57] <;> rfl)) (by rw [show mr_turn σ1 k = 0 by rw [mr_turn, if_neg c_21, if_neg c_34, if_pos c_57] <;> rfl]; exact lv_sub hl [2, 0, 3, 4] rfl)
              · refine lv_aload_n hx hb dX1_goOn_60 rfl (lv_at hl 3 rfl) ?_
                refine lv_aload_n hx hb dX1_goOn_61 rfl (lv_at hl 3 rfl) ?_
                refine mg_places hx hb hts hown hw dX1_goOn_62 ?_
                refine lv_iload_n hx hb dX1_goOn_65 rfl (lv_at hl 4 rfl) ?_
                refine rf_ialdn (j := 5) (jx := k) hx hb hw (by decide) (by decide) rfl rfl hk (mln_lt 5) dX1_goOn_66 ?_
                refine mk_isWait ⟨hx, hb, hml, hown, hts⟩ hg hA hw hpl ⟨Nat.le_of_ble_eq_true rfl, Nat.le_of_ble_eq_true rfl⟩ hl.1 (Nat.le_of_ble_eq_true rfl) dX1_goOn_67 ⟨Nat.le_refl _, Nat.le_refl _⟩ (fun H locs hw => ?_)
                refine lv_if_eq (tgt := 95) hx hb dX1_goOn_70 (by decide) (fun c_70 => ?_) (fun c_70 => ?_)
                · refine lv_aload_n hx hb dX1_goOn_95 rfl (lv_at hl 3 rfl) ?_
                  refine mg_ops hx hb hts hown hw dX1_goOn_96 ?_
                  refine lv_aload_n hx hb dX1_goOn_99 rfl (lv_at hl 3 rfl) ?_
                  refine mg_places hx hb hts hown hw dX1_goOn_100 ?_
                  refine lv_iload_n hx hb dX1_goOn_103 rfl (lv_at hl 4 rfl) ?_
                  refine rf_ialdn (j := 5) (jx := k) hx hb hw (by decide) (by decide) rfl rfl hk (mln_lt 5) dX1_goOn_104 ?_
                  refine rf_iald (j := 1) hx hb hw (by decide) (by decide) rfl hpl dX1_goOn_105 ?_
                  refine lv_iconst (v := 5) hx hb dX1_goOn_106 (by decide) ?_
                  refine lv_icmp_lt (tgt := 119) hx hb dX1_goOn_107 (by decide) (fun (c_107 : mm_op σ1 k < 5) => ?_) (fun (c_107 : ¬ mm_op σ1 k < 5) => ?_)
                  · refine lv_aload_n hx hb dX1_goOn_119 rfl (lv_at hl 3 rfl) ?_
                    refine mg_steps hx hb hts hown hw dX1_goOn_120 ?_
                    refine lv_iload_n hx hb dX1_goOn_123 rfl (lv_at hl 4 rfl) ?_
                    refine lv_dup2_11 hx hb dX1_goOn_124 rfl rfl ?_
                    refine rf_ialdn (j := 6) (jx := k) hx hb hw (by decide) (by decide) rfl rfl hk (mln_lt 6) dX1_goOn_125 ?_
                    refine lv_iconst (v := 1) hx hb dX1_goOn_126 (by decide) ?_
                    refine lv_iadd hx hb dX1_goOn_127 ?_
                    refine rf_iastn (j := 6) (jx := k) hx hb hg hA hw (by decide) (by decide) rfl rfl hk (mln_lt 6) dX1_goOn_128 (fun H locs hw => ?_)
                    refine lv_aload_n hx hb dX1_goOn_129 rfl (lv_at hl 3 rfl) ?_
                    refine lv_iload_n hx hb dX1_goOn_130 rfl (lv_at hl 4 rfl) ?_
                    refine mk_plain ⟨hx, hb, hml, hown, hts⟩ hg hA hw hk (mo_step hok1) hpl ⟨Nat.le_of_ble_eq_true rfl, Nat.le_of_ble_eq_true rfl⟩ hl.1 (Nat.le_of_ble_eq_true rfl) dX1_goOn_131 ⟨Nat.le_refl _, Nat.le_refl _⟩ (fun H locs hw => ?_)
                    exact K134 _ _ _ c_12 (rf_weq hw (by rw [mm_turn, if_neg c_21, if_neg c_34, if_neg c_57, if_pos c_70, if_pos c_107] <;> rfl)) (by rw [show mr_turn σ1 k = 1 by rw [mr_turn, if_neg c_21, if_neg c_34, if_neg c_57, if_pos c_70, if_pos c_107] <;> rfl]; exact lv_sub hl [1, 2, 3, 4] rfl)
                  · refine lv_aload_n hx hb dX1_goOn_110 rfl (lv_at hl 3 rfl) ?_
                    refine lv_iload_n hx hb dX1_goOn_111 rfl (lv_at hl 4 rfl) ?_
                    refine mk_waits ⟨hx, hb, hml, hown, hts⟩ hg hA hw hk hok1 hpl ⟨Nat.le_of_ble_eq_true rfl, Nat.le_of_ble_eq_true rfl⟩ hl.1 (Nat.le_of_ble_eq_true rfl) dX1_goOn_112 ⟨Nat.le_refl _, Nat.le_refl _⟩ (fun H locs hw => ?_)
                    refine lv_istore_n (lv' := [(2, .int _), (4, .int _), (3, .int _), (0, .ref _), (1, .int _)]) hx hb dX1_goOn_115 rfl hl (by decide) rfl (fun ls hl => ?_)
                    refine lv_goto (tgt := 134) hx hb dX1_goOn_116 (by decide) ?_
                    exact K134 _ _ _ c_12 (rf_weq hw (by rw [mm_turn, if_neg c_21, if_neg c_34, if_neg c_57, if_pos c_70, if_neg c_107] <;> rfl)) (by rw [show mr_turn σ1 k = (mr_waits σ1 k) by rw [mr_turn, if_neg c_21, if_neg c_34, if_neg c_57, if_pos c_70, if_neg c_107] <;> rfl]; exact lv_sub hl [2, 0, 3, 4] rfl)
                · refine lv_aload_n hx hb dX1_goOn_73 rfl (lv_at hl 3 rfl) ?_
                  refine mg_over hx hb hts hown hw dX1_goOn_74 ?_
                  refine lv_iload_n hx hb dX1_goOn_77 rfl (lv_at hl 4 rfl) ?_
                  refine rf_ialdn (j := 10) (jx := k) hx hb hw (by decide) (by decide) rfl rfl hk (mln_lt 10) dX1_goOn_78 ?_
                  refine lv_bipush (v := 40) hx hb dX1_goOn_79 (by decide) ?_
                  refine lv_icmp_ne (tgt := 95) hx hb dX1_goOn_81 (by decide) (fun c_81 => ?_) (fun c_81 => ?_)
                  · refine lv_aload_n hx hb dX1_goOn_95 rfl (lv_at hl 3 rfl) ?_
                    refine mg_ops hx hb hts hown hw dX1_goOn_96 ?_
                    refine lv_aload_n hx hb dX1_goOn_99 rfl (lv_at hl 3 rfl) ?_
                    refine mg_places hx hb hts hown hw dX1_goOn_100 ?_
                    refine lv_iload_n hx hb dX1_goOn_103 rfl (lv_at hl 4 rfl) ?_
                    refine rf_ialdn (j := 5) (jx := k) hx hb hw (by decide) (by decide) rfl rfl hk (mln_lt 5) dX1_goOn_104 ?_
                    refine rf_iald (j := 1) hx hb hw (by decide) (by decide) rfl hpl dX1_goOn_105 ?_
                    refine lv_iconst (v := 5) hx hb dX1_goOn_106 (by decide) ?_
                    refine lv_icmp_lt (tgt := 119) hx hb dX1_goOn_107 (by decide) (fun (c_107 : mm_op σ1 k < 5) => ?_) (fun (c_107 : ¬ mm_op σ1 k < 5) => ?_)
                    · refine lv_aload_n hx hb dX1_goOn_119 rfl (lv_at hl 3 rfl) ?_
                      refine mg_steps hx hb hts hown hw dX1_goOn_120 ?_
                      refine lv_iload_n hx hb dX1_goOn_123 rfl (lv_at hl 4 rfl) ?_
                      refine lv_dup2_11 hx hb dX1_goOn_124 rfl rfl ?_
                      refine rf_ialdn (j := 6) (jx := k) hx hb hw (by decide) (by decide) rfl rfl hk (mln_lt 6) dX1_goOn_125 ?_
                      refine lv_iconst (v := 1) hx hb dX1_goOn_126 (by decide) ?_
                      refine lv_iadd hx hb dX1_goOn_127 ?_
                      refine rf_iastn (j := 6) (jx := k) hx hb hg hA hw (by decide) (by decide) rfl rfl hk (mln_lt 6) dX1_goOn_128 (fun H locs hw => ?_)
                      refine lv_aload_n hx hb dX1_goOn_129 rfl (lv_at hl 3 rfl) ?_
                      refine lv_iload_n hx hb dX1_goOn_130 rfl (lv_at hl 4 rfl) ?_
                      refine mk_plain ⟨hx, hb, hml, hown, hts⟩ hg hA hw hk (mo_step hok1) hpl ⟨Nat.le_of_ble_eq_true rfl, Nat.le_of_ble_eq_true rfl⟩ hl.1 (Nat.le_of_ble_eq_true rfl) dX1_goOn_131 ⟨Nat.le_refl _, Nat.le_refl _⟩ (fun H locs hw => ?_)
                      exact K134 _ _ _ c_12 (rf_weq hw (by rw [mm_turn, if_neg c_21, if_neg c_34, if_neg c_57, if_neg c_70, if_neg c_81, if_pos c_107] <;> rfl)) (by rw [show mr_turn σ1 k = 1 by rw [mr_turn, if_neg c_21, if_neg c_34, if_neg c_57, if_neg c_70, if_neg c_81, if_pos c_107] <;> rfl]; exact lv_sub hl [1, 2, 3, 4] rfl)
                    · refine lv_aload_n hx hb dX1_goOn_110 rfl (lv_at hl 3 rfl) ?_
                      refine lv_iload_n hx hb dX1_goOn_111 rfl (lv_at hl 4 rfl) ?_
                      refine mk_waits ⟨hx, hb, hml, hown, hts⟩ hg hA hw hk hok1 hpl ⟨Nat.le_of_ble_eq_true rfl, Nat.le_of_ble_eq_true rfl⟩ hl.1 (Nat.le_of_ble_eq_true rfl) dX1_goOn_112 ⟨Nat.le_refl _, Nat.le_refl _⟩ (fun H locs hw => ?_)
                      refine lv_istore_n (lv' := [(2, .int _), (4, .int _), (3, .int _), (0, .ref _), (1, .int _)]) hx hb dX1_goOn_115 rfl hl (by decide) rfl (fun ls hl => ?_)
                      refine lv_goto (tgt := 134) hx hb dX1_goOn_116 (by decide) ?_
                      exact K134 _ _ _ c_12 (rf_weq hw (by rw [mm_turn, if_neg c_21, if_neg c_34, if_neg c_57, if_neg c_70, if_neg c_81, if_neg c_107] <;> rfl)) (by rw [show mr_turn σ1 k = (mr_waits σ1 k) by rw [mr_turn, if_neg c_21, if_neg c_34, if_neg c_57, if_neg c_70, if_neg c_81, if_neg c_107] <;> rfl]; exact lv_sub hl [2, 0, 3, 4] rfl)
                  · refine lv_aload_n hx hb dX1_goOn_84 rfl (lv_at hl 3 rfl) ?_
                    refine lv_iload_n hx hb dX1_goOn_85 rfl (lv_at hl 4 rfl) ?_
                    refine lv_iconst (v := 0) hx hb dX1_goOn_86 (by decide) ?_
                    refine mk_end ⟨hx, hb, hml, hown, hts⟩ hg hA hw hk ⟨Nat.le_of_ble_eq_true rfl, Nat.le_of_ble_eq_true rfl⟩ hl.1 (Nat.le_of_ble_eq_true rfl) dX1_goOn_87 ⟨Nat.le_refl _, Nat.le_refl _⟩ (fun H locs hw => ?_)
                    refine lv_iconst (v := 0) hx hb dX1_goOn_90 (by decide) ?_
                    refine lv_istore_n (lv' := [(2, .int _), (4, .int _), (3, .int _), (0, .ref _), (1, .int _)]) hx hb dX1_goOn_91 rfl hl (by decide) rfl (fun ls hl => ?_)
                    refine lv_goto (tgt := 134) hx hb dX1_goOn_92 (by decide) ?_
                    exact K134 _ _ _ c_12 (rf_weq hw (by rw [mm_turn, if_neg c_21, if_neg c_34, if_neg c_57, if_neg c_70, if_pos c_81] <;> rfl)) (by rw [show mr_turn σ1 k = 0 by rw [mr_turn, if_neg c_21, if_neg c_34, if_neg c_57, if_neg c_70, if_pos c_81] <;> rfl]; exact lv_sub hl [2, 0, 3, 4] rfl)
  refine lv_iconst (v := 1) hx hb dX1_goOn_0 (by decide) ?_
  refine lv_istore_n (lv' := [(2, .int _), (0, .ref _), (1, .int _)]) hx hb dX1_goOn_1 rfl hl (by decide) rfl (fun ls hl => ?_)
  refine lv_iconst (v := 0) hx hb dX1_goOn_2 (by decide) ?_
  refine lv_istore_n (lv' := [(3, .int _), (2, .int _), (0, .ref _), (1, .int _)]) hx hb dX1_goOn_3 rfl hl (by decide) rfl (fun ls hl => ?_)
  exact K4 3000 0 _ _ _ _ _ (by omega) (Or.inr rfl) hok rfl hw (lv_sub hl [0, 1, 2, 3] rfl)
theorem mk_goOn {p : Program} {l : Launch} {e : Env} {R : Room} {s : State} {m : MethodId} {args : Array Value} {below : List Frame} {meth : Method} {c : Code} {H : Heap} {locs : List Loc} {cells slots : Nat} {Q : State → Prop} {cc : ByteArray} {pc : Nat} {ls : Array Slot} {rest : List Value} {D : va_G} {g : Nat → Nat} {ca : Nat → ClassId} {σ : rf_Mem} {A : Nat → Prop} {nL : Nat} (S0 : CallFix p m c cc nL s args lw_all RX1) (hg : rf_g mS g) (hA : ∀ q, rf_A mS g q → A q) (hw : rf_w D vwCl mS g ca σ A s H locs) {k : Nat} (hk : k < 3) (hok : mm_ok σ k) (hR : 2 + 1 ≤ R.frames ∧ 8 + (5 + 11) + 47 ≤ R.locals) (hls : ls.size = nL) (hst : (rest.map fun v => v.category).sum ≤ 8) (hdg : decode cc pc = .ok (.invokevirtual 65, 3)) (hf : cells ≤ R.cells ∧ slots ≤ R.slots)
    (kk : ∀ (H1 : Heap) (locs1 : List Loc), rf_w D vwCl mS g ca (mm_goOn σ k) A s H1 locs1 → W p l e R s m args below meth c H1 locs1 cells slots Q (F0 m (pc + 3) ls (rest))) : W p l e R s m args below meth c H locs cells slots Q (F0 m pc ls (.int (nI k) :: .ref (g 0) :: rest)) :=
  rf_callv S0 (mt_goOn l D ca hg σ k hk hok) (cwV 1 S0.2.2.2.2 (lw_V q273 q275 qs13 q22 q276) rfl rfl rfl (by decide +kernel) hR) hw hA rfl rfl hls hst hdg hf rfl (fun H1 locs1 h _ _ => kk H1 locs1 h)
end
section
set_option maxHeartbeats 4000000 in
set_option maxRecDepth 100000 in
/-- emit -/
theorem mt_emit (l : Launch) (D : va_G) {g : Nat → Nat} (ca : Nat → ClassId) (hg : rf_g mS g) (σ : rf_Mem) (o a b : Int32) (hL : rf_le (σ 0 0) 16) : rf_Mi l yX1_emit cX1_emit 4 .int (rf_rm 0 0) D vwCl mS g ca σ [.int o, .int a, .int b] (mr_emit σ o) (mm_emit σ o a b) := by
  refine rf_enter (by decide) (Nat.le_of_ble_eq_true rfl) ?_
  intro p e s m below meth c ls hx hb hr hlk hml hown hts hnm hB hl
  have hw : rf_w D vwCl mS g ca σ (rf_A mS g) s s.heap [] := ⟨hB.1, hB.2, va_S.rf⟩
  have hA : ∀ q, rf_A mS g q → rf_A mS g q := fun _ h => h
  have hl : lv_has ls 4 [(0, .ref (g 0)), (1, .int o), (2, .int a), (3, .int b)] := hl
  refine lv_iload_n hx hb dX1_emit_0 rfl (lv_at hl 1 rfl) ?_
  refine lv_if_lt (tgt := 10) hx hb dX1_emit_1 (by decide) (fun c_1 => ?_) (fun c_1 => ?_)
  · refine lv_iconst (v := -1) hx hb dX1_emit_10 (by decide) ?_
    exact rf_iret hx hb hr hlk hw ⟨by rw [mr_emit, if_pos c_1] <;> rfl, by rw [mm_emit, if_pos c_1] <;> rfl⟩ dX1_emit_11
  · refine lv_iload_n hx hb dX1_emit_4 rfl (lv_at hl 1 rfl) ?_
    refine lv_bipush (v := 8) hx hb dX1_emit_5 (by decide) ?_
    refine lv_icmp_le (tgt := 12) hx hb dX1_emit_7 (by decide) (fun c_7 => ?_) (fun c_7 => ?_)
    · refine lv_aload_n hx hb dX1_emit_12 rfl (lv_at hl 0 rfl) ?_
      refine mg_length hx hb hts hown hw dX1_emit_13 ?_
      refine lv_bipush (v := 16) hx hb dX1_emit_16 (by decide) ?_
      refine lv_icmp_ne (tgt := 24) hx hb dX1_emit_18 (by decide) (fun c_18 => ?_) (fun c_18 => ?_)
      · refine lv_aload_n hx hb dX1_emit_24 rfl (lv_at hl 0 rfl) ?_
        refine mg_locked hx hb hts hown hw dX1_emit_25 ?_
        refine lv_if_eq (tgt := 34) hx hb dX1_emit_28 (by decide) (fun c_28 => ?_) (fun c_28 => ?_)
        · have hin : vp_in (σ 0 0) 16 := rf_le_in hL (by decide) (rf_ne_lt hL (by decide) c_18)
          refine lv_aload_n hx hb dX1_emit_34 rfl (lv_at hl 0 rfl) ?_
          refine mg_ops hx hb hts hown hw dX1_emit_35 ?_
          refine lv_aload_n hx hb dX1_emit_38 rfl (lv_at hl 0 rfl) ?_
          refine mg_length hx hb hts hown hw dX1_emit_39 ?_
          refine lv_iload_n hx hb dX1_emit_42 rfl (lv_at hl 1 rfl) ?_
          refine rf_iast (j := 1) hx hb hg hA hw (by decide) (by decide) rfl hin dX1_emit_43 (fun H locs hw => ?_)
          refine lv_aload_n hx hb dX1_emit_44 rfl (lv_at hl 0 rfl) ?_
          refine mg_as hx hb hts hown hw dX1_emit_45 ?_
          refine lv_aload_n hx hb dX1_emit_48 rfl (lv_at hl 0 rfl) ?_
          refine mg_length hx hb hts hown hw dX1_emit_49 ?_
          refine lv_iload_n hx hb dX1_emit_52 rfl (lv_at hl 2 rfl) ?_
          refine lv_iconst (v := 3) hx hb dX1_emit_53 (by decide) ?_
          refine lv_iand hx hb dX1_emit_54 ?_
          refine rf_iast (j := 2) hx hb hg hA hw (by decide) (by decide) rfl hin dX1_emit_55 (fun H locs hw => ?_)
          refine lv_aload_n hx hb dX1_emit_56 rfl (lv_at hl 0 rfl) ?_
          refine mg_bs hx hb hts hown hw dX1_emit_57 ?_
          refine lv_aload_n hx hb dX1_emit_60 rfl (lv_at hl 0 rfl) ?_
          refine mg_length hx hb hts hown hw dX1_emit_61 ?_
          refine lv_iload_n hx hb dX1_emit_64 rfl (lv_at hl 3 rfl) ?_
          refine rf_iast (j := 3) hx hb hg hA hw (by decide) (by decide) rfl hin dX1_emit_65 (fun H locs hw => ?_)
          refine lv_aload_n hx hb dX1_emit_66 rfl (lv_at hl 0 rfl) ?_
          refine lv_dup hx hb dX1_emit_67 rfl ?_
          refine mg_length hx hb hts hown hw dX1_emit_68 ?_
          refine lv_iconst (v := 1) hx hb dX1_emit_71 (by decide) ?_
          refine lv_iadd hx hb dX1_emit_72 ?_
          refine mp_length hx hb hts hown hg hA hw dX1_emit_73 (fun H locs hw => ?_)
          refine lv_aload_n hx hb dX1_emit_76 rfl (lv_at hl 0 rfl) ?_
          refine mg_length hx hb hts hown hw dX1_emit_77 ?_
          refine lv_iconst (v := 1) hx hb dX1_emit_80 (by decide) ?_
          refine lv_isub hx hb dX1_emit_81 ?_
          exact rf_iret hx hb hr hlk hw ⟨by rw [mr_emit, if_neg c_1, if_pos c_7, if_neg c_18, if_pos c_28] <;> rfl, by rw [mm_emit, if_neg c_1, if_pos c_7, if_neg c_18, if_pos c_28] <;> rfl⟩ dX1_emit_82
        · refine lv_bipush (v := -5) hx hb dX1_emit_31 (by decide) ?_
          exact rf_iret hx hb hr hlk hw ⟨by rw [mr_emit, if_neg c_1, if_pos c_7, if_neg c_18, if_neg c_28] <;> rfl, by rw [mm_emit, if_neg c_1, if_pos c_7, if_neg c_18, if_neg c_28] <;> rfl⟩ dX1_emit_33
      · refine lv_bipush (v := -2) hx hb dX1_emit_21 (by decide) ?_
        exact rf_iret hx hb hr hlk hw ⟨by rw [mr_emit, if_neg c_1, if_pos c_7, if_pos c_18] <;> rfl, by rw [mm_emit, if_neg c_1, if_pos c_7, if_pos c_18] <;> rfl⟩ dX1_emit_23
    · refine lv_iconst (v := -1) hx hb dX1_emit_10 (by decide) ?_
      exact rf_iret hx hb hr hlk hw ⟨by rw [mr_emit, if_neg c_1, if_neg c_7] <;> rfl, by rw [mm_emit, if_neg c_1, if_neg c_7] <;> rfl⟩ dX1_emit_11

set_option maxHeartbeats 4000000 in
set_option maxRecDepth 100000 in
/-- start -/
theorem mt_start (l : Launch) (D : va_G) {g : Nat → Nat} (ca : Nat → ClassId) (hg : rf_g mS g) (σ : rf_Mem) (r a : Int32) (hO : ∀ k, k < 3 → mm_ok σ k) : rf_Mi l yX1_start cX1_start 4 .int (rf_rm 3 71) D vwCl mS g ca σ [.int r, .int a] (mr_start σ r a) (mm_start σ r a) := by
  refine rf_enter (by decide) (Nat.le_of_ble_eq_true rfl) ?_
  intro p e s m below meth c ls hx hb hr hlk hml hown hts hnm hB hl
  have hw : rf_w D vwCl mS g ca σ (rf_A mS g) s s.heap [] := ⟨hB.1, hB.2, va_S.rf⟩
  have hA : ∀ q, rf_A mS g q → rf_A mS g q := fun _ h => h
  have hl : lv_has ls 4 [(0, .ref (g 0)), (1, .int r), (2, .int a)] := hl
  refine lv_aload_n hx hb dX1_start_0 rfl (lv_at hl 0 rfl) ?_
  refine lv_iload_n hx hb dX1_start_1 rfl (lv_at hl 1 rfl) ?_
  refine mk_isRun ⟨hx, hb, hml, hown, hts⟩ hg hA hw ⟨Nat.le_of_ble_eq_true rfl, Nat.le_of_ble_eq_true rfl⟩ hl.1 (Nat.le_of_ble_eq_true rfl) dX1_start_2 ⟨Nat.le_refl _, Nat.le_refl _⟩ (fun H locs hw => ?_)
  refine lv_if_ne (tgt := 11) hx hb dX1_start_5 (by decide) (fun c_5 => ?_) (fun c_5 => ?_)
  · obtain ⟨k, hk, rfl⟩ := mr_run c_5
    refine lv_aload_n hx hb dX1_start_11 rfl (lv_at hl 0 rfl) ?_
    refine mg_states hx hb hts hown hw dX1_start_12 ?_
    refine lv_iload_n hx hb dX1_start_15 rfl (lv_at hl 1 rfl) ?_
    refine rf_ialdn (j := 4) (jx := k) hx hb hw (by decide) (by decide) rfl rfl hk (mln_lt 4) dX1_start_16 ?_
    refine lv_if_eq (tgt := 23) hx hb dX1_start_17 (by decide) (fun c_17 => ?_) (fun c_17 => ?_)
    · refine lv_aload_n hx hb dX1_start_23 rfl (lv_at hl 0 rfl) ?_
      refine lv_iconst (v := 1) hx hb dX1_start_24 (by decide) ?_
      refine mp_locked hx hb hts hown hg hA hw rfl rfl dX1_start_25 (fun H locs hw => ?_)
      refine lv_iconst (v := 0) hx hb dX1_start_28 (by decide) ?_
      refine lv_istore_n (lv' := [(3, .int _), (0, .ref _), (1, .int _), (2, .int _)]) hx hb dX1_start_29 rfl hl (by decide) rfl (fun ls hl => ?_)
      refine lv_iload_n hx hb dX1_start_30 rfl (lv_at hl 0 rfl) ?_
      refine lv_iconst (v := 4) hx hb dX1_start_31 (by decide) ?_
      refine lv_icmp_ge (tgt := 52) hx hb dX1_start_32 (by decide) (fun c_ => absurd c_ (by decide)) (fun _ => ?_)
      refine lv_aload_n hx hb dX1_start_35 rfl (lv_at hl 1 rfl) ?_
      refine mg_registers hx hb hts hown hw dX1_start_36 ?_
      refine lv_iload_n hx hb dX1_start_39 rfl (lv_at hl 2 rfl) ?_
      refine lv_iconst (v := 4) hx hb dX1_start_40 (by decide) ?_
      refine lv_imul hx hb dX1_start_41 ?_
      refine lv_iload_n hx hb dX1_start_42 rfl (lv_at hl 0 rfl) ?_
      refine lv_iadd hx hb dX1_start_43 ?_
      refine lv_iconst (v := 0) hx hb dX1_start_44 (by decide) ?_
      refine rf_iastn (j := 7) (jx := (k * 4 + 0)) hx hb hg hA hw (by decide) (by decide) rfl (rf_ix4n k 0) (show k * 4 + 0 < 12 by omega) (mln_lt 7) dX1_start_45 (fun H locs hw => ?_)
      refine lv_iinc (v := 1) (lv' := [(3, .int _), (0, .ref _), (1, .int _), (2, .int _)]) hx hb dX1_start_46 hl (k := 0) rfl rfl (by decide) rfl (fun ls hl => ?_)
      refine lv_goto (tgt := 30) hx hb dX1_start_49 (by decide) ?_
      refine lv_iload_n hx hb dX1_start_30 rfl (lv_at hl 0 rfl) ?_
      refine lv_iconst (v := 4) hx hb dX1_start_31 (by decide) ?_
      refine lv_icmp_ge (tgt := 52) hx hb dX1_start_32 (by decide) (fun c_ => absurd c_ (by decide)) (fun _ => ?_)
      refine lv_aload_n hx hb dX1_start_35 rfl (lv_at hl 1 rfl) ?_
      refine mg_registers hx hb hts hown hw dX1_start_36 ?_
      refine lv_iload_n hx hb dX1_start_39 rfl (lv_at hl 2 rfl) ?_
      refine lv_iconst (v := 4) hx hb dX1_start_40 (by decide) ?_
      refine lv_imul hx hb dX1_start_41 ?_
      refine lv_iload_n hx hb dX1_start_42 rfl (lv_at hl 0 rfl) ?_
      refine lv_iadd hx hb dX1_start_43 ?_
      refine lv_iconst (v := 0) hx hb dX1_start_44 (by decide) ?_
      refine rf_iastn (j := 7) (jx := (k * 4 + 1)) hx hb hg hA hw (by decide) (by decide) rfl (rf_ix4n k 1) (show k * 4 + 1 < 12 by omega) (mln_lt 7) dX1_start_45 (fun H locs hw => ?_)
      refine lv_iinc (v := 2) (lv' := [(3, .int _), (0, .ref _), (1, .int _), (2, .int _)]) hx hb dX1_start_46 hl (k := 0) rfl rfl (by decide) rfl (fun ls hl => ?_)
      refine lv_goto (tgt := 30) hx hb dX1_start_49 (by decide) ?_
      refine lv_iload_n hx hb dX1_start_30 rfl (lv_at hl 0 rfl) ?_
      refine lv_iconst (v := 4) hx hb dX1_start_31 (by decide) ?_
      refine lv_icmp_ge (tgt := 52) hx hb dX1_start_32 (by decide) (fun c_ => absurd c_ (by decide)) (fun _ => ?_)
      refine lv_aload_n hx hb dX1_start_35 rfl (lv_at hl 1 rfl) ?_
      refine mg_registers hx hb hts hown hw dX1_start_36 ?_
      refine lv_iload_n hx hb dX1_start_39 rfl (lv_at hl 2 rfl) ?_
      refine lv_iconst (v := 4) hx hb dX1_start_40 (by decide) ?_
      refine lv_imul hx hb dX1_start_41 ?_
      refine lv_iload_n hx hb dX1_start_42 rfl (lv_at hl 0 rfl) ?_
      refine lv_iadd hx hb dX1_start_43 ?_
      refine lv_iconst (v := 0) hx hb dX1_start_44 (by decide) ?_
      refine rf_iastn (j := 7) (jx := (k * 4 + 2)) hx hb hg hA hw (by decide) (by decide) rfl (rf_ix4n k 2) (show k * 4 + 2 < 12 by omega) (mln_lt 7) dX1_start_45 (fun H locs hw => ?_)
      refine lv_iinc (v := 3) (lv' := [(3, .int _), (0, .ref _), (1, .int _), (2, .int _)]) hx hb dX1_start_46 hl (k := 0) rfl rfl (by decide) rfl (fun ls hl => ?_)
      refine lv_goto (tgt := 30) hx hb dX1_start_49 (by decide) ?_
      refine lv_iload_n hx hb dX1_start_30 rfl (lv_at hl 0 rfl) ?_
      refine lv_iconst (v := 4) hx hb dX1_start_31 (by decide) ?_
      refine lv_icmp_ge (tgt := 52) hx hb dX1_start_32 (by decide) (fun c_ => absurd c_ (by decide)) (fun _ => ?_)
      refine lv_aload_n hx hb dX1_start_35 rfl (lv_at hl 1 rfl) ?_
      refine mg_registers hx hb hts hown hw dX1_start_36 ?_
      refine lv_iload_n hx hb dX1_start_39 rfl (lv_at hl 2 rfl) ?_
      refine lv_iconst (v := 4) hx hb dX1_start_40 (by decide) ?_
      refine lv_imul hx hb dX1_start_41 ?_
      refine lv_iload_n hx hb dX1_start_42 rfl (lv_at hl 0 rfl) ?_
      refine lv_iadd hx hb dX1_start_43 ?_
      refine lv_iconst (v := 0) hx hb dX1_start_44 (by decide) ?_
      refine rf_iastn (j := 7) (jx := (k * 4 + 3)) hx hb hg hA hw (by decide) (by decide) rfl (rf_ix4n k 3) (show k * 4 + 3 < 12 by omega) (mln_lt 7) dX1_start_45 (fun H locs hw => ?_)
      refine lv_iinc (v := 4) (lv' := [(3, .int _), (0, .ref _), (1, .int _), (2, .int _)]) hx hb dX1_start_46 hl (k := 0) rfl rfl (by decide) rfl (fun ls hl => ?_)
      refine lv_goto (tgt := 30) hx hb dX1_start_49 (by decide) ?_
      refine lv_iload_n hx hb dX1_start_30 rfl (lv_at hl 0 rfl) ?_
      refine lv_iconst (v := 4) hx hb dX1_start_31 (by decide) ?_
      refine lv_icmp_ge (tgt := 52) hx hb dX1_start_32 (by decide) (fun _ => ?_) (fun c_ => absurd c_ (by decide))
      refine lv_aload_n hx hb dX1_start_52 rfl (lv_at hl 1 rfl) ?_
      refine mg_registers hx hb hts hown hw dX1_start_53 ?_
      refine lv_iload_n hx hb dX1_start_56 rfl (lv_at hl 2 rfl) ?_
      refine lv_iconst (v := 4) hx hb dX1_start_57 (by decide) ?_
      refine lv_imul hx hb dX1_start_58 ?_
      refine lv_iload_n hx hb dX1_start_59 rfl (lv_at hl 3 rfl) ?_
      refine rf_iastn (j := 7) (jx := (k * 4)) hx hb hg hA hw (by decide) (by decide) rfl (by rw [show (4 : Int32) = nI 4 from rfl, pk_mul]) (show k * 4 < 12 by omega) (mln_lt 7) dX1_start_60 (fun H locs hw => ?_)
      refine lv_aload_n hx hb dX1_start_61 rfl (lv_at hl 1 rfl) ?_
      refine mg_places hx hb hts hown hw dX1_start_62 ?_
      refine lv_iload_n hx hb dX1_start_65 rfl (lv_at hl 2 rfl) ?_
      refine lv_iconst (v := 0) hx hb dX1_start_66 (by decide) ?_
      refine rf_iastn (j := 5) (jx := k) hx hb hg hA hw (by decide) (by decide) rfl rfl hk (mln_lt 5) dX1_start_67 (fun H locs hw => ?_)
      refine lv_aload_n hx hb dX1_start_68 rfl (lv_at hl 1 rfl) ?_
      refine mg_steps hx hb hts hown hw dX1_start_69 ?_
      refine lv_iload_n hx hb dX1_start_72 rfl (lv_at hl 2 rfl) ?_
      refine lv_iconst (v := 0) hx hb dX1_start_73 (by decide) ?_
      refine rf_iastn (j := 6) (jx := k) hx hb hg hA hw (by decide) (by decide) rfl rfl hk (mln_lt 6) dX1_start_74 (fun H locs hw => ?_)
      refine lv_aload_n hx hb dX1_start_75 rfl (lv_at hl 1 rfl) ?_
      refine mg_over hx hb hts hown hw dX1_start_76 ?_
      refine lv_iload_n hx hb dX1_start_79 rfl (lv_at hl 2 rfl) ?_
      refine lv_iconst (v := 0) hx hb dX1_start_80 (by decide) ?_
      refine rf_iastn (j := 10) (jx := k) hx hb hg hA hw (by decide) (by decide) rfl rfl hk (mln_lt 10) dX1_start_81 (fun H locs hw => ?_)
      refine lv_aload_n hx hb dX1_start_82 rfl (lv_at hl 1 rfl) ?_
      refine mg_signals hx hb hts hown hw dX1_start_83 ?_
      refine lv_iload_n hx hb dX1_start_86 rfl (lv_at hl 2 rfl) ?_
      refine lv_iconst (v := 0) hx hb dX1_start_87 (by decide) ?_
      refine rf_iastn (j := 11) (jx := k) hx hb hg hA hw (by decide) (by decide) rfl rfl hk (mln_lt 11) dX1_start_88 (fun H locs hw => ?_)
      refine lv_aload_n hx hb dX1_start_89 rfl (lv_at hl 1 rfl) ?_
      refine mg_results hx hb hts hown hw dX1_start_90 ?_
      refine lv_iload_n hx hb dX1_start_93 rfl (lv_at hl 2 rfl) ?_
      refine lv_iconst (v := 0) hx hb dX1_start_94 (by decide) ?_
      refine rf_iastn (j := 8) (jx := k) hx hb hg hA hw (by decide) (by decide) rfl rfl hk (mln_lt 8) dX1_start_95 (fun H locs hw => ?_)
      refine lv_aload_n hx hb dX1_start_96 rfl (lv_at hl 1 rfl) ?_
      refine lv_iload_n hx hb dX1_start_97 rfl (lv_at hl 2 rfl) ?_
      refine mk_goOn ⟨hx, hb, hml, hown, hts⟩ hg hA hw hk (mo_startI (hO k hk)) ⟨Nat.le_of_ble_eq_true rfl, Nat.le_of_ble_eq_true rfl⟩ hl.1 (Nat.le_of_ble_eq_true rfl) dX1_start_98 ⟨Nat.le_refl _, Nat.le_refl _⟩ (fun H locs hw => ?_)
      refine lv_aload_n hx hb dX1_start_101 rfl (lv_at hl 1 rfl) ?_
      refine mg_states hx hb hts hown hw dX1_start_102 ?_
      refine lv_iload_n hx hb dX1_start_105 rfl (lv_at hl 2 rfl) ?_
      refine rf_ialdn (j := 4) (jx := k) hx hb hw (by decide) (by decide) rfl rfl hk (mln_lt 4) dX1_start_106 ?_
      exact rf_iret hx hb hr hlk hw ⟨by simp only [mm_start, mr_start, c_5, c_17, rf_ixk hk, ↓reduceIte] <;> rfl, by simp only [mm_start, mr_start, c_5, c_17, rf_ixk hk, ↓reduceIte] <;> rfl⟩ dX1_start_107
    · refine lv_bipush (v := -5) hx hb dX1_start_20 (by decide) ?_
      exact rf_iret hx hb hr hlk hw ⟨by simp only [mm_start, mr_start, c_5, c_17, rf_ixk hk, ↓reduceIte] <;> rfl, by simp only [mm_start, mr_start, c_5, c_17, rf_ixk hk, ↓reduceIte] <;> rfl⟩ dX1_start_22
  · refine lv_bipush (v := -3) hx hb dX1_start_8 (by decide) ?_
    exact rf_iret hx hb hr hlk hw ⟨by simp only [mm_start, mr_start, c_5, ↓reduceIte] <;> rfl, by simp only [mm_start, mr_start, c_5, ↓reduceIte] <;> rfl⟩ dX1_start_10

set_option maxHeartbeats 4000000 in
set_option maxRecDepth 100000 in
/-- answer -/
theorem mt_answer (l : Launch) (D : va_G) {g : Nat → Nat} (ca : Nat → ClassId) (hg : rf_g mS g) (σ : rf_Mem) (r v : Int32) (hO : ∀ k, k < 3 → mm_ok σ k) (hp : ∀ k, k < 3 → σ 4 k = 1 → vp_in (σ 5 k) 16) : rf_Mi l yX1_answer cX1_answer 3 .int (rf_rm 3 71) D vwCl mS g ca σ [.int r, .int v] (mr_answer σ r v) (mm_answer σ r v) := by
  refine rf_enter (by decide) (Nat.le_of_ble_eq_true rfl) ?_
  intro p e s m below meth c ls hx hb hr hlk hml hown hts hnm hB hl
  have hw : rf_w D vwCl mS g ca σ (rf_A mS g) s s.heap [] := ⟨hB.1, hB.2, va_S.rf⟩
  have hA : ∀ q, rf_A mS g q → rf_A mS g q := fun _ h => h
  have hl : lv_has ls 3 [(0, .ref (g 0)), (1, .int r), (2, .int v)] := hl
  refine lv_aload_n hx hb dX1_answer_0 rfl (lv_at hl 0 rfl) ?_
  refine lv_iload_n hx hb dX1_answer_1 rfl (lv_at hl 1 rfl) ?_
  refine mk_isRun ⟨hx, hb, hml, hown, hts⟩ hg hA hw ⟨Nat.le_of_ble_eq_true rfl, Nat.le_of_ble_eq_true rfl⟩ hl.1 (Nat.le_of_ble_eq_true rfl) dX1_answer_2 ⟨Nat.le_refl _, Nat.le_refl _⟩ (fun H locs hw => ?_)
  refine lv_if_ne (tgt := 11) hx hb dX1_answer_5 (by decide) (fun c_5 => ?_) (fun c_5 => ?_)
  · obtain ⟨k, hk, rfl⟩ := mr_run c_5
    refine lv_aload_n hx hb dX1_answer_11 rfl (lv_at hl 0 rfl) ?_
    refine mg_states hx hb hts hown hw dX1_answer_12 ?_
    refine lv_iload_n hx hb dX1_answer_15 rfl (lv_at hl 1 rfl) ?_
    refine rf_ialdn (j := 4) (jx := k) hx hb hw (by decide) (by decide) rfl rfl hk (mln_lt 4) dX1_answer_16 ?_
    refine lv_iconst (v := 1) hx hb dX1_answer_17 (by decide) ?_
    refine lv_icmp_eq (tgt := 24) hx hb dX1_answer_18 (by decide) (fun c_18 => ?_) (fun c_18 => ?_)
    · refine lv_aload_n hx hb dX1_answer_24 rfl (lv_at hl 0 rfl) ?_
      refine lv_iload_n hx hb dX1_answer_25 rfl (lv_at hl 1 rfl) ?_
      refine lv_iconst (v := 1) hx hb dX1_answer_26 (by decide) ?_
      refine lv_iload_n hx hb dX1_answer_27 rfl (lv_at hl 2 rfl) ?_
      refine mk_pastWait ⟨hx, hb, hml, hown, hts⟩ hg hA hw hk (fun _ => ⟨hp k hk c_18, mm_as (hO k hk) (hp k hk c_18)⟩) ⟨Nat.le_of_ble_eq_true rfl, Nat.le_of_ble_eq_true rfl⟩ hl.1 (Nat.le_of_ble_eq_true rfl) dX1_answer_28 ⟨Nat.le_refl _, Nat.le_refl _⟩ (fun H locs hw => ?_)
      refine lv_aload_n hx hb dX1_answer_31 rfl (lv_at hl 0 rfl) ?_
      refine lv_iload_n hx hb dX1_answer_32 rfl (lv_at hl 1 rfl) ?_
      refine mk_goOn ⟨hx, hb, hml, hown, hts⟩ hg hA hw hk (mo_past (hO k hk)) ⟨Nat.le_of_ble_eq_true rfl, Nat.le_of_ble_eq_true rfl⟩ hl.1 (Nat.le_of_ble_eq_true rfl) dX1_answer_33 ⟨Nat.le_refl _, Nat.le_refl _⟩ (fun H locs hw => ?_)
      refine lv_aload_n hx hb dX1_answer_36 rfl (lv_at hl 0 rfl) ?_
      refine mg_states hx hb hts hown hw dX1_answer_37 ?_
      refine lv_iload_n hx hb dX1_answer_40 rfl (lv_at hl 1 rfl) ?_
      refine rf_ialdn (j := 4) (jx := k) hx hb hw (by decide) (by decide) rfl rfl hk (mln_lt 4) dX1_answer_41 ?_
      exact rf_iret hx hb hr hlk hw ⟨by simp only [mm_answer, mr_answer, c_5, c_18, rf_ixk hk, ↓reduceIte] <;> rfl, by simp only [mm_answer, mr_answer, c_5, c_18, rf_ixk hk, ↓reduceIte] <;> rfl⟩ dX1_answer_42
    · refine lv_bipush (v := -4) hx hb dX1_answer_21 (by decide) ?_
      exact rf_iret hx hb hr hlk hw ⟨by simp only [mm_answer, mr_answer, c_5, c_18, rf_ixk hk, ↓reduceIte] <;> rfl, by simp only [mm_answer, mr_answer, c_5, c_18, rf_ixk hk, ↓reduceIte] <;> rfl⟩ dX1_answer_23
  · refine lv_bipush (v := -3) hx hb dX1_answer_8 (by decide) ?_
    exact rf_iret hx hb hr hlk hw ⟨by simp only [mm_answer, mr_answer, c_5, ↓reduceIte] <;> rfl, by simp only [mm_answer, mr_answer, c_5, ↓reduceIte] <;> rfl⟩ dX1_answer_10

set_option maxHeartbeats 4000000 in
set_option maxRecDepth 100000 in
/-- signal -/
theorem mt_signal (l : Launch) (D : va_G) {g : Nat → Nat} (ca : Nat → ClassId) (hg : rf_g mS g) (σ : rf_Mem) (r ch v : Int32) (hO : ∀ k, k < 3 → mm_ok σ k) : rf_Mi l yX1_signal cX1_signal 5 .int (rf_rm 3 71) D vwCl mS g ca σ [.int r, .int ch, .int v] (mr_signal σ r ch v) (mm_signal σ r ch v) := by
  refine rf_enter (by decide) (Nat.le_of_ble_eq_true rfl) ?_
  intro p e s m below meth c ls hx hb hr hlk hml hown hts hnm hB hl
  have hw : rf_w D vwCl mS g ca σ (rf_A mS g) s s.heap [] := ⟨hB.1, hB.2, va_S.rf⟩
  have hA : ∀ q, rf_A mS g q → rf_A mS g q := fun _ h => h
  have hl : lv_has ls 5 [(0, .ref (g 0)), (1, .int r), (2, .int ch), (3, .int v)] := hl
  refine lv_aload_n hx hb dX1_signal_0 rfl (lv_at hl 0 rfl) ?_
  refine lv_iload_n hx hb dX1_signal_1 rfl (lv_at hl 1 rfl) ?_
  refine mk_isRun ⟨hx, hb, hml, hown, hts⟩ hg hA hw ⟨Nat.le_of_ble_eq_true rfl, Nat.le_of_ble_eq_true rfl⟩ hl.1 (Nat.le_of_ble_eq_true rfl) dX1_signal_2 ⟨Nat.le_refl _, Nat.le_refl _⟩ (fun H locs hw => ?_)
  refine lv_if_ne (tgt := 11) hx hb dX1_signal_5 (by decide) (fun c_5 => ?_) (fun c_5 => ?_)
  · obtain ⟨k, hk, rfl⟩ := mr_run c_5
    refine lv_aload_n hx hb dX1_signal_11 rfl (lv_at hl 0 rfl) ?_
    refine mg_states hx hb hts hown hw dX1_signal_12 ?_
    refine lv_iload_n hx hb dX1_signal_15 rfl (lv_at hl 1 rfl) ?_
    refine rf_ialdn (j := 4) (jx := k) hx hb hw (by decide) (by decide) rfl rfl hk (mln_lt 4) dX1_signal_16 ?_
    refine lv_if_eq (tgt := 30) hx hb dX1_signal_17 (by decide) (fun c_17 => ?_) (fun c_17 => ?_)
    · refine lv_bipush (v := -4) hx hb dX1_signal_30 (by decide) ?_
      exact rf_iret hx hb hr hlk hw ⟨by rw [mr_signal, if_neg c_5, rf_ixk hk, if_pos c_17] <;> rfl, by rw [mm_signal, if_neg c_5, rf_ixk hk, if_pos c_17] <;> rfl⟩ dX1_signal_32
    · refine lv_aload_n hx hb dX1_signal_20 rfl (lv_at hl 0 rfl) ?_
      refine mg_states hx hb hts hown hw dX1_signal_21 ?_
      refine lv_iload_n hx hb dX1_signal_24 rfl (lv_at hl 1 rfl) ?_
      refine rf_ialdn (j := 4) (jx := k) hx hb hw (by decide) (by decide) rfl rfl hk (mln_lt 4) dX1_signal_25 ?_
      refine lv_iconst (v := 4) hx hb dX1_signal_26 (by decide) ?_
      refine lv_icmp_ne (tgt := 33) hx hb dX1_signal_27 (by decide) (fun c_27 => ?_) (fun c_27 => ?_)
      · refine lv_aload_n hx hb dX1_signal_33 rfl (lv_at hl 0 rfl) ?_
        refine mg_signals hx hb hts hown hw dX1_signal_34 ?_
        refine lv_iload_n hx hb dX1_signal_37 rfl (lv_at hl 1 rfl) ?_
        refine rf_ialdn (j := 11) (jx := k) hx hb hw (by decide) (by decide) rfl rfl hk (mln_lt 11) dX1_signal_38 ?_
        refine lv_bipush (v := 24) hx hb dX1_signal_39 (by decide) ?_
        refine lv_icmp_ne (tgt := 47) hx hb dX1_signal_41 (by decide) (fun c_41 => ?_) (fun c_41 => ?_)
        · have hin24 := rf_le_in (hO k hk).2.1 (by decide) (rf_ne_lt (hO k hk).2.1 (by decide) c_41)
          refine lv_iload_n hx hb dX1_signal_47 rfl (lv_at hl 1 rfl) ?_
          refine lv_bipush (v := 24) hx hb dX1_signal_48 (by decide) ?_
          refine lv_imul hx hb dX1_signal_50 ?_
          refine lv_aload_n hx hb dX1_signal_51 rfl (lv_at hl 0 rfl) ?_
          refine mg_signals hx hb hts hown hw dX1_signal_52 ?_
          refine lv_iload_n hx hb dX1_signal_55 rfl (lv_at hl 1 rfl) ?_
          refine rf_ialdn (j := 11) (jx := k) hx hb hw (by decide) (by decide) rfl rfl hk (mln_lt 11) dX1_signal_56 ?_
          refine lv_iadd hx hb dX1_signal_57 ?_
          refine lv_istore (lv' := [(4, .int _), (0, .ref _), (1, .int _), (2, .int _), (3, .int _)]) hx hb dX1_signal_58 hl (by decide) rfl (fun ls hl => ?_)
          refine lv_aload_n hx hb dX1_signal_60 rfl (lv_at hl 1 rfl) ?_
          refine mg_signalChannel hx hb hts hown hw dX1_signal_61 ?_
          refine lv_iload hx hb dX1_signal_64 (lv_at hl 0 rfl) ?_
          refine lv_iload_n hx hb dX1_signal_66 rfl (lv_at hl 3 rfl) ?_
          refine lv_iconst (v := 1) hx hb dX1_signal_67 (by decide) ?_
          refine lv_iand hx hb dX1_signal_68 ?_
          refine rf_iastn (j := 12) (jx := (k * 24 + rf_ix (σ 11 k))) hx hb hg hA hw (by decide) (by decide) rfl (rf_ix24 k hin24 (by decide)) (rf_r24 hk hin24) (mln_lt 12) dX1_signal_69 (fun H locs hw => ?_)
          refine lv_aload_n hx hb dX1_signal_70 rfl (lv_at hl 1 rfl) ?_
          refine mg_signalValue hx hb hts hown hw dX1_signal_71 ?_
          refine lv_iload hx hb dX1_signal_74 (lv_at hl 0 rfl) ?_
          refine lv_iload_n hx hb dX1_signal_76 rfl (lv_at hl 4 rfl) ?_
          refine rf_iastn (j := 13) (jx := (k * 24 + rf_ix (σ 11 k))) hx hb hg hA hw (by decide) (by decide) rfl (rf_ix24 k hin24 (by decide)) (rf_r24 hk hin24) (mln_lt 13) dX1_signal_77 (fun H locs hw => ?_)
          refine lv_aload_n hx hb dX1_signal_78 rfl (lv_at hl 1 rfl) ?_
          refine mg_signalTaken hx hb hts hown hw dX1_signal_79 ?_
          refine lv_iload hx hb dX1_signal_82 (lv_at hl 0 rfl) ?_
          refine lv_iconst (v := 0) hx hb dX1_signal_84 (by decide) ?_
          refine rf_zastn (j := 14) (jx := (k * 24 + rf_ix (σ 11 k))) hx hb hg hA hw (by decide) (by decide) rfl rfl (rf_ix24 k hin24 (by decide)) (rf_r24 hk hin24) (mln_lt 14) dX1_signal_85 (fun H locs hw => ?_)
          refine lv_aload_n hx hb dX1_signal_86 rfl (lv_at hl 1 rfl) ?_
          refine mg_signals hx hb hts hown hw dX1_signal_87 ?_
          refine lv_iload_n hx hb dX1_signal_90 rfl (lv_at hl 2 rfl) ?_
          refine lv_dup2_11 hx hb dX1_signal_91 rfl rfl ?_
          refine rf_ialdn (j := 11) (jx := k) hx hb hw (by decide) (by decide) rfl rfl hk (mln_lt 11) dX1_signal_92 ?_
          refine lv_iconst (v := 1) hx hb dX1_signal_93 (by decide) ?_
          refine lv_iadd hx hb dX1_signal_94 ?_
          refine rf_iastn (j := 11) (jx := k) hx hb hg hA hw (by decide) (by decide) rfl rfl hk (mln_lt 11) dX1_signal_95 (fun H locs hw => ?_)
          have hw := rf_weq hw (show _ = mm_put σ k ch v from rfl)
          refine lv_aload_n hx hb dX1_signal_96 rfl (lv_at hl 1 rfl) ?_
          refine mg_states hx hb hts hown hw dX1_signal_97 ?_
          refine lv_iload_n hx hb dX1_signal_100 rfl (lv_at hl 2 rfl) ?_
          refine rf_ialdn (j := 4) (jx := k) hx hb hw (by decide) (by decide) rfl rfl hk (mln_lt 4) dX1_signal_101 ?_
          refine lv_iconst (v := 3) hx hb dX1_signal_102 (by decide) ?_
          refine lv_icmp_ne (tgt := 111) hx hb dX1_signal_103 (by decide) (fun (c_103 : ¬ σ 4 k = 3) => ?_) (fun (c_103 : σ 4 k = 3) => ?_)
          · refine lv_aload_n hx hb dX1_signal_111 rfl (lv_at hl 1 rfl) ?_
            refine mg_states hx hb hts hown hw dX1_signal_112 ?_
            refine lv_iload_n hx hb dX1_signal_115 rfl (lv_at hl 2 rfl) ?_
            refine rf_ialdn (j := 4) (jx := k) hx hb hw (by decide) (by decide) rfl rfl hk (mln_lt 4) dX1_signal_116 ?_
            exact rf_iret hx hb hr hlk hw ⟨by rw [mr_signal, if_neg c_5, rf_ixk hk, if_neg c_17, if_neg c_27, if_neg c_41, mm_signalT, if_neg c_103] <;> rfl, by rw [mm_signal, if_neg c_5, rf_ixk hk, if_neg c_17, if_neg c_27, if_neg c_41, mm_signalT, if_neg c_103] <;> rfl⟩ dX1_signal_117
          · refine lv_aload_n hx hb dX1_signal_106 rfl (lv_at hl 1 rfl) ?_
            refine lv_iload_n hx hb dX1_signal_107 rfl (lv_at hl 2 rfl) ?_
            refine mk_goOn ⟨hx, hb, hml, hown, hts⟩ hg hA hw hk (mo_put (hO k hk) c_41) ⟨Nat.le_of_ble_eq_true rfl, Nat.le_of_ble_eq_true rfl⟩ hl.1 (Nat.le_of_ble_eq_true rfl) dX1_signal_108 ⟨Nat.le_refl _, Nat.le_refl _⟩ (fun H locs hw => ?_)
            refine lv_aload_n hx hb dX1_signal_111 rfl (lv_at hl 1 rfl) ?_
            refine mg_states hx hb hts hown hw dX1_signal_112 ?_
            refine lv_iload_n hx hb dX1_signal_115 rfl (lv_at hl 2 rfl) ?_
            refine rf_ialdn (j := 4) (jx := k) hx hb hw (by decide) (by decide) rfl rfl hk (mln_lt 4) dX1_signal_116 ?_
            exact rf_iret hx hb hr hlk hw ⟨by rw [mr_signal, if_neg c_5, rf_ixk hk, if_neg c_17, if_neg c_27, if_neg c_41, mm_signalT, if_pos c_103] <;> rfl, by rw [mm_signal, if_neg c_5, rf_ixk hk, if_neg c_17, if_neg c_27, if_neg c_41, mm_signalT, if_pos c_103] <;> rfl⟩ dX1_signal_117
        · refine lv_bipush (v := -2) hx hb dX1_signal_44 (by decide) ?_
          exact rf_iret hx hb hr hlk hw ⟨by rw [mr_signal, if_neg c_5, rf_ixk hk, if_neg c_17, if_neg c_27, if_pos c_41] <;> rfl, by rw [mm_signal, if_neg c_5, rf_ixk hk, if_neg c_17, if_neg c_27, if_pos c_41] <;> rfl⟩ dX1_signal_46
      · refine lv_bipush (v := -4) hx hb dX1_signal_30 (by decide) ?_
        exact rf_iret hx hb hr hlk hw ⟨by rw [mr_signal, if_neg c_5, rf_ixk hk, if_neg c_17, if_pos c_27] <;> rfl, by rw [mm_signal, if_neg c_5, rf_ixk hk, if_neg c_17, if_pos c_27] <;> rfl⟩ dX1_signal_32
  · refine lv_bipush (v := -3) hx hb dX1_signal_8 (by decide) ?_
    exact rf_iret hx hb hr hlk hw ⟨by simp only [mm_signal, mr_signal, c_5, ↓reduceIte] <;> rfl, by simp only [mm_signal, mr_signal, c_5, ↓reduceIte] <;> rfl⟩ dX1_signal_10

set_option maxHeartbeats 4000000 in
set_option maxRecDepth 100000 in
/-- pass -/
theorem mt_pass (l : Launch) (D : va_G) {g : Nat → Nat} (ca : Nat → ClassId) (hg : rf_g mS g) (σ : rf_Mem) (n : Int32) (hO : ¬ n < 0 → n ≤ 1000 → ∀ j, j < 3 → mm_ok (mm_passN (mm_now σ n) j) j) : rf_Mi l yX1_pass cX1_pass 4 .int (rf_rm 3 71) D vwCl mS g ca σ [.int n] (mr_pass σ n) (mm_pass σ n) := by
  refine rf_enter (by decide) (Nat.le_of_ble_eq_true rfl) ?_
  intro p e s m below meth c ls hx hb hr hlk hml hown hts hnm hB hl
  have hw : rf_w D vwCl mS g ca σ (rf_A mS g) s s.heap [] := ⟨hB.1, hB.2, va_S.rf⟩
  have hA : ∀ q, rf_A mS g q → rf_A mS g q := fun _ h => h
  have hl : lv_has ls 4 [(0, .ref (g 0)), (1, .int n)] := hl
  have K28 : ∀ (z k : Nat) (H : Heap) (locs : List Loc) (ls : Array Slot), k + z = 3 → ¬ n < 0 → n ≤ 1000 → rf_w D vwCl mS g ca (mm_passN (mm_now σ n) k) (rf_A mS g) s H locs → lv_has ls 4 [(3, .int (nI k)), (2, .int (nI (mr_passN (mm_now σ n) k))), (0, .ref (g 0))] → W p l e (rf_rm 3 71) s m ([.ref (g 0), .int n] : List Value).toArray below meth c H locs 0 0 (MQ below (va_Qi (fun r σ' => r = mr_pass σ n ∧ σ' = mm_pass σ n) (rf_J D vwCl mS g ca) (rf_A mS g)) ([.ref (g 0), .int n] : List Value).toArray s 0 0 (rf_A mS g)) (F0 m 28 ls []) := by
    intro z
    induction z with
    | zero =>
      intro k H locs ls hz hn0 hn1 hw hl
      obtain rfl : k = 3 := by omega
      refine lv_iload_n hx hb dX1_pass_28 rfl (lv_at hl 0 rfl) ?_
      refine lv_iconst (v := 3) hx hb dX1_pass_29 (by decide) ?_
      refine lv_icmp_ge (tgt := 77) hx hb dX1_pass_30 (by decide) (fun c_30 => ?_) (fun c_30 => ?_)
      · refine lv_iload_n hx hb dX1_pass_77 rfl (lv_at hl 1 rfl) ?_
        exact rf_iret hx hb hr hlk hw ⟨by rw [mr_pass, if_neg hn0, if_pos hn1], by rw [mm_pass, if_neg hn0, if_pos hn1]⟩ dX1_pass_78
      · exact absurd (nI_le (a := 3) (b := 3) (by omega) (by omega)) c_30
    | succ z ih =>
      intro k H locs ls hz hn0 hn1 hw hl
      have hk : k < 3 := by omega
      have hok := hO hn0 hn1 k hk
      have K71 : ∀ (H : Heap) (locs : List Loc) (ls : Array Slot), rf_w D vwCl mS g ca (mm_passN (mm_now σ n) (k + 1)) (rf_A mS g) s H locs → lv_has ls 4 [(3, .int (nI k)), (2, .int (nI (mr_passN (mm_now σ n) (k + 1)))), (0, .ref (g 0))] → W p l e (rf_rm 3 71) s m ([.ref (g 0), .int n] : List Value).toArray below meth c H locs 0 0 (MQ below (va_Qi (fun r σ' => r = mr_pass σ n ∧ σ' = mm_pass σ n) (rf_J D vwCl mS g ca) (rf_A mS g)) ([.ref (g 0), .int n] : List Value).toArray s 0 0 (rf_A mS g)) (F0 m 71 ls []) := by
        intro H locs ls hw hl
        refine lv_iinc (v := nI (k + 1)) (lv' := [(3, .int _), (2, .int _), (0, .ref _)]) hx hb dX1_pass_71 hl (k := 0) rfl (nI_1 k) (by decide) rfl (fun ls hl => ?_)
        refine lv_goto (tgt := 28) hx hb dX1_pass_74 (by decide) ?_
        exact ih (k + 1) _ _ _ (by omega) hn0 hn1 hw (lv_sub hl [0, 1, 2] rfl)
      refine lv_iload_n hx hb dX1_pass_28 rfl (lv_at hl 0 rfl) ?_
      refine lv_iconst (v := 3) hx hb dX1_pass_29 (by decide) ?_
      refine lv_icmp_ge (tgt := 77) hx hb dX1_pass_30 (by decide) (fun c_30 => ?_) (fun c_30 => ?_)
      · exact absurd c_30 (nI_ge (a := k) (b := 3) (by omega) (by omega))
      · refine lv_aload_n hx hb dX1_pass_33 rfl (lv_at hl 2 rfl) ?_
        refine mg_states hx hb hts hown hw dX1_pass_34 ?_
        refine lv_iload_n hx hb dX1_pass_37 rfl (lv_at hl 0 rfl) ?_
        refine rf_ialdn (j := 4) (jx := k) hx hb hw (by decide) (by decide) rfl rfl hk (mln_lt 4) dX1_pass_38 ?_
        refine lv_iconst (v := 2) hx hb dX1_pass_39 (by decide) ?_
        refine lv_icmp_ne (tgt := 71) hx hb dX1_pass_40 (by decide) (fun c_40 => ?_) (fun c_40 => ?_)
        · exact K71 _ _ _ (rf_weq hw (by rw [mm_passN, mm_pass1, if_neg c_40] <;> rfl)) (by rw [show mr_passN (mm_now σ n) (k + 1) = mr_passN (mm_now σ n) k by rw [mr_passN, mr_pass1, if_neg c_40] <;> rfl]; exact lv_sub hl [0, 1, 2] rfl)
        · refine lv_aload_n hx hb dX1_pass_43 rfl (lv_at hl 2 rfl) ?_
          refine mg_wakes hx hb hts hown hw dX1_pass_44 ?_
          refine lv_iload_n hx hb dX1_pass_47 rfl (lv_at hl 0 rfl) ?_
          refine rf_ialdn (j := 9) (jx := k) hx hb hw (by decide) (by decide) rfl rfl hk (mln_lt 9) dX1_pass_48 ?_
          refine lv_aload_n hx hb dX1_pass_49 rfl (lv_at hl 2 rfl) ?_
          refine mg_now hx hb hts hown hw dX1_pass_50 ?_
          refine lv_icmp_gt (tgt := 71) hx hb dX1_pass_53 (by decide) (fun c_53 => ?_) (fun c_53 => ?_)
          · exact K71 _ _ _ (rf_weq hw (by rw [mm_passN, mm_pass1, if_pos c_40, if_pos c_53] <;> rfl)) (by rw [show mr_passN (mm_now σ n) (k + 1) = mr_passN (mm_now σ n) k by rw [mr_passN, mr_pass1, if_pos c_40, if_pos c_53] <;> rfl]; exact lv_sub hl [0, 1, 2] rfl)
          · refine lv_iinc (v := nI (mr_passN (mm_now σ n) k + 1)) (lv' := [(2, .int _), (3, .int _), (0, .ref _)]) hx hb dX1_pass_56 hl (k := 1) rfl (nI_1 _) (by decide) rfl (fun ls hl => ?_)
            refine lv_aload_n hx hb dX1_pass_59 rfl (lv_at hl 2 rfl) ?_
            refine lv_iload_n hx hb dX1_pass_60 rfl (lv_at hl 1 rfl) ?_
            refine lv_iconst (v := 0) hx hb dX1_pass_61 (by decide) ?_
            refine lv_iconst (v := 0) hx hb dX1_pass_62 (by decide) ?_
            refine mk_pastWait ⟨hx, hb, hml, hown, hts⟩ hg hA hw hk (fun q => absurd rfl q) ⟨Nat.le_of_ble_eq_true rfl, Nat.le_of_ble_eq_true rfl⟩ hl.1 (Nat.le_of_ble_eq_true rfl) dX1_pass_63 ⟨Nat.le_refl _, Nat.le_refl _⟩ (fun H locs hw => ?_)
            refine lv_aload_n hx hb dX1_pass_66 rfl (lv_at hl 2 rfl) ?_
            refine lv_iload_n hx hb dX1_pass_67 rfl (lv_at hl 1 rfl) ?_
            refine mk_goOn ⟨hx, hb, hml, hown, hts⟩ hg hA hw hk (mo_past hok) ⟨Nat.le_of_ble_eq_true rfl, Nat.le_of_ble_eq_true rfl⟩ hl.1 (Nat.le_of_ble_eq_true rfl) dX1_pass_68 ⟨Nat.le_refl _, Nat.le_refl _⟩ (fun H locs hw => ?_)
            exact K71 _ _ _ (rf_weq hw (by rw [mm_passN, mm_pass1, if_pos c_40, if_neg c_53] <;> rfl)) (by rw [show mr_passN (mm_now σ n) (k + 1) = mr_passN (mm_now σ n) k + 1 by rw [mr_passN, mr_pass1, if_pos c_40, if_neg c_53] <;> rfl]; exact lv_sub hl [1, 0, 2] rfl)
  refine lv_iload_n hx hb dX1_pass_0 rfl (lv_at hl 1 rfl) ?_
  refine lv_if_lt (tgt := 11) hx hb dX1_pass_1 (by decide) (fun c_1 => ?_) (fun c_1 => ?_)
  · refine lv_bipush (v := -6) hx hb dX1_pass_11 (by decide) ?_
    exact rf_iret hx hb hr hlk hw ⟨by rw [mr_pass, if_pos c_1] <;> rfl, by rw [mm_pass, if_pos c_1] <;> rfl⟩ dX1_pass_13
  · refine lv_iload_n hx hb dX1_pass_4 rfl (lv_at hl 1 rfl) ?_
    refine lv_sipush (v := 1000) hx hb dX1_pass_5 (by decide) ?_
    refine lv_icmp_le (tgt := 14) hx hb dX1_pass_8 (by decide) (fun c_8 => ?_) (fun c_8 => ?_)
    · refine lv_aload_n hx hb dX1_pass_14 rfl (lv_at hl 0 rfl) ?_
      refine lv_dup hx hb dX1_pass_15 rfl ?_
      refine mg_now hx hb hts hown hw dX1_pass_16 ?_
      refine lv_iload_n hx hb dX1_pass_19 rfl (lv_at hl 1 rfl) ?_
      refine lv_iadd hx hb dX1_pass_20 ?_
      refine mp_now hx hb hts hown hg hA hw dX1_pass_21 (fun H locs hw => ?_)
      refine lv_iconst (v := 0) hx hb dX1_pass_24 (by decide) ?_
      refine lv_istore_n (lv' := [(2, .int _), (0, .ref _), (1, .int _)]) hx hb dX1_pass_25 rfl hl (by decide) rfl (fun ls hl => ?_)
      refine lv_iconst (v := 0) hx hb dX1_pass_26 (by decide) ?_
      refine lv_istore_n (lv' := [(3, .int _), (2, .int _), (0, .ref _), (1, .int _)]) hx hb dX1_pass_27 rfl hl (by decide) rfl (fun ls hl => ?_)
      exact K28 3 0 _ _ _ (by omega) c_1 c_8 hw (lv_sub hl [0, 1, 2] rfl)
    · refine lv_bipush (v := -6) hx hb dX1_pass_11 (by decide) ?_
      exact rf_iret hx hb hr hlk hw ⟨by rw [mr_pass, if_neg c_1, if_neg c_8] <;> rfl, by rw [mm_pass, if_neg c_1, if_neg c_8] <;> rfl⟩ dX1_pass_13
end
section
set_option maxHeartbeats 4000000 in
set_option maxRecDepth 100000 in
/-- forget -/
theorem mt_forget (l : Launch) (D : va_G) {g : Nat → Nat} (ca : Nat → ClassId) (hg : rf_g mS g) (σ : rf_Mem) (r : Int32)  : rf_Mi l yX1_forget cX1_forget 2 .int (rf_rm 1 21) D vwCl mS g ca σ [.int r] (mr_forget r) (σ) := by
  refine rf_enter (by decide) (Nat.le_of_ble_eq_true rfl) ?_
  intro p e s m below meth c ls hx hb hr hlk hml hown hts hnm hB hl
  have hw : rf_w D vwCl mS g ca σ (rf_A mS g) s s.heap [] := ⟨hB.1, hB.2, va_S.rf⟩
  have hA : ∀ q, rf_A mS g q → rf_A mS g q := fun _ h => h
  have hl : lv_has ls 2 [(0, .ref (g 0)), (1, .int r)] := hl
  refine lv_aload_n hx hb dX1_forget_0 rfl (lv_at hl 0 rfl) ?_
  refine lv_iload_n hx hb dX1_forget_1 rfl (lv_at hl 1 rfl) ?_
  refine mk_isRun ⟨hx, hb, hml, hown, hts⟩ hg hA hw ⟨Nat.le_of_ble_eq_true rfl, Nat.le_of_ble_eq_true rfl⟩ hl.1 (Nat.le_of_ble_eq_true rfl) dX1_forget_2 ⟨Nat.le_refl _, Nat.le_refl _⟩ (fun H locs hw => ?_)
  refine lv_if_eq (tgt := 12) hx hb dX1_forget_5 (by decide) (fun c_5 => ?_) (fun c_5 => ?_)
  · refine lv_bipush (v := -3) hx hb dX1_forget_12 (by decide) ?_
    exact rf_iret hx hb hr hlk hw ⟨by simp only [mr_forget, c_5, ↓reduceIte] <;> rfl, rfl⟩ dX1_forget_14
  · refine lv_iconst (v := 0) hx hb dX1_forget_8 (by decide) ?_
    refine lv_goto (tgt := 14) hx hb dX1_forget_9 (by decide) ?_
    exact rf_iret hx hb hr hlk hw ⟨by simp only [mr_forget, c_5, ↓reduceIte] <;> rfl, rfl⟩ dX1_forget_14

set_option maxHeartbeats 4000000 in
set_option maxRecDepth 100000 in
/-- clear -/
theorem mt_clear (l : Launch) (D : va_G) {g : Nat → Nat} (ca : Nat → ClassId) (hg : rf_g mS g) (σ : rf_Mem)   : rf_Mv l yX1_clear cX1_clear 2 (rf_rm 0 0) D vwCl mS g ca σ [] (mm_clear σ) := by
  refine rf_enter (by decide) (Nat.le_of_ble_eq_true rfl) ?_
  intro p e s m below meth c ls hx hb hr hlk hml hown hts hnm hB hl
  have hw : rf_w D vwCl mS g ca σ (rf_A mS g) s s.heap [] := ⟨hB.1, hB.2, va_S.rf⟩
  have hA : ∀ q, rf_A mS g q → rf_A mS g q := fun _ h => h
  have hl : lv_has ls 2 [(0, .ref (g 0))] := hl
  refine lv_aload_n hx hb dX1_clear_0 rfl (lv_at hl 0 rfl) ?_
  refine lv_iconst (v := 0) hx hb dX1_clear_1 (by decide) ?_
  refine mp_length hx hb hts hown hg hA hw dX1_clear_2 (fun H locs hw => ?_)
  refine lv_aload_n hx hb dX1_clear_5 rfl (lv_at hl 0 rfl) ?_
  refine lv_iconst (v := 0) hx hb dX1_clear_6 (by decide) ?_
  refine mp_locked hx hb hts hown hg hA hw rfl rfl dX1_clear_7 (fun H locs hw => ?_)
  refine lv_aload_n hx hb dX1_clear_10 rfl (lv_at hl 0 rfl) ?_
  refine lv_iconst (v := 0) hx hb dX1_clear_11 (by decide) ?_
  refine mp_now hx hb hts hown hg hA hw dX1_clear_12 (fun H locs hw => ?_)
  refine lv_iconst (v := 0) hx hb dX1_clear_15 (by decide) ?_
  refine lv_istore_n (lv' := [(1, .int _), (0, .ref _)]) hx hb dX1_clear_16 rfl hl (by decide) rfl (fun ls hl => ?_)
  refine lv_iload_n hx hb dX1_clear_17 rfl (lv_at hl 0 rfl) ?_
  refine lv_iconst (v := 3) hx hb dX1_clear_18 (by decide) ?_
  refine lv_icmp_ge (tgt := 35) hx hb dX1_clear_19 (by decide) (fun c_ => absurd c_ (by decide)) (fun _ => ?_)
  refine lv_aload_n hx hb dX1_clear_22 rfl (lv_at hl 1 rfl) ?_
  refine mg_states hx hb hts hown hw dX1_clear_23 ?_
  refine lv_iload_n hx hb dX1_clear_26 rfl (lv_at hl 0 rfl) ?_
  refine lv_iconst (v := 0) hx hb dX1_clear_27 (by decide) ?_
  refine rf_iastn (j := 4) (jx := 0) hx hb hg hA hw (by decide) (by decide) rfl rfl (show 0 < 3 by decide) (mln_lt 4) dX1_clear_28 (fun H locs hw => ?_)
  refine lv_iinc (v := 1) (lv' := [(1, .int _), (0, .ref _)]) hx hb dX1_clear_29 hl (k := 0) rfl rfl (by decide) rfl (fun ls hl => ?_)
  refine lv_goto (tgt := 17) hx hb dX1_clear_32 (by decide) ?_
  refine lv_iload_n hx hb dX1_clear_17 rfl (lv_at hl 0 rfl) ?_
  refine lv_iconst (v := 3) hx hb dX1_clear_18 (by decide) ?_
  refine lv_icmp_ge (tgt := 35) hx hb dX1_clear_19 (by decide) (fun c_ => absurd c_ (by decide)) (fun _ => ?_)
  refine lv_aload_n hx hb dX1_clear_22 rfl (lv_at hl 1 rfl) ?_
  refine mg_states hx hb hts hown hw dX1_clear_23 ?_
  refine lv_iload_n hx hb dX1_clear_26 rfl (lv_at hl 0 rfl) ?_
  refine lv_iconst (v := 0) hx hb dX1_clear_27 (by decide) ?_
  refine rf_iastn (j := 4) (jx := 1) hx hb hg hA hw (by decide) (by decide) rfl rfl (show 1 < 3 by decide) (mln_lt 4) dX1_clear_28 (fun H locs hw => ?_)
  refine lv_iinc (v := 2) (lv' := [(1, .int _), (0, .ref _)]) hx hb dX1_clear_29 hl (k := 0) rfl rfl (by decide) rfl (fun ls hl => ?_)
  refine lv_goto (tgt := 17) hx hb dX1_clear_32 (by decide) ?_
  refine lv_iload_n hx hb dX1_clear_17 rfl (lv_at hl 0 rfl) ?_
  refine lv_iconst (v := 3) hx hb dX1_clear_18 (by decide) ?_
  refine lv_icmp_ge (tgt := 35) hx hb dX1_clear_19 (by decide) (fun c_ => absurd c_ (by decide)) (fun _ => ?_)
  refine lv_aload_n hx hb dX1_clear_22 rfl (lv_at hl 1 rfl) ?_
  refine mg_states hx hb hts hown hw dX1_clear_23 ?_
  refine lv_iload_n hx hb dX1_clear_26 rfl (lv_at hl 0 rfl) ?_
  refine lv_iconst (v := 0) hx hb dX1_clear_27 (by decide) ?_
  refine rf_iastn (j := 4) (jx := 2) hx hb hg hA hw (by decide) (by decide) rfl rfl (show 2 < 3 by decide) (mln_lt 4) dX1_clear_28 (fun H locs hw => ?_)
  refine lv_iinc (v := 3) (lv' := [(1, .int _), (0, .ref _)]) hx hb dX1_clear_29 hl (k := 0) rfl rfl (by decide) rfl (fun ls hl => ?_)
  refine lv_goto (tgt := 17) hx hb dX1_clear_32 (by decide) ?_
  refine lv_iload_n hx hb dX1_clear_17 rfl (lv_at hl 0 rfl) ?_
  refine lv_iconst (v := 3) hx hb dX1_clear_18 (by decide) ?_
  refine lv_icmp_ge (tgt := 35) hx hb dX1_clear_19 (by decide) (fun _ => ?_) (fun c_ => absurd c_ (by decide))
  exact rf_vret hx hb hr hlk hw rfl dX1_clear_35

set_option maxHeartbeats 4000000 in
set_option maxRecDepth 100000 in
/-- state -/
theorem mt_state (l : Launch) (D : va_G) {g : Nat → Nat} (ca : Nat → ClassId) (hg : rf_g mS g) (σ : rf_Mem) (r : Int32)  : rf_Mi l yX1_state cX1_state 2 .int (rf_rm 1 21) D vwCl mS g ca σ [.int r] (mr_state σ r) (σ) := by
  refine rf_enter (by decide) (Nat.le_of_ble_eq_true rfl) ?_
  intro p e s m below meth c ls hx hb hr hlk hml hown hts hnm hB hl
  have hw : rf_w D vwCl mS g ca σ (rf_A mS g) s s.heap [] := ⟨hB.1, hB.2, va_S.rf⟩
  have hA : ∀ q, rf_A mS g q → rf_A mS g q := fun _ h => h
  have hl : lv_has ls 2 [(0, .ref (g 0)), (1, .int r)] := hl
  refine lv_aload_n hx hb dX1_state_0 rfl (lv_at hl 0 rfl) ?_
  refine lv_iload_n hx hb dX1_state_1 rfl (lv_at hl 1 rfl) ?_
  refine mk_isRun ⟨hx, hb, hml, hown, hts⟩ hg hA hw ⟨Nat.le_of_ble_eq_true rfl, Nat.le_of_ble_eq_true rfl⟩ hl.1 (Nat.le_of_ble_eq_true rfl) dX1_state_2 ⟨Nat.le_refl _, Nat.le_refl _⟩ (fun H locs hw => ?_)
  refine lv_if_eq (tgt := 17) hx hb dX1_state_5 (by decide) (fun c_5 => ?_) (fun c_5 => ?_)
  · refine lv_bipush (v := -3) hx hb dX1_state_17 (by decide) ?_
    exact rf_iret hx hb hr hlk hw ⟨by simp only [mr_state, c_5, ↓reduceIte] <;> rfl, rfl⟩ dX1_state_19
  · obtain ⟨k, hk, rfl⟩ := mr_run c_5
    refine lv_aload_n hx hb dX1_state_8 rfl (lv_at hl 0 rfl) ?_
    refine mg_states hx hb hts hown hw dX1_state_9 ?_
    refine lv_iload_n hx hb dX1_state_12 rfl (lv_at hl 1 rfl) ?_
    refine rf_ialdn (j := 4) (jx := k) hx hb hw (by decide) (by decide) rfl rfl hk (mln_lt 4) dX1_state_13 ?_
    refine lv_goto (tgt := 19) hx hb dX1_state_14 (by decide) ?_
    exact rf_iret hx hb hr hlk hw ⟨by simp only [mr_state, c_5, rf_ixk hk, ↓reduceIte] <;> rfl, rfl⟩ dX1_state_19

set_option maxHeartbeats 4000000 in
set_option maxRecDepth 100000 in
/-- register -/
theorem mt_register (l : Launch) (D : va_G) {g : Nat → Nat} (ca : Nat → ClassId) (hg : rf_g mS g) (σ : rf_Mem) (r a : Int32)  : rf_Mi l yX1_register cX1_register 3 .int (rf_rm 1 21) D vwCl mS g ca σ [.int r, .int a] (mr_register σ r a) (σ) := by
  refine rf_enter (by decide) (Nat.le_of_ble_eq_true rfl) ?_
  intro p e s m below meth c ls hx hb hr hlk hml hown hts hnm hB hl
  have hw : rf_w D vwCl mS g ca σ (rf_A mS g) s s.heap [] := ⟨hB.1, hB.2, va_S.rf⟩
  have hA : ∀ q, rf_A mS g q → rf_A mS g q := fun _ h => h
  have hl : lv_has ls 3 [(0, .ref (g 0)), (1, .int r), (2, .int a)] := hl
  refine lv_aload_n hx hb dX1_register_0 rfl (lv_at hl 0 rfl) ?_
  refine lv_iload_n hx hb dX1_register_1 rfl (lv_at hl 1 rfl) ?_
  refine mk_isRun ⟨hx, hb, hml, hown, hts⟩ hg hA hw ⟨Nat.le_of_ble_eq_true rfl, Nat.le_of_ble_eq_true rfl⟩ hl.1 (Nat.le_of_ble_eq_true rfl) dX1_register_2 ⟨Nat.le_refl _, Nat.le_refl _⟩ (fun H locs hw => ?_)
  refine lv_if_eq (tgt := 32) hx hb dX1_register_5 (by decide) (fun c_5 => ?_) (fun c_5 => ?_)
  · refine lv_iconst (v := 0) hx hb dX1_register_32 (by decide) ?_
    exact rf_iret hx hb hr hlk hw ⟨by simp only [mr_register, c_5, ↓reduceIte] <;> rfl, rfl⟩ dX1_register_33
  · obtain ⟨k, hk, rfl⟩ := mr_run c_5
    refine lv_aload_n hx hb dX1_register_8 rfl (lv_at hl 0 rfl) ?_
    refine mg_states hx hb hts hown hw dX1_register_9 ?_
    refine lv_iload_n hx hb dX1_register_12 rfl (lv_at hl 1 rfl) ?_
    refine rf_ialdn (j := 4) (jx := k) hx hb hw (by decide) (by decide) rfl rfl hk (mln_lt 4) dX1_register_13 ?_
    refine lv_if_eq (tgt := 32) hx hb dX1_register_14 (by decide) (fun c_14 => ?_) (fun c_14 => ?_)
    · refine lv_iconst (v := 0) hx hb dX1_register_32 (by decide) ?_
      exact rf_iret hx hb hr hlk hw ⟨by simp only [mr_register, c_5, c_14, rf_ixk hk, ↓reduceIte] <;> rfl, rfl⟩ dX1_register_33
    · refine lv_aload_n hx hb dX1_register_17 rfl (lv_at hl 0 rfl) ?_
      refine mg_registers hx hb hts hown hw dX1_register_18 ?_
      refine lv_iload_n hx hb dX1_register_21 rfl (lv_at hl 1 rfl) ?_
      refine lv_iconst (v := 4) hx hb dX1_register_22 (by decide) ?_
      refine lv_imul hx hb dX1_register_23 ?_
      refine lv_iload_n hx hb dX1_register_24 rfl (lv_at hl 2 rfl) ?_
      refine lv_iconst (v := 3) hx hb dX1_register_25 (by decide) ?_
      refine lv_iand hx hb dX1_register_26 ?_
      refine lv_iadd hx hb dX1_register_27 ?_
      refine rf_ialdn (j := 7) (jx := (k * 4 + rf_q a)) hx hb hw (by decide) (by decide) rfl (rf_ix4 k _) (rf_r4 hk _) (mln_lt 7) dX1_register_28 ?_
      refine lv_goto (tgt := 33) hx hb dX1_register_29 (by decide) ?_
      exact rf_iret hx hb hr hlk hw ⟨by simp only [mr_register, c_5, c_14, rf_ixk hk, ↓reduceIte] <;> rfl, rfl⟩ dX1_register_33

set_option maxHeartbeats 4000000 in
set_option maxRecDepth 100000 in
/-- activity -/
theorem mt_activity (l : Launch) (D : va_G) {g : Nat → Nat} (ca : Nat → ClassId) (hg : rf_g mS g) (σ : rf_Mem) (r : Int32) (hp : ∀ k, k < 3 → σ 4 k = 1 → vp_in (σ 5 k) 16) : rf_Mi l yX1_activity cX1_activity 2 .int (rf_rm 1 21) D vwCl mS g ca σ [.int r] (mr_activity σ r) (σ) := by
  refine rf_enter (by decide) (Nat.le_of_ble_eq_true rfl) ?_
  intro p e s m below meth c ls hx hb hr hlk hml hown hts hnm hB hl
  have hw : rf_w D vwCl mS g ca σ (rf_A mS g) s s.heap [] := ⟨hB.1, hB.2, va_S.rf⟩
  have hA : ∀ q, rf_A mS g q → rf_A mS g q := fun _ h => h
  have hl : lv_has ls 2 [(0, .ref (g 0)), (1, .int r)] := hl
  refine lv_aload_n hx hb dX1_activity_0 rfl (lv_at hl 0 rfl) ?_
  refine lv_iload_n hx hb dX1_activity_1 rfl (lv_at hl 1 rfl) ?_
  refine mk_isRun ⟨hx, hb, hml, hown, hts⟩ hg hA hw ⟨Nat.le_of_ble_eq_true rfl, Nat.le_of_ble_eq_true rfl⟩ hl.1 (Nat.le_of_ble_eq_true rfl) dX1_activity_2 ⟨Nat.le_refl _, Nat.le_refl _⟩ (fun H locs hw => ?_)
  refine lv_if_ne (tgt := 11) hx hb dX1_activity_5 (by decide) (fun c_5 => ?_) (fun c_5 => ?_)
  · obtain ⟨k, hk, rfl⟩ := mr_run c_5
    refine lv_aload_n hx hb dX1_activity_11 rfl (lv_at hl 0 rfl) ?_
    refine mg_states hx hb hts hown hw dX1_activity_12 ?_
    refine lv_iload_n hx hb dX1_activity_15 rfl (lv_at hl 1 rfl) ?_
    refine rf_ialdn (j := 4) (jx := k) hx hb hw (by decide) (by decide) rfl rfl hk (mln_lt 4) dX1_activity_16 ?_
    refine lv_iconst (v := 1) hx hb dX1_activity_17 (by decide) ?_
    refine lv_icmp_ne (tgt := 35) hx hb dX1_activity_18 (by decide) (fun c_18 => ?_) (fun c_18 => ?_)
    · refine lv_iconst (v := 0) hx hb dX1_activity_35 (by decide) ?_
      exact rf_iret hx hb hr hlk hw ⟨by simp only [mr_activity, c_5, c_18, rf_ixk hk, ↓reduceIte] <;> rfl, rfl⟩ dX1_activity_36
    · have hpl := hp k hk c_18
      refine lv_aload_n hx hb dX1_activity_21 rfl (lv_at hl 0 rfl) ?_
      refine mg_bs hx hb hts hown hw dX1_activity_22 ?_
      refine lv_aload_n hx hb dX1_activity_25 rfl (lv_at hl 0 rfl) ?_
      refine mg_places hx hb hts hown hw dX1_activity_26 ?_
      refine lv_iload_n hx hb dX1_activity_29 rfl (lv_at hl 1 rfl) ?_
      refine rf_ialdn (j := 5) (jx := k) hx hb hw (by decide) (by decide) rfl rfl hk (mln_lt 5) dX1_activity_30 ?_
      refine rf_iald (j := 3) hx hb hw (by decide) (by decide) rfl hpl dX1_activity_31 ?_
      refine lv_goto (tgt := 36) hx hb dX1_activity_32 (by decide) ?_
      exact rf_iret hx hb hr hlk hw ⟨by simp only [mr_activity, c_5, c_18, rf_ixk hk, ↓reduceIte] <;> rfl, rfl⟩ dX1_activity_36
  · refine lv_bipush (v := -3) hx hb dX1_activity_8 (by decide) ?_
    exact rf_iret hx hb hr hlk hw ⟨by simp only [mr_activity, c_5, ↓reduceIte] <;> rfl, rfl⟩ dX1_activity_10

set_option maxHeartbeats 4000000 in
set_option maxRecDepth 100000 in
/-- result -/
theorem mt_result (l : Launch) (D : va_G) {g : Nat → Nat} (ca : Nat → ClassId) (hg : rf_g mS g) (σ : rf_Mem) (r : Int32)  : rf_Mi l yX1_result cX1_result 2 .int (rf_rm 1 21) D vwCl mS g ca σ [.int r] (mr_result σ r) (σ) := by
  refine rf_enter (by decide) (Nat.le_of_ble_eq_true rfl) ?_
  intro p e s m below meth c ls hx hb hr hlk hml hown hts hnm hB hl
  have hw : rf_w D vwCl mS g ca σ (rf_A mS g) s s.heap [] := ⟨hB.1, hB.2, va_S.rf⟩
  have hA : ∀ q, rf_A mS g q → rf_A mS g q := fun _ h => h
  have hl : lv_has ls 2 [(0, .ref (g 0)), (1, .int r)] := hl
  refine lv_aload_n hx hb dX1_result_0 rfl (lv_at hl 0 rfl) ?_
  refine lv_iload_n hx hb dX1_result_1 rfl (lv_at hl 1 rfl) ?_
  refine mk_isRun ⟨hx, hb, hml, hown, hts⟩ hg hA hw ⟨Nat.le_of_ble_eq_true rfl, Nat.le_of_ble_eq_true rfl⟩ hl.1 (Nat.le_of_ble_eq_true rfl) dX1_result_2 ⟨Nat.le_refl _, Nat.le_refl _⟩ (fun H locs hw => ?_)
  refine lv_if_ne (tgt := 11) hx hb dX1_result_5 (by decide) (fun c_5 => ?_) (fun c_5 => ?_)
  · obtain ⟨k, hk, rfl⟩ := mr_run c_5
    refine lv_aload_n hx hb dX1_result_11 rfl (lv_at hl 0 rfl) ?_
    refine mg_states hx hb hts hown hw dX1_result_12 ?_
    refine lv_iload_n hx hb dX1_result_15 rfl (lv_at hl 1 rfl) ?_
    refine rf_ialdn (j := 4) (jx := k) hx hb hw (by decide) (by decide) rfl rfl hk (mln_lt 4) dX1_result_16 ?_
    refine lv_iconst (v := 4) hx hb dX1_result_17 (by decide) ?_
    refine lv_icmp_ne (tgt := 30) hx hb dX1_result_18 (by decide) (fun c_18 => ?_) (fun c_18 => ?_)
    · refine lv_iconst (v := 0) hx hb dX1_result_30 (by decide) ?_
      exact rf_iret hx hb hr hlk hw ⟨by simp only [mr_result, c_5, c_18, rf_ixk hk, ↓reduceIte] <;> rfl, rfl⟩ dX1_result_31
    · refine lv_aload_n hx hb dX1_result_21 rfl (lv_at hl 0 rfl) ?_
      refine mg_results hx hb hts hown hw dX1_result_22 ?_
      refine lv_iload_n hx hb dX1_result_25 rfl (lv_at hl 1 rfl) ?_
      refine rf_ialdn (j := 8) (jx := k) hx hb hw (by decide) (by decide) rfl rfl hk (mln_lt 8) dX1_result_26 ?_
      refine lv_goto (tgt := 31) hx hb dX1_result_27 (by decide) ?_
      exact rf_iret hx hb hr hlk hw ⟨by simp only [mr_result, c_5, c_18, rf_ixk hk, ↓reduceIte] <;> rfl, rfl⟩ dX1_result_31
  · refine lv_bipush (v := -3) hx hb dX1_result_8 (by decide) ?_
    exact rf_iret hx hb hr hlk hw ⟨by simp only [mr_result, c_5, ↓reduceIte] <;> rfl, rfl⟩ dX1_result_10

set_option maxHeartbeats 4000000 in
set_option maxRecDepth 100000 in
/-- untaken -/
theorem mt_untaken (l : Launch) (D : va_G) {g : Nat → Nat} (ca : Nat → ClassId) (hg : rf_g mS g) (σ : rf_Mem) (r : Int32) (hO : ∀ k, k < 3 → rf_le (σ 11 k) 24) : rf_Mi l yX1_untaken cX1_untaken 4 .int (rf_rm 1 21) D vwCl mS g ca σ [.int r] (mr_untaken σ r) (σ) := by
  refine rf_enter (by decide) (Nat.le_of_ble_eq_true rfl) ?_
  intro p e s m below meth c ls hx hb hr hlk hml hown hts hnm hB hl
  have hw : rf_w D vwCl mS g ca σ (rf_A mS g) s s.heap [] := ⟨hB.1, hB.2, va_S.rf⟩
  have hA : ∀ q, rf_A mS g q → rf_A mS g q := fun _ h => h
  have hl : lv_has ls 4 [(0, .ref (g 0)), (1, .int r)] := hl
  refine lv_aload_n hx hb dX1_untaken_0 rfl (lv_at hl 0 rfl) ?_
  refine lv_iload_n hx hb dX1_untaken_1 rfl (lv_at hl 1 rfl) ?_
  refine mk_isRun ⟨hx, hb, hml, hown, hts⟩ hg hA hw ⟨Nat.le_of_ble_eq_true rfl, Nat.le_of_ble_eq_true rfl⟩ hl.1 (Nat.le_of_ble_eq_true rfl) dX1_untaken_2 ⟨Nat.le_refl _, Nat.le_refl _⟩ (fun H locs hw => ?_)
  refine lv_if_ne (tgt := 11) hx hb dX1_untaken_5 (by decide) (fun c_5 => ?_) (fun c_5 => ?_)
  · obtain ⟨k, hk, rfl⟩ := mr_run c_5
    obtain ⟨n0, hn0, en0⟩ := hO k hk
    have hn1 : rf_ix (σ 11 k) = n0 := by show (σ 11 k).toNatClampNeg = n0; rw [en0, nI_clamp (by omega)]
    have hres : mr_untaken σ (nI k) = nI (mr_cnt σ k n0 0) := by rw [mr_untaken, if_neg c_5, rf_ixk hk, hn1]
    have K18 : ∀ (n t q : Nat) (H : Heap) (locs : List Loc) (ls : Array Slot), t + n = n0 → mr_cnt σ k n0 0 = q + mr_cnt σ k n t → rf_w D vwCl mS g ca σ (rf_A mS g) s H locs → lv_has ls 4 [(3, .int (nI (k * 24 + t))), (2, .int (nI q)), (0, .ref (g 0)), (1, .int (nI k))] → W p l e (rf_rm 1 21) s m ([.ref (g 0), .int (nI k)] : List Value).toArray below meth c H locs 0 0 (MQ below (va_Qi (fun r σ' => r = mr_untaken σ (nI k) ∧ σ' = σ) (rf_J D vwCl mS g ca) (rf_A mS g)) ([.ref (g 0), .int (nI k)] : List Value).toArray s 0 0 (rf_A mS g)) (F0 m 18 ls []) := by
      intro n
      induction n with
      | zero =>
        intro t q H locs ls ht hf hw hl
        refine lv_iload_n hx hb dX1_untaken_18 rfl (lv_at hl 0 rfl) ?_
        refine lv_iload_n hx hb dX1_untaken_19 rfl (lv_at hl 3 rfl) ?_
        refine lv_bipush (v := 24) hx hb dX1_untaken_20 (by decide) ?_
        refine lv_imul hx hb dX1_untaken_22 ?_
        refine lv_aload_n hx hb dX1_untaken_23 rfl (lv_at hl 2 rfl) ?_
        refine mg_signals hx hb hts hown hw dX1_untaken_24 ?_
        refine lv_iload_n hx hb dX1_untaken_27 rfl (lv_at hl 3 rfl) ?_
        refine rf_ialdn (j := 11) (jx := k) hx hb hw (by decide) (by decide) rfl rfl hk (mln_lt 11) dX1_untaken_28 ?_
        refine lv_iadd hx hb dX1_untaken_29 ?_
        refine lv_icmp_ge (tgt := 60) hx hb dX1_untaken_30 (by decide) (fun c_30 => ?_) (fun c_30 => ?_)
        · refine lv_iload_n hx hb dX1_untaken_60 rfl (lv_at hl 1 rfl) ?_
          exact rf_iret hx hb hr hlk hw ⟨by rw [hres, hf, mr_cnt, rf_count, ite_self, Nat.add_zero], rfl⟩ dX1_untaken_61
        · exact absurd (by rw [en0, rf_ix24n, nI_add]; exact nI_le (by omega) (by omega)) c_30
      | succ n ih =>
        intro t q H locs ls ht hf hw hl
        refine lv_iload_n hx hb dX1_untaken_18 rfl (lv_at hl 0 rfl) ?_
        refine lv_iload_n hx hb dX1_untaken_19 rfl (lv_at hl 3 rfl) ?_
        refine lv_bipush (v := 24) hx hb dX1_untaken_20 (by decide) ?_
        refine lv_imul hx hb dX1_untaken_22 ?_
        refine lv_aload_n hx hb dX1_untaken_23 rfl (lv_at hl 2 rfl) ?_
        refine mg_signals hx hb hts hown hw dX1_untaken_24 ?_
        refine lv_iload_n hx hb dX1_untaken_27 rfl (lv_at hl 3 rfl) ?_
        refine rf_ialdn (j := 11) (jx := k) hx hb hw (by decide) (by decide) rfl rfl hk (mln_lt 11) dX1_untaken_28 ?_
        refine lv_iadd hx hb dX1_untaken_29 ?_
        refine lv_icmp_ge (tgt := 60) hx hb dX1_untaken_30 (by decide) (fun c_30 => ?_) (fun c_30 => ?_)
        · exact absurd c_30 (by rw [en0, rf_ix24n, nI_add]; exact nI_ge (by omega) (by omega))
        · refine lv_aload_n hx hb dX1_untaken_33 rfl (lv_at hl 2 rfl) ?_
          refine mg_signalTaken hx hb hts hown hw dX1_untaken_34 ?_
          refine lv_iload_n hx hb dX1_untaken_37 rfl (lv_at hl 0 rfl) ?_
          refine rf_zaldn (j := 14) (jx := (k * 24 + t)) hx hb hw (by decide) (by decide) rfl rfl (show k * 24 + t < 72 by omega) (mln_lt 14) dX1_untaken_38 ?_
          refine lv_if_ne (tgt := 54) hx hb dX1_untaken_39 (by decide) (fun c_39 => ?_) (fun c_39 => ?_)
          · refine lv_iinc (v := nI (k * 24 + (t + 1))) (lv' := [(3, .int _), (2, .int _), (0, .ref _), (1, .int _)]) hx hb dX1_untaken_54 hl (k := 0) rfl (nI_1 (k * 24 + t)) (by decide) rfl (fun ls hl => ?_)
            refine lv_goto (tgt := 18) hx hb dX1_untaken_57 (by decide) ?_
            exact ih (t + 1) _ _ _ _ (by omega) (by rw [hf, mr_cnt, rf_count, if_neg c_39, mr_cnt, Nat.zero_add]) hw (lv_sub hl [0, 1, 2, 3] rfl)
          · refine lv_aload_n hx hb dX1_untaken_42 rfl (lv_at hl 2 rfl) ?_
            refine mg_states hx hb hts hown hw dX1_untaken_43 ?_
            refine lv_iload_n hx hb dX1_untaken_46 rfl (lv_at hl 3 rfl) ?_
            refine rf_ialdn (j := 4) (jx := k) hx hb hw (by decide) (by decide) rfl rfl hk (mln_lt 4) dX1_untaken_47 ?_
            refine lv_if_eq (tgt := 54) hx hb dX1_untaken_48 (by decide) (fun c_48 => ?_) (fun c_48 => ?_)
            · refine lv_iinc (v := nI (k * 24 + (t + 1))) (lv' := [(3, .int _), (2, .int _), (0, .ref _), (1, .int _)]) hx hb dX1_untaken_54 hl (k := 0) rfl (nI_1 (k * 24 + t)) (by decide) rfl (fun ls hl => ?_)
              refine lv_goto (tgt := 18) hx hb dX1_untaken_57 (by decide) ?_
              exact ih (t + 1) _ _ _ _ (by omega) (by rw [hf, mr_cnt, if_pos c_48, mr_cnt, if_pos c_48]) hw (lv_sub hl [0, 1, 2, 3] rfl)
            · refine lv_iinc (v := nI (q + 1)) (lv' := [(2, .int _), (3, .int _), (0, .ref _), (1, .int _)]) hx hb dX1_untaken_51 hl (k := 1) rfl (nI_1 q) (by decide) rfl (fun ls hl => ?_)
              refine lv_iinc (v := nI (k * 24 + (t + 1))) (lv' := [(3, .int _), (2, .int _), (0, .ref _), (1, .int _)]) hx hb dX1_untaken_54 hl (k := 1) rfl (nI_1 (k * 24 + t)) (by decide) rfl (fun ls hl => ?_)
              refine lv_goto (tgt := 18) hx hb dX1_untaken_57 (by decide) ?_
              exact ih (t + 1) _ _ _ _ (by omega) (by rw [hf, mr_cnt, if_neg c_48, rf_count, if_pos c_39, mr_cnt, if_neg c_48, Nat.add_assoc]) hw (lv_sub hl [0, 1, 2, 3] rfl)
    refine lv_iconst (v := 0) hx hb dX1_untaken_11 (by decide) ?_
    refine lv_istore_n (lv' := [(2, .int _), (0, .ref _), (1, .int _)]) hx hb dX1_untaken_12 rfl hl (by decide) rfl (fun ls hl => ?_)
    refine lv_iload_n hx hb dX1_untaken_13 rfl (lv_at hl 2 rfl) ?_
    refine lv_bipush (v := 24) hx hb dX1_untaken_14 (by decide) ?_
    refine lv_imul hx hb dX1_untaken_16 ?_
    rw [show (nI k) * 24 = nI (k * 24 + 0) from (rf_ix24n k)]
    refine lv_istore_n (lv' := [(3, .int _), (2, .int _), (0, .ref _), (1, .int _)]) hx hb dX1_untaken_17 rfl hl (by decide) rfl (fun ls hl => ?_)
    exact K18 n0 0 0 _ _ _ (by omega) (by omega) hw (lv_sub hl [0, 1, 2, 3] rfl)
  · refine lv_bipush (v := -3) hx hb dX1_untaken_8 (by decide) ?_
    exact rf_iret hx hb hr hlk hw ⟨by simp only [mr_untaken, c_5, ↓reduceIte] <;> rfl, rfl⟩ dX1_untaken_10

set_option maxHeartbeats 4000000 in
set_option maxRecDepth 100000 in
/-- time -/
theorem mt_time (l : Launch) (D : va_G) {g : Nat → Nat} (ca : Nat → ClassId) (hg : rf_g mS g) (σ : rf_Mem)   : rf_Mi l yX1_time cX1_time 1 .int (rf_rm 0 0) D vwCl mS g ca σ [] (σ 0 2) (σ) := by
  refine rf_enter (by decide) (Nat.le_of_ble_eq_true rfl) ?_
  intro p e s m below meth c ls hx hb hr hlk hml hown hts hnm hB hl
  have hw : rf_w D vwCl mS g ca σ (rf_A mS g) s s.heap [] := ⟨hB.1, hB.2, va_S.rf⟩
  have hA : ∀ q, rf_A mS g q → rf_A mS g q := fun _ h => h
  have hl : lv_has ls 1 [(0, .ref (g 0))] := hl
  refine lv_aload_n hx hb dX1_time_0 rfl (lv_at hl 0 rfl) ?_
  refine mg_now hx hb hts hown hw dX1_time_1 ?_
  exact rf_iret hx hb hr hlk hw ⟨rfl, rfl⟩ dX1_time_4
end
section
abbrev rf_z : Nat → Int32 := fun _ => 0
def rf_zz : rf_Mem := fun _ _ => 0
theorem rf_gD {S : rf_Sh} {g : Nat → Nat} {ca : Nat → ClassId} {σ : rf_Mem} {A : Nat → Prop} (h : va_D A (rf_ow S g ca σ)) : rf_g S g ∧ ∀ j, j ≤ S.1 → A (g j) := by
  have at' : ∀ j, j ≤ S.1 → ∃ e, (rf_ow S g ca σ)[j]? = some (g j, e) := by
    intro j hj
    cases j with
    | zero => exact ⟨_, rf_ow_0⟩
    | succ i => exact ⟨_, rf_ow_s hj⟩
  refine ⟨fun i j hi hj he => ?_, fun j hj => ?_⟩
  · obtain ⟨e1, h1⟩ := at' i hi
    obtain ⟨e2, h2⟩ := at' j hj
    exact h.1 i j _ _ h1 h2 he
  · obtain ⟨e1, h1⟩ := at' j hj
    exact h.2 j _ h1
def x_dflt : List Value := [.int 0, .null, .null, .null, .int 0, .int 0, .null, .null, .null, .null, .null, .null, .null, .null, .null, .null, .null, .null, .null, .null, .null, .null]
/-- behind the constructor: an object of the shape, all its memory 0 -/
def x_born (D : va_G) (A : Nat → Prop) (o : Nat) (u : (Nat → Nat) × (Nat → ClassId)) (t : State) : Prop := rf_J D vwCl xS u.1 u.2 rf_zz t ∧ rf_g xS u.1 ∧ u.1 0 = o ∧ ∀ j, j ≤ 19 → A (u.1 j)
set_option maxHeartbeats 4000000 in
set_option maxRecDepth 100000 in
theorem xm_init (l : Launch) (D : va_G) (o sz : Nat) : Met l yX0_init (ws_ yX0_init cX0_init 1 none) ({ frames := 1, cells := 19, slots := 429, locals := 12 }) (va_Pc [.ref o] (fun U => U.heap.size = sz ∧ va_P D vwCl [(o, .inr (0, x_dflt))] U.heap ∧ va_K D vwCl [] U ∧ va_D (fun _ => True) [(o, .inr (0, x_dflt))])) (va_Qv (fun _ => True) (x_born D (va_A [(o, .inr (0, x_dflt))] sz) o) (va_A [(o, .inr (0, x_dflt))] sz)) 19 429 (va_A [(o, .inr (0, x_dflt))] sz) := by
  refine rf_enter (by decide) (Nat.le_of_ble_eq_true rfl) ?_
  intro p e s m below meth c ls hx hb hr hlk hml hown hts hnm hB hl
  obtain ⟨hsz, hP, hK, hD0⟩ := hB
  subst hsz
  have hD := hD0.self (sz := s.heap.size)
  generalize hAe : va_A [(o, .inr (0, x_dflt))] s.heap.size = A at hD ⊢
  have hA : ∀ q : Nat, s.heap.size ≤ q → A q := fun q h => by rw [← hAe]; exact Or.inr h
  have hS : va_S A s.heap s.heap [] := va_S.rf
  have hP : va_P D vwCl [(o, .inr (0, [.int 0, .null, .null, .null, .int 0, .int 0, .null, .null, .null, .null, .null, .null, .null, .null, .null, .null, .null, .null, .null, .null, .null, .null]))] s.heap := hP
  have hD : va_D A [(o, .inr (0, [.int 0, .null, .null, .null, .int 0, .int 0, .null, .null, .null, .null, .null, .null, .null, .null, .null, .null, .null, .null, .null, .null, .null, .null]))] := hD
  have hl : lv_has ls 1 [(0, .ref o)] := hl
  refine lv_aload_n hx hb dX0_init_0 rfl (lv_at hl 0 rfl) ?_
  refine W.objInit hx hb hown (hts _ q28) (hts _ q29) (hts _ q30) rfl (by rw [hml]; exact hl.1) rfl dX0_init_1 (Nat.le_of_ble_eq_true rfl) (Nat.le_of_ble_eq_true rfl) ?_
  refine W.eq (g2 := F0 m 4 ls []) rfl ?_
  refine lv_aload_n hx hb dX0_init_4 rfl (lv_at hl 0 rfl) ?_
  refine lv_bipush (v := 16) hx hb dX0_init_5 (by decide) ?_
  refine va_newa (atype := .int) (ty := .int) (N' := 16) (a0 := (16, .inl rf_z)) hx hb (hts _ q98) rfl hK hP hD hS hA (fun _ => rfl) (by decide) (by decide) (by decide) (Nat.le_of_ble_eq_true rfl) (Nat.le_of_ble_eq_true rfl) dX0_init_7 (fun a1 k1 H hK hP hD hS => ?_)
  have hP : va_P D vwCl [(o, .inr (0, [.int 0, .null, .null, .null, .int 0, .int 0, .null, .null, .null, .null, .null, .null, .null, .null, .null, .null, .null, .null, .null, .null, .null, .null])), (a1, .inl (k1, 16, .inl rf_z))] H := hP
  have hD : va_D A [(o, .inr (0, [.int 0, .null, .null, .null, .int 0, .int 0, .null, .null, .null, .null, .null, .null, .null, .null, .null, .null, .null, .null, .null, .null, .null, .null])), (a1, .inl (k1, 16, .inl rf_z))] := hD
  have hK : va_K D vwCl [(k1, .int)] s := hK
  refine W.widen (k := 1) (n := 16) (Nat.le_refl _) (Nat.le_refl _) ?_
  refine va_putF (D := D) (ci := 0) (v := .ref a1) (ty := .array .int) (C := RX0) (T := TX0) (N := 22) hx hb hts in_X0 tyX0 tyX0_ok nmX0 hown hK hP hD hS 0 rfl rfl 1 (by decide) (hts _ q32) (fun _ h9 => h9) rfl hnm rfl (by decide +kernel) rfl rfl (Nat.le_of_ble_eq_true rfl) dX0_init_9 (fun H locs hP hD hS => ?_)
  have hP : va_P D vwCl [(o, .inr (0, [.int 0, .ref a1, .null, .null, .int 0, .int 0, .null, .null, .null, .null, .null, .null, .null, .null, .null, .null, .null, .null, .null, .null, .null, .null])), (a1, .inl (k1, 16, .inl rf_z))] H := hP
  have hD : va_D A [(o, .inr (0, [.int 0, .ref a1, .null, .null, .int 0, .int 0, .null, .null, .null, .null, .null, .null, .null, .null, .null, .null, .null, .null, .null, .null, .null, .null])), (a1, .inl (k1, 16, .inl rf_z))] := hD
  refine lv_aload_n hx hb dX0_init_12 rfl (lv_at hl 0 rfl) ?_
  refine lv_bipush (v := 16) hx hb dX0_init_13 (by decide) ?_
  refine va_newa (atype := .int) (ty := .int) (N' := 16) (a0 := (16, .inl rf_z)) hx hb (hts _ q98) rfl hK hP hD hS hA (fun _ => rfl) (by decide) (by decide) (by decide) (Nat.le_of_ble_eq_true rfl) (Nat.le_of_ble_eq_true rfl) dX0_init_15 (fun a2 k2 H hK hP hD hS => ?_)
  have hP : va_P D vwCl [(o, .inr (0, [.int 0, .ref a1, .null, .null, .int 0, .int 0, .null, .null, .null, .null, .null, .null, .null, .null, .null, .null, .null, .null, .null, .null, .null, .null])), (a1, .inl (k1, 16, .inl rf_z)), (a2, .inl (k2, 16, .inl rf_z))] H := hP
  have hD : va_D A [(o, .inr (0, [.int 0, .ref a1, .null, .null, .int 0, .int 0, .null, .null, .null, .null, .null, .null, .null, .null, .null, .null, .null, .null, .null, .null, .null, .null])), (a1, .inl (k1, 16, .inl rf_z)), (a2, .inl (k2, 16, .inl rf_z))] := hD
  have hK : va_K D vwCl [(k1, .int), (k2, .int)] s := hK
  refine W.widen (k := 2) (n := 32) (Nat.le_refl _) (Nat.le_refl _) ?_
  refine va_putF (D := D) (ci := 0) (v := .ref a2) (ty := .array .int) (C := RX0) (T := TX0) (N := 22) hx hb hts in_X0 tyX0 tyX0_ok nmX0 hown hK hP hD hS 0 rfl rfl 2 (by decide) (hts _ q33) (fun _ h9 => h9) rfl hnm rfl (by decide +kernel) rfl rfl (Nat.le_of_ble_eq_true rfl) dX0_init_17 (fun H locs hP hD hS => ?_)
  have hP : va_P D vwCl [(o, .inr (0, [.int 0, .ref a1, .ref a2, .null, .int 0, .int 0, .null, .null, .null, .null, .null, .null, .null, .null, .null, .null, .null, .null, .null, .null, .null, .null])), (a1, .inl (k1, 16, .inl rf_z)), (a2, .inl (k2, 16, .inl rf_z))] H := hP
  have hD : va_D A [(o, .inr (0, [.int 0, .ref a1, .ref a2, .null, .int 0, .int 0, .null, .null, .null, .null, .null, .null, .null, .null, .null, .null, .null, .null, .null, .null, .null, .null])), (a1, .inl (k1, 16, .inl rf_z)), (a2, .inl (k2, 16, .inl rf_z))] := hD
  refine lv_aload_n hx hb dX0_init_20 rfl (lv_at hl 0 rfl) ?_
  refine lv_bipush (v := 16) hx hb dX0_init_21 (by decide) ?_
  refine va_newa (atype := .int) (ty := .int) (N' := 16) (a0 := (16, .inl rf_z)) hx hb (hts _ q98) rfl hK hP hD hS hA (fun _ => rfl) (by decide) (by decide) (by decide) (Nat.le_of_ble_eq_true rfl) (Nat.le_of_ble_eq_true rfl) dX0_init_23 (fun a3 k3 H hK hP hD hS => ?_)
  have hP : va_P D vwCl [(o, .inr (0, [.int 0, .ref a1, .ref a2, .null, .int 0, .int 0, .null, .null, .null, .null, .null, .null, .null, .null, .null, .null, .null, .null, .null, .null, .null, .null])), (a1, .inl (k1, 16, .inl rf_z)), (a2, .inl (k2, 16, .inl rf_z)), (a3, .inl (k3, 16, .inl rf_z))] H := hP
  have hD : va_D A [(o, .inr (0, [.int 0, .ref a1, .ref a2, .null, .int 0, .int 0, .null, .null, .null, .null, .null, .null, .null, .null, .null, .null, .null, .null, .null, .null, .null, .null])), (a1, .inl (k1, 16, .inl rf_z)), (a2, .inl (k2, 16, .inl rf_z)), (a3, .inl (k3, 16, .inl rf_z))] := hD
  have hK : va_K D vwCl [(k1, .int), (k2, .int), (k3, .int)] s := hK
  refine W.widen (k := 3) (n := 48) (Nat.le_refl _) (Nat.le_refl _) ?_
  refine va_putF (D := D) (ci := 0) (v := .ref a3) (ty := .array .int) (C := RX0) (T := TX0) (N := 22) hx hb hts in_X0 tyX0 tyX0_ok nmX0 hown hK hP hD hS 0 rfl rfl 3 (by decide) (hts _ q34) (fun _ h9 => h9) rfl hnm rfl (by decide +kernel) rfl rfl (Nat.le_of_ble_eq_true rfl) dX0_init_25 (fun H locs hP hD hS => ?_)
  have hP : va_P D vwCl [(o, .inr (0, [.int 0, .ref a1, .ref a2, .ref a3, .int 0, .int 0, .null, .null, .null, .null, .null, .null, .null, .null, .null, .null, .null, .null, .null, .null, .null, .null])), (a1, .inl (k1, 16, .inl rf_z)), (a2, .inl (k2, 16, .inl rf_z)), (a3, .inl (k3, 16, .inl rf_z))] H := hP
  have hD : va_D A [(o, .inr (0, [.int 0, .ref a1, .ref a2, .ref a3, .int 0, .int 0, .null, .null, .null, .null, .null, .null, .null, .null, .null, .null, .null, .null, .null, .null, .null, .null])), (a1, .inl (k1, 16, .inl rf_z)), (a2, .inl (k2, 16, .inl rf_z)), (a3, .inl (k3, 16, .inl rf_z))] := hD
  refine lv_aload_n hx hb dX0_init_28 rfl (lv_at hl 0 rfl) ?_
  refine lv_iconst (v := 3) hx hb dX0_init_29 (by decide) ?_
  refine va_newa (atype := .boolean) (ty := .boolean) (N' := 3) (a0 := (3, .inl rf_z)) hx hb (hts _ q99) rfl hK hP hD hS hA (fun _ => rfl) (by decide) (by decide) (by decide) (Nat.le_of_ble_eq_true rfl) (Nat.le_of_ble_eq_true rfl) dX0_init_30 (fun a4 k4 H hK hP hD hS => ?_)
  have hP : va_P D vwCl [(o, .inr (0, [.int 0, .ref a1, .ref a2, .ref a3, .int 0, .int 0, .null, .null, .null, .null, .null, .null, .null, .null, .null, .null, .null, .null, .null, .null, .null, .null])), (a1, .inl (k1, 16, .inl rf_z)), (a2, .inl (k2, 16, .inl rf_z)), (a3, .inl (k3, 16, .inl rf_z)), (a4, .inl (k4, 3, .inl rf_z))] H := hP
  have hD : va_D A [(o, .inr (0, [.int 0, .ref a1, .ref a2, .ref a3, .int 0, .int 0, .null, .null, .null, .null, .null, .null, .null, .null, .null, .null, .null, .null, .null, .null, .null, .null])), (a1, .inl (k1, 16, .inl rf_z)), (a2, .inl (k2, 16, .inl rf_z)), (a3, .inl (k3, 16, .inl rf_z)), (a4, .inl (k4, 3, .inl rf_z))] := hD
  have hK : va_K D vwCl [(k1, .int), (k2, .int), (k3, .int), (k4, .boolean)] s := hK
  refine W.widen (k := 4) (n := 51) (Nat.le_refl _) (Nat.le_refl _) ?_
  refine va_putF (D := D) (ci := 0) (v := .ref a4) (ty := .array .boolean) (C := RX0) (T := TX0) (N := 22) hx hb hts in_X0 tyX0 tyX0_ok nmX0 hown hK hP hD hS 0 rfl rfl 6 (by decide) (hts _ q37) (fun _ h9 => h9) rfl hnm rfl (by decide +kernel) rfl rfl (Nat.le_of_ble_eq_true rfl) dX0_init_32 (fun H locs hP hD hS => ?_)
  have hP : va_P D vwCl [(o, .inr (0, [.int 0, .ref a1, .ref a2, .ref a3, .int 0, .int 0, .ref a4, .null, .null, .null, .null, .null, .null, .null, .null, .null, .null, .null, .null, .null, .null, .null])), (a1, .inl (k1, 16, .inl rf_z)), (a2, .inl (k2, 16, .inl rf_z)), (a3, .inl (k3, 16, .inl rf_z)), (a4, .inl (k4, 3, .inl rf_z))] H := hP
  have hD : va_D A [(o, .inr (0, [.int 0, .ref a1, .ref a2, .ref a3, .int 0, .int 0, .ref a4, .null, .null, .null, .null, .null, .null, .null, .null, .null, .null, .null, .null, .null, .null, .null])), (a1, .inl (k1, 16, .inl rf_z)), (a2, .inl (k2, 16, .inl rf_z)), (a3, .inl (k3, 16, .inl rf_z)), (a4, .inl (k4, 3, .inl rf_z))] := hD
  refine lv_aload_n hx hb dX0_init_35 rfl (lv_at hl 0 rfl) ?_
  refine lv_iconst (v := 3) hx hb dX0_init_36 (by decide) ?_
  refine va_newa (atype := .int) (ty := .int) (N' := 3) (a0 := (3, .inl rf_z)) hx hb (hts _ q98) rfl hK hP hD hS hA (fun _ => rfl) (by decide) (by decide) (by decide) (Nat.le_of_ble_eq_true rfl) (Nat.le_of_ble_eq_true rfl) dX0_init_37 (fun a5 k5 H hK hP hD hS => ?_)
  have hP : va_P D vwCl [(o, .inr (0, [.int 0, .ref a1, .ref a2, .ref a3, .int 0, .int 0, .ref a4, .null, .null, .null, .null, .null, .null, .null, .null, .null, .null, .null, .null, .null, .null, .null])), (a1, .inl (k1, 16, .inl rf_z)), (a2, .inl (k2, 16, .inl rf_z)), (a3, .inl (k3, 16, .inl rf_z)), (a4, .inl (k4, 3, .inl rf_z)), (a5, .inl (k5, 3, .inl rf_z))] H := hP
  have hD : va_D A [(o, .inr (0, [.int 0, .ref a1, .ref a2, .ref a3, .int 0, .int 0, .ref a4, .null, .null, .null, .null, .null, .null, .null, .null, .null, .null, .null, .null, .null, .null, .null])), (a1, .inl (k1, 16, .inl rf_z)), (a2, .inl (k2, 16, .inl rf_z)), (a3, .inl (k3, 16, .inl rf_z)), (a4, .inl (k4, 3, .inl rf_z)), (a5, .inl (k5, 3, .inl rf_z))] := hD
  have hK : va_K D vwCl [(k1, .int), (k2, .int), (k3, .int), (k4, .boolean), (k5, .int)] s := hK
  refine W.widen (k := 5) (n := 54) (Nat.le_refl _) (Nat.le_refl _) ?_
  refine va_putF (D := D) (ci := 0) (v := .ref a5) (ty := .array .int) (C := RX0) (T := TX0) (N := 22) hx hb hts in_X0 tyX0 tyX0_ok nmX0 hown hK hP hD hS 0 rfl rfl 7 (by decide) (hts _ q38) (fun _ h9 => h9) rfl hnm rfl (by decide +kernel) rfl rfl (Nat.le_of_ble_eq_true rfl) dX0_init_39 (fun H locs hP hD hS => ?_)
  have hP : va_P D vwCl [(o, .inr (0, [.int 0, .ref a1, .ref a2, .ref a3, .int 0, .int 0, .ref a4, .ref a5, .null, .null, .null, .null, .null, .null, .null, .null, .null, .null, .null, .null, .null, .null])), (a1, .inl (k1, 16, .inl rf_z)), (a2, .inl (k2, 16, .inl rf_z)), (a3, .inl (k3, 16, .inl rf_z)), (a4, .inl (k4, 3, .inl rf_z)), (a5, .inl (k5, 3, .inl rf_z))] H := hP
  have hD : va_D A [(o, .inr (0, [.int 0, .ref a1, .ref a2, .ref a3, .int 0, .int 0, .ref a4, .ref a5, .null, .null, .null, .null, .null, .null, .null, .null, .null, .null, .null, .null, .null, .null])), (a1, .inl (k1, 16, .inl rf_z)), (a2, .inl (k2, 16, .inl rf_z)), (a3, .inl (k3, 16, .inl rf_z)), (a4, .inl (k4, 3, .inl rf_z)), (a5, .inl (k5, 3, .inl rf_z))] := hD
  refine lv_aload_n hx hb dX0_init_42 rfl (lv_at hl 0 rfl) ?_
  refine lv_iconst (v := 3) hx hb dX0_init_43 (by decide) ?_
  refine va_newa (atype := .int) (ty := .int) (N' := 3) (a0 := (3, .inl rf_z)) hx hb (hts _ q98) rfl hK hP hD hS hA (fun _ => rfl) (by decide) (by decide) (by decide) (Nat.le_of_ble_eq_true rfl) (Nat.le_of_ble_eq_true rfl) dX0_init_44 (fun a6 k6 H hK hP hD hS => ?_)
  have hP : va_P D vwCl [(o, .inr (0, [.int 0, .ref a1, .ref a2, .ref a3, .int 0, .int 0, .ref a4, .ref a5, .null, .null, .null, .null, .null, .null, .null, .null, .null, .null, .null, .null, .null, .null])), (a1, .inl (k1, 16, .inl rf_z)), (a2, .inl (k2, 16, .inl rf_z)), (a3, .inl (k3, 16, .inl rf_z)), (a4, .inl (k4, 3, .inl rf_z)), (a5, .inl (k5, 3, .inl rf_z)), (a6, .inl (k6, 3, .inl rf_z))] H := hP
  have hD : va_D A [(o, .inr (0, [.int 0, .ref a1, .ref a2, .ref a3, .int 0, .int 0, .ref a4, .ref a5, .null, .null, .null, .null, .null, .null, .null, .null, .null, .null, .null, .null, .null, .null])), (a1, .inl (k1, 16, .inl rf_z)), (a2, .inl (k2, 16, .inl rf_z)), (a3, .inl (k3, 16, .inl rf_z)), (a4, .inl (k4, 3, .inl rf_z)), (a5, .inl (k5, 3, .inl rf_z)), (a6, .inl (k6, 3, .inl rf_z))] := hD
  have hK : va_K D vwCl [(k1, .int), (k2, .int), (k3, .int), (k4, .boolean), (k5, .int), (k6, .int)] s := hK
  refine W.widen (k := 6) (n := 57) (Nat.le_refl _) (Nat.le_refl _) ?_
  refine va_putF (D := D) (ci := 0) (v := .ref a6) (ty := .array .int) (C := RX0) (T := TX0) (N := 22) hx hb hts in_X0 tyX0 tyX0_ok nmX0 hown hK hP hD hS 0 rfl rfl 8 (by decide) (hts _ q39) (fun _ h9 => h9) rfl hnm rfl (by decide +kernel) rfl rfl (Nat.le_of_ble_eq_true rfl) dX0_init_46 (fun H locs hP hD hS => ?_)
  have hP : va_P D vwCl [(o, .inr (0, [.int 0, .ref a1, .ref a2, .ref a3, .int 0, .int 0, .ref a4, .ref a5, .ref a6, .null, .null, .null, .null, .null, .null, .null, .null, .null, .null, .null, .null, .null])), (a1, .inl (k1, 16, .inl rf_z)), (a2, .inl (k2, 16, .inl rf_z)), (a3, .inl (k3, 16, .inl rf_z)), (a4, .inl (k4, 3, .inl rf_z)), (a5, .inl (k5, 3, .inl rf_z)), (a6, .inl (k6, 3, .inl rf_z))] H := hP
  have hD : va_D A [(o, .inr (0, [.int 0, .ref a1, .ref a2, .ref a3, .int 0, .int 0, .ref a4, .ref a5, .ref a6, .null, .null, .null, .null, .null, .null, .null, .null, .null, .null, .null, .null, .null])), (a1, .inl (k1, 16, .inl rf_z)), (a2, .inl (k2, 16, .inl rf_z)), (a3, .inl (k3, 16, .inl rf_z)), (a4, .inl (k4, 3, .inl rf_z)), (a5, .inl (k5, 3, .inl rf_z)), (a6, .inl (k6, 3, .inl rf_z))] := hD
  refine lv_aload_n hx hb dX0_init_49 rfl (lv_at hl 0 rfl) ?_
  refine lv_bipush (v := 120) hx hb dX0_init_50 (by decide) ?_
  refine va_newa (atype := .int) (ty := .int) (N' := 120) (a0 := (120, .inl rf_z)) hx hb (hts _ q98) rfl hK hP hD hS hA (fun _ => rfl) (by decide) (by decide) (by decide) (Nat.le_of_ble_eq_true rfl) (Nat.le_of_ble_eq_true rfl) dX0_init_52 (fun a7 k7 H hK hP hD hS => ?_)
  have hP : va_P D vwCl [(o, .inr (0, [.int 0, .ref a1, .ref a2, .ref a3, .int 0, .int 0, .ref a4, .ref a5, .ref a6, .null, .null, .null, .null, .null, .null, .null, .null, .null, .null, .null, .null, .null])), (a1, .inl (k1, 16, .inl rf_z)), (a2, .inl (k2, 16, .inl rf_z)), (a3, .inl (k3, 16, .inl rf_z)), (a4, .inl (k4, 3, .inl rf_z)), (a5, .inl (k5, 3, .inl rf_z)), (a6, .inl (k6, 3, .inl rf_z)), (a7, .inl (k7, 120, .inl rf_z))] H := hP
  have hD : va_D A [(o, .inr (0, [.int 0, .ref a1, .ref a2, .ref a3, .int 0, .int 0, .ref a4, .ref a5, .ref a6, .null, .null, .null, .null, .null, .null, .null, .null, .null, .null, .null, .null, .null])), (a1, .inl (k1, 16, .inl rf_z)), (a2, .inl (k2, 16, .inl rf_z)), (a3, .inl (k3, 16, .inl rf_z)), (a4, .inl (k4, 3, .inl rf_z)), (a5, .inl (k5, 3, .inl rf_z)), (a6, .inl (k6, 3, .inl rf_z)), (a7, .inl (k7, 120, .inl rf_z))] := hD
  have hK : va_K D vwCl [(k1, .int), (k2, .int), (k3, .int), (k4, .boolean), (k5, .int), (k6, .int), (k7, .int)] s := hK
  refine W.widen (k := 7) (n := 177) (Nat.le_refl _) (Nat.le_refl _) ?_
  refine va_putF (D := D) (ci := 0) (v := .ref a7) (ty := .array .int) (C := RX0) (T := TX0) (N := 22) hx hb hts in_X0 tyX0 tyX0_ok nmX0 hown hK hP hD hS 0 rfl rfl 9 (by decide) (hts _ q40) (fun _ h9 => h9) rfl hnm rfl (by decide +kernel) rfl rfl (Nat.le_of_ble_eq_true rfl) dX0_init_54 (fun H locs hP hD hS => ?_)
  have hP : va_P D vwCl [(o, .inr (0, [.int 0, .ref a1, .ref a2, .ref a3, .int 0, .int 0, .ref a4, .ref a5, .ref a6, .ref a7, .null, .null, .null, .null, .null, .null, .null, .null, .null, .null, .null, .null])), (a1, .inl (k1, 16, .inl rf_z)), (a2, .inl (k2, 16, .inl rf_z)), (a3, .inl (k3, 16, .inl rf_z)), (a4, .inl (k4, 3, .inl rf_z)), (a5, .inl (k5, 3, .inl rf_z)), (a6, .inl (k6, 3, .inl rf_z)), (a7, .inl (k7, 120, .inl rf_z))] H := hP
  have hD : va_D A [(o, .inr (0, [.int 0, .ref a1, .ref a2, .ref a3, .int 0, .int 0, .ref a4, .ref a5, .ref a6, .ref a7, .null, .null, .null, .null, .null, .null, .null, .null, .null, .null, .null, .null])), (a1, .inl (k1, 16, .inl rf_z)), (a2, .inl (k2, 16, .inl rf_z)), (a3, .inl (k3, 16, .inl rf_z)), (a4, .inl (k4, 3, .inl rf_z)), (a5, .inl (k5, 3, .inl rf_z)), (a6, .inl (k6, 3, .inl rf_z)), (a7, .inl (k7, 120, .inl rf_z))] := hD
  refine lv_aload_n hx hb dX0_init_57 rfl (lv_at hl 0 rfl) ?_
  refine lv_iconst (v := 3) hx hb dX0_init_58 (by decide) ?_
  refine va_newa (atype := .int) (ty := .int) (N' := 3) (a0 := (3, .inl rf_z)) hx hb (hts _ q98) rfl hK hP hD hS hA (fun _ => rfl) (by decide) (by decide) (by decide) (Nat.le_of_ble_eq_true rfl) (Nat.le_of_ble_eq_true rfl) dX0_init_59 (fun a8 k8 H hK hP hD hS => ?_)
  have hP : va_P D vwCl [(o, .inr (0, [.int 0, .ref a1, .ref a2, .ref a3, .int 0, .int 0, .ref a4, .ref a5, .ref a6, .ref a7, .null, .null, .null, .null, .null, .null, .null, .null, .null, .null, .null, .null])), (a1, .inl (k1, 16, .inl rf_z)), (a2, .inl (k2, 16, .inl rf_z)), (a3, .inl (k3, 16, .inl rf_z)), (a4, .inl (k4, 3, .inl rf_z)), (a5, .inl (k5, 3, .inl rf_z)), (a6, .inl (k6, 3, .inl rf_z)), (a7, .inl (k7, 120, .inl rf_z)), (a8, .inl (k8, 3, .inl rf_z))] H := hP
  have hD : va_D A [(o, .inr (0, [.int 0, .ref a1, .ref a2, .ref a3, .int 0, .int 0, .ref a4, .ref a5, .ref a6, .ref a7, .null, .null, .null, .null, .null, .null, .null, .null, .null, .null, .null, .null])), (a1, .inl (k1, 16, .inl rf_z)), (a2, .inl (k2, 16, .inl rf_z)), (a3, .inl (k3, 16, .inl rf_z)), (a4, .inl (k4, 3, .inl rf_z)), (a5, .inl (k5, 3, .inl rf_z)), (a6, .inl (k6, 3, .inl rf_z)), (a7, .inl (k7, 120, .inl rf_z)), (a8, .inl (k8, 3, .inl rf_z))] := hD
  have hK : va_K D vwCl [(k1, .int), (k2, .int), (k3, .int), (k4, .boolean), (k5, .int), (k6, .int), (k7, .int), (k8, .int)] s := hK
  refine W.widen (k := 8) (n := 180) (Nat.le_refl _) (Nat.le_refl _) ?_
  refine va_putF (D := D) (ci := 0) (v := .ref a8) (ty := .array .int) (C := RX0) (T := TX0) (N := 22) hx hb hts in_X0 tyX0 tyX0_ok nmX0 hown hK hP hD hS 0 rfl rfl 10 (by decide) (hts _ q41) (fun _ h9 => h9) rfl hnm rfl (by decide +kernel) rfl rfl (Nat.le_of_ble_eq_true rfl) dX0_init_61 (fun H locs hP hD hS => ?_)
  have hP : va_P D vwCl [(o, .inr (0, [.int 0, .ref a1, .ref a2, .ref a3, .int 0, .int 0, .ref a4, .ref a5, .ref a6, .ref a7, .ref a8, .null, .null, .null, .null, .null, .null, .null, .null, .null, .null, .null])), (a1, .inl (k1, 16, .inl rf_z)), (a2, .inl (k2, 16, .inl rf_z)), (a3, .inl (k3, 16, .inl rf_z)), (a4, .inl (k4, 3, .inl rf_z)), (a5, .inl (k5, 3, .inl rf_z)), (a6, .inl (k6, 3, .inl rf_z)), (a7, .inl (k7, 120, .inl rf_z)), (a8, .inl (k8, 3, .inl rf_z))] H := hP
  have hD : va_D A [(o, .inr (0, [.int 0, .ref a1, .ref a2, .ref a3, .int 0, .int 0, .ref a4, .ref a5, .ref a6, .ref a7, .ref a8, .null, .null, .null, .null, .null, .null, .null, .null, .null, .null, .null])), (a1, .inl (k1, 16, .inl rf_z)), (a2, .inl (k2, 16, .inl rf_z)), (a3, .inl (k3, 16, .inl rf_z)), (a4, .inl (k4, 3, .inl rf_z)), (a5, .inl (k5, 3, .inl rf_z)), (a6, .inl (k6, 3, .inl rf_z)), (a7, .inl (k7, 120, .inl rf_z)), (a8, .inl (k8, 3, .inl rf_z))] := hD
  refine lv_aload_n hx hb dX0_init_64 rfl (lv_at hl 0 rfl) ?_
  refine lv_bipush (v := 72) hx hb dX0_init_65 (by decide) ?_
  refine va_newa (atype := .int) (ty := .int) (N' := 72) (a0 := (72, .inl rf_z)) hx hb (hts _ q98) rfl hK hP hD hS hA (fun _ => rfl) (by decide) (by decide) (by decide) (Nat.le_of_ble_eq_true rfl) (Nat.le_of_ble_eq_true rfl) dX0_init_67 (fun a9 k9 H hK hP hD hS => ?_)
  have hP : va_P D vwCl [(o, .inr (0, [.int 0, .ref a1, .ref a2, .ref a3, .int 0, .int 0, .ref a4, .ref a5, .ref a6, .ref a7, .ref a8, .null, .null, .null, .null, .null, .null, .null, .null, .null, .null, .null])), (a1, .inl (k1, 16, .inl rf_z)), (a2, .inl (k2, 16, .inl rf_z)), (a3, .inl (k3, 16, .inl rf_z)), (a4, .inl (k4, 3, .inl rf_z)), (a5, .inl (k5, 3, .inl rf_z)), (a6, .inl (k6, 3, .inl rf_z)), (a7, .inl (k7, 120, .inl rf_z)), (a8, .inl (k8, 3, .inl rf_z)), (a9, .inl (k9, 72, .inl rf_z))] H := hP
  have hD : va_D A [(o, .inr (0, [.int 0, .ref a1, .ref a2, .ref a3, .int 0, .int 0, .ref a4, .ref a5, .ref a6, .ref a7, .ref a8, .null, .null, .null, .null, .null, .null, .null, .null, .null, .null, .null])), (a1, .inl (k1, 16, .inl rf_z)), (a2, .inl (k2, 16, .inl rf_z)), (a3, .inl (k3, 16, .inl rf_z)), (a4, .inl (k4, 3, .inl rf_z)), (a5, .inl (k5, 3, .inl rf_z)), (a6, .inl (k6, 3, .inl rf_z)), (a7, .inl (k7, 120, .inl rf_z)), (a8, .inl (k8, 3, .inl rf_z)), (a9, .inl (k9, 72, .inl rf_z))] := hD
  have hK : va_K D vwCl [(k1, .int), (k2, .int), (k3, .int), (k4, .boolean), (k5, .int), (k6, .int), (k7, .int), (k8, .int), (k9, .int)] s := hK
  refine W.widen (k := 9) (n := 252) (Nat.le_refl _) (Nat.le_refl _) ?_
  refine va_putF (D := D) (ci := 0) (v := .ref a9) (ty := .array .int) (C := RX0) (T := TX0) (N := 22) hx hb hts in_X0 tyX0 tyX0_ok nmX0 hown hK hP hD hS 0 rfl rfl 11 (by decide) (hts _ q42) (fun _ h9 => h9) rfl hnm rfl (by decide +kernel) rfl rfl (Nat.le_of_ble_eq_true rfl) dX0_init_69 (fun H locs hP hD hS => ?_)
  have hP : va_P D vwCl [(o, .inr (0, [.int 0, .ref a1, .ref a2, .ref a3, .int 0, .int 0, .ref a4, .ref a5, .ref a6, .ref a7, .ref a8, .ref a9, .null, .null, .null, .null, .null, .null, .null, .null, .null, .null])), (a1, .inl (k1, 16, .inl rf_z)), (a2, .inl (k2, 16, .inl rf_z)), (a3, .inl (k3, 16, .inl rf_z)), (a4, .inl (k4, 3, .inl rf_z)), (a5, .inl (k5, 3, .inl rf_z)), (a6, .inl (k6, 3, .inl rf_z)), (a7, .inl (k7, 120, .inl rf_z)), (a8, .inl (k8, 3, .inl rf_z)), (a9, .inl (k9, 72, .inl rf_z))] H := hP
  have hD : va_D A [(o, .inr (0, [.int 0, .ref a1, .ref a2, .ref a3, .int 0, .int 0, .ref a4, .ref a5, .ref a6, .ref a7, .ref a8, .ref a9, .null, .null, .null, .null, .null, .null, .null, .null, .null, .null])), (a1, .inl (k1, 16, .inl rf_z)), (a2, .inl (k2, 16, .inl rf_z)), (a3, .inl (k3, 16, .inl rf_z)), (a4, .inl (k4, 3, .inl rf_z)), (a5, .inl (k5, 3, .inl rf_z)), (a6, .inl (k6, 3, .inl rf_z)), (a7, .inl (k7, 120, .inl rf_z)), (a8, .inl (k8, 3, .inl rf_z)), (a9, .inl (k9, 72, .inl rf_z))] := hD
  refine lv_aload_n hx hb dX0_init_72 rfl (lv_at hl 0 rfl) ?_
  refine lv_bipush (v := 72) hx hb dX0_init_73 (by decide) ?_
  refine va_newa (atype := .int) (ty := .int) (N' := 72) (a0 := (72, .inl rf_z)) hx hb (hts _ q98) rfl hK hP hD hS hA (fun _ => rfl) (by decide) (by decide) (by decide) (Nat.le_of_ble_eq_true rfl) (Nat.le_of_ble_eq_true rfl) dX0_init_75 (fun a10 k10 H hK hP hD hS => ?_)
  have hP : va_P D vwCl [(o, .inr (0, [.int 0, .ref a1, .ref a2, .ref a3, .int 0, .int 0, .ref a4, .ref a5, .ref a6, .ref a7, .ref a8, .ref a9, .null, .null, .null, .null, .null, .null, .null, .null, .null, .null])), (a1, .inl (k1, 16, .inl rf_z)), (a2, .inl (k2, 16, .inl rf_z)), (a3, .inl (k3, 16, .inl rf_z)), (a4, .inl (k4, 3, .inl rf_z)), (a5, .inl (k5, 3, .inl rf_z)), (a6, .inl (k6, 3, .inl rf_z)), (a7, .inl (k7, 120, .inl rf_z)), (a8, .inl (k8, 3, .inl rf_z)), (a9, .inl (k9, 72, .inl rf_z)), (a10, .inl (k10, 72, .inl rf_z))] H := hP
  have hD : va_D A [(o, .inr (0, [.int 0, .ref a1, .ref a2, .ref a3, .int 0, .int 0, .ref a4, .ref a5, .ref a6, .ref a7, .ref a8, .ref a9, .null, .null, .null, .null, .null, .null, .null, .null, .null, .null])), (a1, .inl (k1, 16, .inl rf_z)), (a2, .inl (k2, 16, .inl rf_z)), (a3, .inl (k3, 16, .inl rf_z)), (a4, .inl (k4, 3, .inl rf_z)), (a5, .inl (k5, 3, .inl rf_z)), (a6, .inl (k6, 3, .inl rf_z)), (a7, .inl (k7, 120, .inl rf_z)), (a8, .inl (k8, 3, .inl rf_z)), (a9, .inl (k9, 72, .inl rf_z)), (a10, .inl (k10, 72, .inl rf_z))] := hD
  have hK : va_K D vwCl [(k1, .int), (k2, .int), (k3, .int), (k4, .boolean), (k5, .int), (k6, .int), (k7, .int), (k8, .int), (k9, .int), (k10, .int)] s := hK
  refine W.widen (k := 10) (n := 324) (Nat.le_refl _) (Nat.le_refl _) ?_
  refine va_putF (D := D) (ci := 0) (v := .ref a10) (ty := .array .int) (C := RX0) (T := TX0) (N := 22) hx hb hts in_X0 tyX0 tyX0_ok nmX0 hown hK hP hD hS 0 rfl rfl 12 (by decide) (hts _ q43) (fun _ h9 => h9) rfl hnm rfl (by decide +kernel) rfl rfl (Nat.le_of_ble_eq_true rfl) dX0_init_77 (fun H locs hP hD hS => ?_)
  have hP : va_P D vwCl [(o, .inr (0, [.int 0, .ref a1, .ref a2, .ref a3, .int 0, .int 0, .ref a4, .ref a5, .ref a6, .ref a7, .ref a8, .ref a9, .ref a10, .null, .null, .null, .null, .null, .null, .null, .null, .null])), (a1, .inl (k1, 16, .inl rf_z)), (a2, .inl (k2, 16, .inl rf_z)), (a3, .inl (k3, 16, .inl rf_z)), (a4, .inl (k4, 3, .inl rf_z)), (a5, .inl (k5, 3, .inl rf_z)), (a6, .inl (k6, 3, .inl rf_z)), (a7, .inl (k7, 120, .inl rf_z)), (a8, .inl (k8, 3, .inl rf_z)), (a9, .inl (k9, 72, .inl rf_z)), (a10, .inl (k10, 72, .inl rf_z))] H := hP
  have hD : va_D A [(o, .inr (0, [.int 0, .ref a1, .ref a2, .ref a3, .int 0, .int 0, .ref a4, .ref a5, .ref a6, .ref a7, .ref a8, .ref a9, .ref a10, .null, .null, .null, .null, .null, .null, .null, .null, .null])), (a1, .inl (k1, 16, .inl rf_z)), (a2, .inl (k2, 16, .inl rf_z)), (a3, .inl (k3, 16, .inl rf_z)), (a4, .inl (k4, 3, .inl rf_z)), (a5, .inl (k5, 3, .inl rf_z)), (a6, .inl (k6, 3, .inl rf_z)), (a7, .inl (k7, 120, .inl rf_z)), (a8, .inl (k8, 3, .inl rf_z)), (a9, .inl (k9, 72, .inl rf_z)), (a10, .inl (k10, 72, .inl rf_z))] := hD
  refine lv_aload_n hx hb dX0_init_80 rfl (lv_at hl 0 rfl) ?_
  refine lv_bipush (v := 72) hx hb dX0_init_81 (by decide) ?_
  refine va_newa (atype := .boolean) (ty := .boolean) (N' := 72) (a0 := (72, .inl rf_z)) hx hb (hts _ q99) rfl hK hP hD hS hA (fun _ => rfl) (by decide) (by decide) (by decide) (Nat.le_of_ble_eq_true rfl) (Nat.le_of_ble_eq_true rfl) dX0_init_83 (fun a11 k11 H hK hP hD hS => ?_)
  have hP : va_P D vwCl [(o, .inr (0, [.int 0, .ref a1, .ref a2, .ref a3, .int 0, .int 0, .ref a4, .ref a5, .ref a6, .ref a7, .ref a8, .ref a9, .ref a10, .null, .null, .null, .null, .null, .null, .null, .null, .null])), (a1, .inl (k1, 16, .inl rf_z)), (a2, .inl (k2, 16, .inl rf_z)), (a3, .inl (k3, 16, .inl rf_z)), (a4, .inl (k4, 3, .inl rf_z)), (a5, .inl (k5, 3, .inl rf_z)), (a6, .inl (k6, 3, .inl rf_z)), (a7, .inl (k7, 120, .inl rf_z)), (a8, .inl (k8, 3, .inl rf_z)), (a9, .inl (k9, 72, .inl rf_z)), (a10, .inl (k10, 72, .inl rf_z)), (a11, .inl (k11, 72, .inl rf_z))] H := hP
  have hD : va_D A [(o, .inr (0, [.int 0, .ref a1, .ref a2, .ref a3, .int 0, .int 0, .ref a4, .ref a5, .ref a6, .ref a7, .ref a8, .ref a9, .ref a10, .null, .null, .null, .null, .null, .null, .null, .null, .null])), (a1, .inl (k1, 16, .inl rf_z)), (a2, .inl (k2, 16, .inl rf_z)), (a3, .inl (k3, 16, .inl rf_z)), (a4, .inl (k4, 3, .inl rf_z)), (a5, .inl (k5, 3, .inl rf_z)), (a6, .inl (k6, 3, .inl rf_z)), (a7, .inl (k7, 120, .inl rf_z)), (a8, .inl (k8, 3, .inl rf_z)), (a9, .inl (k9, 72, .inl rf_z)), (a10, .inl (k10, 72, .inl rf_z)), (a11, .inl (k11, 72, .inl rf_z))] := hD
  have hK : va_K D vwCl [(k1, .int), (k2, .int), (k3, .int), (k4, .boolean), (k5, .int), (k6, .int), (k7, .int), (k8, .int), (k9, .int), (k10, .int), (k11, .boolean)] s := hK
  refine W.widen (k := 11) (n := 396) (Nat.le_refl _) (Nat.le_refl _) ?_
  refine va_putF (D := D) (ci := 0) (v := .ref a11) (ty := .array .boolean) (C := RX0) (T := TX0) (N := 22) hx hb hts in_X0 tyX0 tyX0_ok nmX0 hown hK hP hD hS 0 rfl rfl 13 (by decide) (hts _ q44) (fun _ h9 => h9) rfl hnm rfl (by decide +kernel) rfl rfl (Nat.le_of_ble_eq_true rfl) dX0_init_85 (fun H locs hP hD hS => ?_)
  have hP : va_P D vwCl [(o, .inr (0, [.int 0, .ref a1, .ref a2, .ref a3, .int 0, .int 0, .ref a4, .ref a5, .ref a6, .ref a7, .ref a8, .ref a9, .ref a10, .ref a11, .null, .null, .null, .null, .null, .null, .null, .null])), (a1, .inl (k1, 16, .inl rf_z)), (a2, .inl (k2, 16, .inl rf_z)), (a3, .inl (k3, 16, .inl rf_z)), (a4, .inl (k4, 3, .inl rf_z)), (a5, .inl (k5, 3, .inl rf_z)), (a6, .inl (k6, 3, .inl rf_z)), (a7, .inl (k7, 120, .inl rf_z)), (a8, .inl (k8, 3, .inl rf_z)), (a9, .inl (k9, 72, .inl rf_z)), (a10, .inl (k10, 72, .inl rf_z)), (a11, .inl (k11, 72, .inl rf_z))] H := hP
  have hD : va_D A [(o, .inr (0, [.int 0, .ref a1, .ref a2, .ref a3, .int 0, .int 0, .ref a4, .ref a5, .ref a6, .ref a7, .ref a8, .ref a9, .ref a10, .ref a11, .null, .null, .null, .null, .null, .null, .null, .null])), (a1, .inl (k1, 16, .inl rf_z)), (a2, .inl (k2, 16, .inl rf_z)), (a3, .inl (k3, 16, .inl rf_z)), (a4, .inl (k4, 3, .inl rf_z)), (a5, .inl (k5, 3, .inl rf_z)), (a6, .inl (k6, 3, .inl rf_z)), (a7, .inl (k7, 120, .inl rf_z)), (a8, .inl (k8, 3, .inl rf_z)), (a9, .inl (k9, 72, .inl rf_z)), (a10, .inl (k10, 72, .inl rf_z)), (a11, .inl (k11, 72, .inl rf_z))] := hD
  refine lv_aload_n hx hb dX0_init_88 rfl (lv_at hl 0 rfl) ?_
  refine lv_iconst (v := 3) hx hb dX0_init_89 (by decide) ?_
  refine va_newa (atype := .int) (ty := .int) (N' := 3) (a0 := (3, .inl rf_z)) hx hb (hts _ q98) rfl hK hP hD hS hA (fun _ => rfl) (by decide) (by decide) (by decide) (Nat.le_of_ble_eq_true rfl) (Nat.le_of_ble_eq_true rfl) dX0_init_90 (fun a12 k12 H hK hP hD hS => ?_)
  have hP : va_P D vwCl [(o, .inr (0, [.int 0, .ref a1, .ref a2, .ref a3, .int 0, .int 0, .ref a4, .ref a5, .ref a6, .ref a7, .ref a8, .ref a9, .ref a10, .ref a11, .null, .null, .null, .null, .null, .null, .null, .null])), (a1, .inl (k1, 16, .inl rf_z)), (a2, .inl (k2, 16, .inl rf_z)), (a3, .inl (k3, 16, .inl rf_z)), (a4, .inl (k4, 3, .inl rf_z)), (a5, .inl (k5, 3, .inl rf_z)), (a6, .inl (k6, 3, .inl rf_z)), (a7, .inl (k7, 120, .inl rf_z)), (a8, .inl (k8, 3, .inl rf_z)), (a9, .inl (k9, 72, .inl rf_z)), (a10, .inl (k10, 72, .inl rf_z)), (a11, .inl (k11, 72, .inl rf_z)), (a12, .inl (k12, 3, .inl rf_z))] H := hP
  have hD : va_D A [(o, .inr (0, [.int 0, .ref a1, .ref a2, .ref a3, .int 0, .int 0, .ref a4, .ref a5, .ref a6, .ref a7, .ref a8, .ref a9, .ref a10, .ref a11, .null, .null, .null, .null, .null, .null, .null, .null])), (a1, .inl (k1, 16, .inl rf_z)), (a2, .inl (k2, 16, .inl rf_z)), (a3, .inl (k3, 16, .inl rf_z)), (a4, .inl (k4, 3, .inl rf_z)), (a5, .inl (k5, 3, .inl rf_z)), (a6, .inl (k6, 3, .inl rf_z)), (a7, .inl (k7, 120, .inl rf_z)), (a8, .inl (k8, 3, .inl rf_z)), (a9, .inl (k9, 72, .inl rf_z)), (a10, .inl (k10, 72, .inl rf_z)), (a11, .inl (k11, 72, .inl rf_z)), (a12, .inl (k12, 3, .inl rf_z))] := hD
  have hK : va_K D vwCl [(k1, .int), (k2, .int), (k3, .int), (k4, .boolean), (k5, .int), (k6, .int), (k7, .int), (k8, .int), (k9, .int), (k10, .int), (k11, .boolean), (k12, .int)] s := hK
  refine W.widen (k := 12) (n := 399) (Nat.le_refl _) (Nat.le_refl _) ?_
  refine va_putF (D := D) (ci := 0) (v := .ref a12) (ty := .array .int) (C := RX0) (T := TX0) (N := 22) hx hb hts in_X0 tyX0 tyX0_ok nmX0 hown hK hP hD hS 0 rfl rfl 14 (by decide) (hts _ q45) (fun _ h9 => h9) rfl hnm rfl (by decide +kernel) rfl rfl (Nat.le_of_ble_eq_true rfl) dX0_init_92 (fun H locs hP hD hS => ?_)
  have hP : va_P D vwCl [(o, .inr (0, [.int 0, .ref a1, .ref a2, .ref a3, .int 0, .int 0, .ref a4, .ref a5, .ref a6, .ref a7, .ref a8, .ref a9, .ref a10, .ref a11, .ref a12, .null, .null, .null, .null, .null, .null, .null])), (a1, .inl (k1, 16, .inl rf_z)), (a2, .inl (k2, 16, .inl rf_z)), (a3, .inl (k3, 16, .inl rf_z)), (a4, .inl (k4, 3, .inl rf_z)), (a5, .inl (k5, 3, .inl rf_z)), (a6, .inl (k6, 3, .inl rf_z)), (a7, .inl (k7, 120, .inl rf_z)), (a8, .inl (k8, 3, .inl rf_z)), (a9, .inl (k9, 72, .inl rf_z)), (a10, .inl (k10, 72, .inl rf_z)), (a11, .inl (k11, 72, .inl rf_z)), (a12, .inl (k12, 3, .inl rf_z))] H := hP
  have hD : va_D A [(o, .inr (0, [.int 0, .ref a1, .ref a2, .ref a3, .int 0, .int 0, .ref a4, .ref a5, .ref a6, .ref a7, .ref a8, .ref a9, .ref a10, .ref a11, .ref a12, .null, .null, .null, .null, .null, .null, .null])), (a1, .inl (k1, 16, .inl rf_z)), (a2, .inl (k2, 16, .inl rf_z)), (a3, .inl (k3, 16, .inl rf_z)), (a4, .inl (k4, 3, .inl rf_z)), (a5, .inl (k5, 3, .inl rf_z)), (a6, .inl (k6, 3, .inl rf_z)), (a7, .inl (k7, 120, .inl rf_z)), (a8, .inl (k8, 3, .inl rf_z)), (a9, .inl (k9, 72, .inl rf_z)), (a10, .inl (k10, 72, .inl rf_z)), (a11, .inl (k11, 72, .inl rf_z)), (a12, .inl (k12, 3, .inl rf_z))] := hD
  refine lv_aload_n hx hb dX0_init_95 rfl (lv_at hl 0 rfl) ?_
  refine lv_iconst (v := 3) hx hb dX0_init_96 (by decide) ?_
  refine va_newa (atype := .boolean) (ty := .boolean) (N' := 3) (a0 := (3, .inl rf_z)) hx hb (hts _ q99) rfl hK hP hD hS hA (fun _ => rfl) (by decide) (by decide) (by decide) (Nat.le_of_ble_eq_true rfl) (Nat.le_of_ble_eq_true rfl) dX0_init_97 (fun a13 k13 H hK hP hD hS => ?_)
  have hP : va_P D vwCl [(o, .inr (0, [.int 0, .ref a1, .ref a2, .ref a3, .int 0, .int 0, .ref a4, .ref a5, .ref a6, .ref a7, .ref a8, .ref a9, .ref a10, .ref a11, .ref a12, .null, .null, .null, .null, .null, .null, .null])), (a1, .inl (k1, 16, .inl rf_z)), (a2, .inl (k2, 16, .inl rf_z)), (a3, .inl (k3, 16, .inl rf_z)), (a4, .inl (k4, 3, .inl rf_z)), (a5, .inl (k5, 3, .inl rf_z)), (a6, .inl (k6, 3, .inl rf_z)), (a7, .inl (k7, 120, .inl rf_z)), (a8, .inl (k8, 3, .inl rf_z)), (a9, .inl (k9, 72, .inl rf_z)), (a10, .inl (k10, 72, .inl rf_z)), (a11, .inl (k11, 72, .inl rf_z)), (a12, .inl (k12, 3, .inl rf_z)), (a13, .inl (k13, 3, .inl rf_z))] H := hP
  have hD : va_D A [(o, .inr (0, [.int 0, .ref a1, .ref a2, .ref a3, .int 0, .int 0, .ref a4, .ref a5, .ref a6, .ref a7, .ref a8, .ref a9, .ref a10, .ref a11, .ref a12, .null, .null, .null, .null, .null, .null, .null])), (a1, .inl (k1, 16, .inl rf_z)), (a2, .inl (k2, 16, .inl rf_z)), (a3, .inl (k3, 16, .inl rf_z)), (a4, .inl (k4, 3, .inl rf_z)), (a5, .inl (k5, 3, .inl rf_z)), (a6, .inl (k6, 3, .inl rf_z)), (a7, .inl (k7, 120, .inl rf_z)), (a8, .inl (k8, 3, .inl rf_z)), (a9, .inl (k9, 72, .inl rf_z)), (a10, .inl (k10, 72, .inl rf_z)), (a11, .inl (k11, 72, .inl rf_z)), (a12, .inl (k12, 3, .inl rf_z)), (a13, .inl (k13, 3, .inl rf_z))] := hD
  have hK : va_K D vwCl [(k1, .int), (k2, .int), (k3, .int), (k4, .boolean), (k5, .int), (k6, .int), (k7, .int), (k8, .int), (k9, .int), (k10, .int), (k11, .boolean), (k12, .int), (k13, .boolean)] s := hK
  refine W.widen (k := 13) (n := 402) (Nat.le_refl _) (Nat.le_refl _) ?_
  refine va_putF (D := D) (ci := 0) (v := .ref a13) (ty := .array .boolean) (C := RX0) (T := TX0) (N := 22) hx hb hts in_X0 tyX0 tyX0_ok nmX0 hown hK hP hD hS 0 rfl rfl 15 (by decide) (hts _ q46) (fun _ h9 => h9) rfl hnm rfl (by decide +kernel) rfl rfl (Nat.le_of_ble_eq_true rfl) dX0_init_99 (fun H locs hP hD hS => ?_)
  have hP : va_P D vwCl [(o, .inr (0, [.int 0, .ref a1, .ref a2, .ref a3, .int 0, .int 0, .ref a4, .ref a5, .ref a6, .ref a7, .ref a8, .ref a9, .ref a10, .ref a11, .ref a12, .ref a13, .null, .null, .null, .null, .null, .null])), (a1, .inl (k1, 16, .inl rf_z)), (a2, .inl (k2, 16, .inl rf_z)), (a3, .inl (k3, 16, .inl rf_z)), (a4, .inl (k4, 3, .inl rf_z)), (a5, .inl (k5, 3, .inl rf_z)), (a6, .inl (k6, 3, .inl rf_z)), (a7, .inl (k7, 120, .inl rf_z)), (a8, .inl (k8, 3, .inl rf_z)), (a9, .inl (k9, 72, .inl rf_z)), (a10, .inl (k10, 72, .inl rf_z)), (a11, .inl (k11, 72, .inl rf_z)), (a12, .inl (k12, 3, .inl rf_z)), (a13, .inl (k13, 3, .inl rf_z))] H := hP
  have hD : va_D A [(o, .inr (0, [.int 0, .ref a1, .ref a2, .ref a3, .int 0, .int 0, .ref a4, .ref a5, .ref a6, .ref a7, .ref a8, .ref a9, .ref a10, .ref a11, .ref a12, .ref a13, .null, .null, .null, .null, .null, .null])), (a1, .inl (k1, 16, .inl rf_z)), (a2, .inl (k2, 16, .inl rf_z)), (a3, .inl (k3, 16, .inl rf_z)), (a4, .inl (k4, 3, .inl rf_z)), (a5, .inl (k5, 3, .inl rf_z)), (a6, .inl (k6, 3, .inl rf_z)), (a7, .inl (k7, 120, .inl rf_z)), (a8, .inl (k8, 3, .inl rf_z)), (a9, .inl (k9, 72, .inl rf_z)), (a10, .inl (k10, 72, .inl rf_z)), (a11, .inl (k11, 72, .inl rf_z)), (a12, .inl (k12, 3, .inl rf_z)), (a13, .inl (k13, 3, .inl rf_z))] := hD
  refine lv_aload_n hx hb dX0_init_102 rfl (lv_at hl 0 rfl) ?_
  refine lv_bipush (v := 12) hx hb dX0_init_103 (by decide) ?_
  refine va_newa (atype := .int) (ty := .int) (N' := 12) (a0 := (12, .inl rf_z)) hx hb (hts _ q98) rfl hK hP hD hS hA (fun _ => rfl) (by decide) (by decide) (by decide) (Nat.le_of_ble_eq_true rfl) (Nat.le_of_ble_eq_true rfl) dX0_init_105 (fun a14 k14 H hK hP hD hS => ?_)
  have hP : va_P D vwCl [(o, .inr (0, [.int 0, .ref a1, .ref a2, .ref a3, .int 0, .int 0, .ref a4, .ref a5, .ref a6, .ref a7, .ref a8, .ref a9, .ref a10, .ref a11, .ref a12, .ref a13, .null, .null, .null, .null, .null, .null])), (a1, .inl (k1, 16, .inl rf_z)), (a2, .inl (k2, 16, .inl rf_z)), (a3, .inl (k3, 16, .inl rf_z)), (a4, .inl (k4, 3, .inl rf_z)), (a5, .inl (k5, 3, .inl rf_z)), (a6, .inl (k6, 3, .inl rf_z)), (a7, .inl (k7, 120, .inl rf_z)), (a8, .inl (k8, 3, .inl rf_z)), (a9, .inl (k9, 72, .inl rf_z)), (a10, .inl (k10, 72, .inl rf_z)), (a11, .inl (k11, 72, .inl rf_z)), (a12, .inl (k12, 3, .inl rf_z)), (a13, .inl (k13, 3, .inl rf_z)), (a14, .inl (k14, 12, .inl rf_z))] H := hP
  have hD : va_D A [(o, .inr (0, [.int 0, .ref a1, .ref a2, .ref a3, .int 0, .int 0, .ref a4, .ref a5, .ref a6, .ref a7, .ref a8, .ref a9, .ref a10, .ref a11, .ref a12, .ref a13, .null, .null, .null, .null, .null, .null])), (a1, .inl (k1, 16, .inl rf_z)), (a2, .inl (k2, 16, .inl rf_z)), (a3, .inl (k3, 16, .inl rf_z)), (a4, .inl (k4, 3, .inl rf_z)), (a5, .inl (k5, 3, .inl rf_z)), (a6, .inl (k6, 3, .inl rf_z)), (a7, .inl (k7, 120, .inl rf_z)), (a8, .inl (k8, 3, .inl rf_z)), (a9, .inl (k9, 72, .inl rf_z)), (a10, .inl (k10, 72, .inl rf_z)), (a11, .inl (k11, 72, .inl rf_z)), (a12, .inl (k12, 3, .inl rf_z)), (a13, .inl (k13, 3, .inl rf_z)), (a14, .inl (k14, 12, .inl rf_z))] := hD
  have hK : va_K D vwCl [(k1, .int), (k2, .int), (k3, .int), (k4, .boolean), (k5, .int), (k6, .int), (k7, .int), (k8, .int), (k9, .int), (k10, .int), (k11, .boolean), (k12, .int), (k13, .boolean), (k14, .int)] s := hK
  refine W.widen (k := 14) (n := 414) (Nat.le_refl _) (Nat.le_refl _) ?_
  refine va_putF (D := D) (ci := 0) (v := .ref a14) (ty := .array .int) (C := RX0) (T := TX0) (N := 22) hx hb hts in_X0 tyX0 tyX0_ok nmX0 hown hK hP hD hS 0 rfl rfl 16 (by decide) (hts _ q47) (fun _ h9 => h9) rfl hnm rfl (by decide +kernel) rfl rfl (Nat.le_of_ble_eq_true rfl) dX0_init_107 (fun H locs hP hD hS => ?_)
  have hP : va_P D vwCl [(o, .inr (0, [.int 0, .ref a1, .ref a2, .ref a3, .int 0, .int 0, .ref a4, .ref a5, .ref a6, .ref a7, .ref a8, .ref a9, .ref a10, .ref a11, .ref a12, .ref a13, .ref a14, .null, .null, .null, .null, .null])), (a1, .inl (k1, 16, .inl rf_z)), (a2, .inl (k2, 16, .inl rf_z)), (a3, .inl (k3, 16, .inl rf_z)), (a4, .inl (k4, 3, .inl rf_z)), (a5, .inl (k5, 3, .inl rf_z)), (a6, .inl (k6, 3, .inl rf_z)), (a7, .inl (k7, 120, .inl rf_z)), (a8, .inl (k8, 3, .inl rf_z)), (a9, .inl (k9, 72, .inl rf_z)), (a10, .inl (k10, 72, .inl rf_z)), (a11, .inl (k11, 72, .inl rf_z)), (a12, .inl (k12, 3, .inl rf_z)), (a13, .inl (k13, 3, .inl rf_z)), (a14, .inl (k14, 12, .inl rf_z))] H := hP
  have hD : va_D A [(o, .inr (0, [.int 0, .ref a1, .ref a2, .ref a3, .int 0, .int 0, .ref a4, .ref a5, .ref a6, .ref a7, .ref a8, .ref a9, .ref a10, .ref a11, .ref a12, .ref a13, .ref a14, .null, .null, .null, .null, .null])), (a1, .inl (k1, 16, .inl rf_z)), (a2, .inl (k2, 16, .inl rf_z)), (a3, .inl (k3, 16, .inl rf_z)), (a4, .inl (k4, 3, .inl rf_z)), (a5, .inl (k5, 3, .inl rf_z)), (a6, .inl (k6, 3, .inl rf_z)), (a7, .inl (k7, 120, .inl rf_z)), (a8, .inl (k8, 3, .inl rf_z)), (a9, .inl (k9, 72, .inl rf_z)), (a10, .inl (k10, 72, .inl rf_z)), (a11, .inl (k11, 72, .inl rf_z)), (a12, .inl (k12, 3, .inl rf_z)), (a13, .inl (k13, 3, .inl rf_z)), (a14, .inl (k14, 12, .inl rf_z))] := hD
  refine lv_aload_n hx hb dX0_init_110 rfl (lv_at hl 0 rfl) ?_
  refine lv_iconst (v := 3) hx hb dX0_init_111 (by decide) ?_
  refine va_newa (atype := .int) (ty := .int) (N' := 3) (a0 := (3, .inl rf_z)) hx hb (hts _ q98) rfl hK hP hD hS hA (fun _ => rfl) (by decide) (by decide) (by decide) (Nat.le_of_ble_eq_true rfl) (Nat.le_of_ble_eq_true rfl) dX0_init_112 (fun a15 k15 H hK hP hD hS => ?_)
  have hP : va_P D vwCl [(o, .inr (0, [.int 0, .ref a1, .ref a2, .ref a3, .int 0, .int 0, .ref a4, .ref a5, .ref a6, .ref a7, .ref a8, .ref a9, .ref a10, .ref a11, .ref a12, .ref a13, .ref a14, .null, .null, .null, .null, .null])), (a1, .inl (k1, 16, .inl rf_z)), (a2, .inl (k2, 16, .inl rf_z)), (a3, .inl (k3, 16, .inl rf_z)), (a4, .inl (k4, 3, .inl rf_z)), (a5, .inl (k5, 3, .inl rf_z)), (a6, .inl (k6, 3, .inl rf_z)), (a7, .inl (k7, 120, .inl rf_z)), (a8, .inl (k8, 3, .inl rf_z)), (a9, .inl (k9, 72, .inl rf_z)), (a10, .inl (k10, 72, .inl rf_z)), (a11, .inl (k11, 72, .inl rf_z)), (a12, .inl (k12, 3, .inl rf_z)), (a13, .inl (k13, 3, .inl rf_z)), (a14, .inl (k14, 12, .inl rf_z)), (a15, .inl (k15, 3, .inl rf_z))] H := hP
  have hD : va_D A [(o, .inr (0, [.int 0, .ref a1, .ref a2, .ref a3, .int 0, .int 0, .ref a4, .ref a5, .ref a6, .ref a7, .ref a8, .ref a9, .ref a10, .ref a11, .ref a12, .ref a13, .ref a14, .null, .null, .null, .null, .null])), (a1, .inl (k1, 16, .inl rf_z)), (a2, .inl (k2, 16, .inl rf_z)), (a3, .inl (k3, 16, .inl rf_z)), (a4, .inl (k4, 3, .inl rf_z)), (a5, .inl (k5, 3, .inl rf_z)), (a6, .inl (k6, 3, .inl rf_z)), (a7, .inl (k7, 120, .inl rf_z)), (a8, .inl (k8, 3, .inl rf_z)), (a9, .inl (k9, 72, .inl rf_z)), (a10, .inl (k10, 72, .inl rf_z)), (a11, .inl (k11, 72, .inl rf_z)), (a12, .inl (k12, 3, .inl rf_z)), (a13, .inl (k13, 3, .inl rf_z)), (a14, .inl (k14, 12, .inl rf_z)), (a15, .inl (k15, 3, .inl rf_z))] := hD
  have hK : va_K D vwCl [(k1, .int), (k2, .int), (k3, .int), (k4, .boolean), (k5, .int), (k6, .int), (k7, .int), (k8, .int), (k9, .int), (k10, .int), (k11, .boolean), (k12, .int), (k13, .boolean), (k14, .int), (k15, .int)] s := hK
  refine W.widen (k := 15) (n := 417) (Nat.le_refl _) (Nat.le_refl _) ?_
  refine va_putF (D := D) (ci := 0) (v := .ref a15) (ty := .array .int) (C := RX0) (T := TX0) (N := 22) hx hb hts in_X0 tyX0 tyX0_ok nmX0 hown hK hP hD hS 0 rfl rfl 17 (by decide) (hts _ q48) (fun _ h9 => h9) rfl hnm rfl (by decide +kernel) rfl rfl (Nat.le_of_ble_eq_true rfl) dX0_init_114 (fun H locs hP hD hS => ?_)
  have hP : va_P D vwCl [(o, .inr (0, [.int 0, .ref a1, .ref a2, .ref a3, .int 0, .int 0, .ref a4, .ref a5, .ref a6, .ref a7, .ref a8, .ref a9, .ref a10, .ref a11, .ref a12, .ref a13, .ref a14, .ref a15, .null, .null, .null, .null])), (a1, .inl (k1, 16, .inl rf_z)), (a2, .inl (k2, 16, .inl rf_z)), (a3, .inl (k3, 16, .inl rf_z)), (a4, .inl (k4, 3, .inl rf_z)), (a5, .inl (k5, 3, .inl rf_z)), (a6, .inl (k6, 3, .inl rf_z)), (a7, .inl (k7, 120, .inl rf_z)), (a8, .inl (k8, 3, .inl rf_z)), (a9, .inl (k9, 72, .inl rf_z)), (a10, .inl (k10, 72, .inl rf_z)), (a11, .inl (k11, 72, .inl rf_z)), (a12, .inl (k12, 3, .inl rf_z)), (a13, .inl (k13, 3, .inl rf_z)), (a14, .inl (k14, 12, .inl rf_z)), (a15, .inl (k15, 3, .inl rf_z))] H := hP
  have hD : va_D A [(o, .inr (0, [.int 0, .ref a1, .ref a2, .ref a3, .int 0, .int 0, .ref a4, .ref a5, .ref a6, .ref a7, .ref a8, .ref a9, .ref a10, .ref a11, .ref a12, .ref a13, .ref a14, .ref a15, .null, .null, .null, .null])), (a1, .inl (k1, 16, .inl rf_z)), (a2, .inl (k2, 16, .inl rf_z)), (a3, .inl (k3, 16, .inl rf_z)), (a4, .inl (k4, 3, .inl rf_z)), (a5, .inl (k5, 3, .inl rf_z)), (a6, .inl (k6, 3, .inl rf_z)), (a7, .inl (k7, 120, .inl rf_z)), (a8, .inl (k8, 3, .inl rf_z)), (a9, .inl (k9, 72, .inl rf_z)), (a10, .inl (k10, 72, .inl rf_z)), (a11, .inl (k11, 72, .inl rf_z)), (a12, .inl (k12, 3, .inl rf_z)), (a13, .inl (k13, 3, .inl rf_z)), (a14, .inl (k14, 12, .inl rf_z)), (a15, .inl (k15, 3, .inl rf_z))] := hD
  refine lv_aload_n hx hb dX0_init_117 rfl (lv_at hl 0 rfl) ?_
  refine lv_iconst (v := 3) hx hb dX0_init_118 (by decide) ?_
  refine va_newa (atype := .int) (ty := .int) (N' := 3) (a0 := (3, .inl rf_z)) hx hb (hts _ q98) rfl hK hP hD hS hA (fun _ => rfl) (by decide) (by decide) (by decide) (Nat.le_of_ble_eq_true rfl) (Nat.le_of_ble_eq_true rfl) dX0_init_119 (fun a16 k16 H hK hP hD hS => ?_)
  have hP : va_P D vwCl [(o, .inr (0, [.int 0, .ref a1, .ref a2, .ref a3, .int 0, .int 0, .ref a4, .ref a5, .ref a6, .ref a7, .ref a8, .ref a9, .ref a10, .ref a11, .ref a12, .ref a13, .ref a14, .ref a15, .null, .null, .null, .null])), (a1, .inl (k1, 16, .inl rf_z)), (a2, .inl (k2, 16, .inl rf_z)), (a3, .inl (k3, 16, .inl rf_z)), (a4, .inl (k4, 3, .inl rf_z)), (a5, .inl (k5, 3, .inl rf_z)), (a6, .inl (k6, 3, .inl rf_z)), (a7, .inl (k7, 120, .inl rf_z)), (a8, .inl (k8, 3, .inl rf_z)), (a9, .inl (k9, 72, .inl rf_z)), (a10, .inl (k10, 72, .inl rf_z)), (a11, .inl (k11, 72, .inl rf_z)), (a12, .inl (k12, 3, .inl rf_z)), (a13, .inl (k13, 3, .inl rf_z)), (a14, .inl (k14, 12, .inl rf_z)), (a15, .inl (k15, 3, .inl rf_z)), (a16, .inl (k16, 3, .inl rf_z))] H := hP
  have hD : va_D A [(o, .inr (0, [.int 0, .ref a1, .ref a2, .ref a3, .int 0, .int 0, .ref a4, .ref a5, .ref a6, .ref a7, .ref a8, .ref a9, .ref a10, .ref a11, .ref a12, .ref a13, .ref a14, .ref a15, .null, .null, .null, .null])), (a1, .inl (k1, 16, .inl rf_z)), (a2, .inl (k2, 16, .inl rf_z)), (a3, .inl (k3, 16, .inl rf_z)), (a4, .inl (k4, 3, .inl rf_z)), (a5, .inl (k5, 3, .inl rf_z)), (a6, .inl (k6, 3, .inl rf_z)), (a7, .inl (k7, 120, .inl rf_z)), (a8, .inl (k8, 3, .inl rf_z)), (a9, .inl (k9, 72, .inl rf_z)), (a10, .inl (k10, 72, .inl rf_z)), (a11, .inl (k11, 72, .inl rf_z)), (a12, .inl (k12, 3, .inl rf_z)), (a13, .inl (k13, 3, .inl rf_z)), (a14, .inl (k14, 12, .inl rf_z)), (a15, .inl (k15, 3, .inl rf_z)), (a16, .inl (k16, 3, .inl rf_z))] := hD
  have hK : va_K D vwCl [(k1, .int), (k2, .int), (k3, .int), (k4, .boolean), (k5, .int), (k6, .int), (k7, .int), (k8, .int), (k9, .int), (k10, .int), (k11, .boolean), (k12, .int), (k13, .boolean), (k14, .int), (k15, .int), (k16, .int)] s := hK
  refine W.widen (k := 16) (n := 420) (Nat.le_refl _) (Nat.le_refl _) ?_
  refine va_putF (D := D) (ci := 0) (v := .ref a16) (ty := .array .int) (C := RX0) (T := TX0) (N := 22) hx hb hts in_X0 tyX0 tyX0_ok nmX0 hown hK hP hD hS 0 rfl rfl 18 (by decide) (hts _ q49) (fun _ h9 => h9) rfl hnm rfl (by decide +kernel) rfl rfl (Nat.le_of_ble_eq_true rfl) dX0_init_121 (fun H locs hP hD hS => ?_)
  have hP : va_P D vwCl [(o, .inr (0, [.int 0, .ref a1, .ref a2, .ref a3, .int 0, .int 0, .ref a4, .ref a5, .ref a6, .ref a7, .ref a8, .ref a9, .ref a10, .ref a11, .ref a12, .ref a13, .ref a14, .ref a15, .ref a16, .null, .null, .null])), (a1, .inl (k1, 16, .inl rf_z)), (a2, .inl (k2, 16, .inl rf_z)), (a3, .inl (k3, 16, .inl rf_z)), (a4, .inl (k4, 3, .inl rf_z)), (a5, .inl (k5, 3, .inl rf_z)), (a6, .inl (k6, 3, .inl rf_z)), (a7, .inl (k7, 120, .inl rf_z)), (a8, .inl (k8, 3, .inl rf_z)), (a9, .inl (k9, 72, .inl rf_z)), (a10, .inl (k10, 72, .inl rf_z)), (a11, .inl (k11, 72, .inl rf_z)), (a12, .inl (k12, 3, .inl rf_z)), (a13, .inl (k13, 3, .inl rf_z)), (a14, .inl (k14, 12, .inl rf_z)), (a15, .inl (k15, 3, .inl rf_z)), (a16, .inl (k16, 3, .inl rf_z))] H := hP
  have hD : va_D A [(o, .inr (0, [.int 0, .ref a1, .ref a2, .ref a3, .int 0, .int 0, .ref a4, .ref a5, .ref a6, .ref a7, .ref a8, .ref a9, .ref a10, .ref a11, .ref a12, .ref a13, .ref a14, .ref a15, .ref a16, .null, .null, .null])), (a1, .inl (k1, 16, .inl rf_z)), (a2, .inl (k2, 16, .inl rf_z)), (a3, .inl (k3, 16, .inl rf_z)), (a4, .inl (k4, 3, .inl rf_z)), (a5, .inl (k5, 3, .inl rf_z)), (a6, .inl (k6, 3, .inl rf_z)), (a7, .inl (k7, 120, .inl rf_z)), (a8, .inl (k8, 3, .inl rf_z)), (a9, .inl (k9, 72, .inl rf_z)), (a10, .inl (k10, 72, .inl rf_z)), (a11, .inl (k11, 72, .inl rf_z)), (a12, .inl (k12, 3, .inl rf_z)), (a13, .inl (k13, 3, .inl rf_z)), (a14, .inl (k14, 12, .inl rf_z)), (a15, .inl (k15, 3, .inl rf_z)), (a16, .inl (k16, 3, .inl rf_z))] := hD
  refine lv_aload_n hx hb dX0_init_124 rfl (lv_at hl 0 rfl) ?_
  refine lv_iconst (v := 3) hx hb dX0_init_125 (by decide) ?_
  refine va_newa (atype := .int) (ty := .int) (N' := 3) (a0 := (3, .inl rf_z)) hx hb (hts _ q98) rfl hK hP hD hS hA (fun _ => rfl) (by decide) (by decide) (by decide) (Nat.le_of_ble_eq_true rfl) (Nat.le_of_ble_eq_true rfl) dX0_init_126 (fun a17 k17 H hK hP hD hS => ?_)
  have hP : va_P D vwCl [(o, .inr (0, [.int 0, .ref a1, .ref a2, .ref a3, .int 0, .int 0, .ref a4, .ref a5, .ref a6, .ref a7, .ref a8, .ref a9, .ref a10, .ref a11, .ref a12, .ref a13, .ref a14, .ref a15, .ref a16, .null, .null, .null])), (a1, .inl (k1, 16, .inl rf_z)), (a2, .inl (k2, 16, .inl rf_z)), (a3, .inl (k3, 16, .inl rf_z)), (a4, .inl (k4, 3, .inl rf_z)), (a5, .inl (k5, 3, .inl rf_z)), (a6, .inl (k6, 3, .inl rf_z)), (a7, .inl (k7, 120, .inl rf_z)), (a8, .inl (k8, 3, .inl rf_z)), (a9, .inl (k9, 72, .inl rf_z)), (a10, .inl (k10, 72, .inl rf_z)), (a11, .inl (k11, 72, .inl rf_z)), (a12, .inl (k12, 3, .inl rf_z)), (a13, .inl (k13, 3, .inl rf_z)), (a14, .inl (k14, 12, .inl rf_z)), (a15, .inl (k15, 3, .inl rf_z)), (a16, .inl (k16, 3, .inl rf_z)), (a17, .inl (k17, 3, .inl rf_z))] H := hP
  have hD : va_D A [(o, .inr (0, [.int 0, .ref a1, .ref a2, .ref a3, .int 0, .int 0, .ref a4, .ref a5, .ref a6, .ref a7, .ref a8, .ref a9, .ref a10, .ref a11, .ref a12, .ref a13, .ref a14, .ref a15, .ref a16, .null, .null, .null])), (a1, .inl (k1, 16, .inl rf_z)), (a2, .inl (k2, 16, .inl rf_z)), (a3, .inl (k3, 16, .inl rf_z)), (a4, .inl (k4, 3, .inl rf_z)), (a5, .inl (k5, 3, .inl rf_z)), (a6, .inl (k6, 3, .inl rf_z)), (a7, .inl (k7, 120, .inl rf_z)), (a8, .inl (k8, 3, .inl rf_z)), (a9, .inl (k9, 72, .inl rf_z)), (a10, .inl (k10, 72, .inl rf_z)), (a11, .inl (k11, 72, .inl rf_z)), (a12, .inl (k12, 3, .inl rf_z)), (a13, .inl (k13, 3, .inl rf_z)), (a14, .inl (k14, 12, .inl rf_z)), (a15, .inl (k15, 3, .inl rf_z)), (a16, .inl (k16, 3, .inl rf_z)), (a17, .inl (k17, 3, .inl rf_z))] := hD
  have hK : va_K D vwCl [(k1, .int), (k2, .int), (k3, .int), (k4, .boolean), (k5, .int), (k6, .int), (k7, .int), (k8, .int), (k9, .int), (k10, .int), (k11, .boolean), (k12, .int), (k13, .boolean), (k14, .int), (k15, .int), (k16, .int), (k17, .int)] s := hK
  refine W.widen (k := 17) (n := 423) (Nat.le_refl _) (Nat.le_refl _) ?_
  refine va_putF (D := D) (ci := 0) (v := .ref a17) (ty := .array .int) (C := RX0) (T := TX0) (N := 22) hx hb hts in_X0 tyX0 tyX0_ok nmX0 hown hK hP hD hS 0 rfl rfl 19 (by decide) (hts _ q50) (fun _ h9 => h9) rfl hnm rfl (by decide +kernel) rfl rfl (Nat.le_of_ble_eq_true rfl) dX0_init_128 (fun H locs hP hD hS => ?_)
  have hP : va_P D vwCl [(o, .inr (0, [.int 0, .ref a1, .ref a2, .ref a3, .int 0, .int 0, .ref a4, .ref a5, .ref a6, .ref a7, .ref a8, .ref a9, .ref a10, .ref a11, .ref a12, .ref a13, .ref a14, .ref a15, .ref a16, .ref a17, .null, .null])), (a1, .inl (k1, 16, .inl rf_z)), (a2, .inl (k2, 16, .inl rf_z)), (a3, .inl (k3, 16, .inl rf_z)), (a4, .inl (k4, 3, .inl rf_z)), (a5, .inl (k5, 3, .inl rf_z)), (a6, .inl (k6, 3, .inl rf_z)), (a7, .inl (k7, 120, .inl rf_z)), (a8, .inl (k8, 3, .inl rf_z)), (a9, .inl (k9, 72, .inl rf_z)), (a10, .inl (k10, 72, .inl rf_z)), (a11, .inl (k11, 72, .inl rf_z)), (a12, .inl (k12, 3, .inl rf_z)), (a13, .inl (k13, 3, .inl rf_z)), (a14, .inl (k14, 12, .inl rf_z)), (a15, .inl (k15, 3, .inl rf_z)), (a16, .inl (k16, 3, .inl rf_z)), (a17, .inl (k17, 3, .inl rf_z))] H := hP
  have hD : va_D A [(o, .inr (0, [.int 0, .ref a1, .ref a2, .ref a3, .int 0, .int 0, .ref a4, .ref a5, .ref a6, .ref a7, .ref a8, .ref a9, .ref a10, .ref a11, .ref a12, .ref a13, .ref a14, .ref a15, .ref a16, .ref a17, .null, .null])), (a1, .inl (k1, 16, .inl rf_z)), (a2, .inl (k2, 16, .inl rf_z)), (a3, .inl (k3, 16, .inl rf_z)), (a4, .inl (k4, 3, .inl rf_z)), (a5, .inl (k5, 3, .inl rf_z)), (a6, .inl (k6, 3, .inl rf_z)), (a7, .inl (k7, 120, .inl rf_z)), (a8, .inl (k8, 3, .inl rf_z)), (a9, .inl (k9, 72, .inl rf_z)), (a10, .inl (k10, 72, .inl rf_z)), (a11, .inl (k11, 72, .inl rf_z)), (a12, .inl (k12, 3, .inl rf_z)), (a13, .inl (k13, 3, .inl rf_z)), (a14, .inl (k14, 12, .inl rf_z)), (a15, .inl (k15, 3, .inl rf_z)), (a16, .inl (k16, 3, .inl rf_z)), (a17, .inl (k17, 3, .inl rf_z))] := hD
  refine lv_aload_n hx hb dX0_init_131 rfl (lv_at hl 0 rfl) ?_
  refine lv_iconst (v := 3) hx hb dX0_init_132 (by decide) ?_
  refine va_newa (atype := .int) (ty := .int) (N' := 3) (a0 := (3, .inl rf_z)) hx hb (hts _ q98) rfl hK hP hD hS hA (fun _ => rfl) (by decide) (by decide) (by decide) (Nat.le_of_ble_eq_true rfl) (Nat.le_of_ble_eq_true rfl) dX0_init_133 (fun a18 k18 H hK hP hD hS => ?_)
  have hP : va_P D vwCl [(o, .inr (0, [.int 0, .ref a1, .ref a2, .ref a3, .int 0, .int 0, .ref a4, .ref a5, .ref a6, .ref a7, .ref a8, .ref a9, .ref a10, .ref a11, .ref a12, .ref a13, .ref a14, .ref a15, .ref a16, .ref a17, .null, .null])), (a1, .inl (k1, 16, .inl rf_z)), (a2, .inl (k2, 16, .inl rf_z)), (a3, .inl (k3, 16, .inl rf_z)), (a4, .inl (k4, 3, .inl rf_z)), (a5, .inl (k5, 3, .inl rf_z)), (a6, .inl (k6, 3, .inl rf_z)), (a7, .inl (k7, 120, .inl rf_z)), (a8, .inl (k8, 3, .inl rf_z)), (a9, .inl (k9, 72, .inl rf_z)), (a10, .inl (k10, 72, .inl rf_z)), (a11, .inl (k11, 72, .inl rf_z)), (a12, .inl (k12, 3, .inl rf_z)), (a13, .inl (k13, 3, .inl rf_z)), (a14, .inl (k14, 12, .inl rf_z)), (a15, .inl (k15, 3, .inl rf_z)), (a16, .inl (k16, 3, .inl rf_z)), (a17, .inl (k17, 3, .inl rf_z)), (a18, .inl (k18, 3, .inl rf_z))] H := hP
  have hD : va_D A [(o, .inr (0, [.int 0, .ref a1, .ref a2, .ref a3, .int 0, .int 0, .ref a4, .ref a5, .ref a6, .ref a7, .ref a8, .ref a9, .ref a10, .ref a11, .ref a12, .ref a13, .ref a14, .ref a15, .ref a16, .ref a17, .null, .null])), (a1, .inl (k1, 16, .inl rf_z)), (a2, .inl (k2, 16, .inl rf_z)), (a3, .inl (k3, 16, .inl rf_z)), (a4, .inl (k4, 3, .inl rf_z)), (a5, .inl (k5, 3, .inl rf_z)), (a6, .inl (k6, 3, .inl rf_z)), (a7, .inl (k7, 120, .inl rf_z)), (a8, .inl (k8, 3, .inl rf_z)), (a9, .inl (k9, 72, .inl rf_z)), (a10, .inl (k10, 72, .inl rf_z)), (a11, .inl (k11, 72, .inl rf_z)), (a12, .inl (k12, 3, .inl rf_z)), (a13, .inl (k13, 3, .inl rf_z)), (a14, .inl (k14, 12, .inl rf_z)), (a15, .inl (k15, 3, .inl rf_z)), (a16, .inl (k16, 3, .inl rf_z)), (a17, .inl (k17, 3, .inl rf_z)), (a18, .inl (k18, 3, .inl rf_z))] := hD
  have hK : va_K D vwCl [(k1, .int), (k2, .int), (k3, .int), (k4, .boolean), (k5, .int), (k6, .int), (k7, .int), (k8, .int), (k9, .int), (k10, .int), (k11, .boolean), (k12, .int), (k13, .boolean), (k14, .int), (k15, .int), (k16, .int), (k17, .int), (k18, .int)] s := hK
  refine W.widen (k := 18) (n := 426) (Nat.le_refl _) (Nat.le_refl _) ?_
  refine va_putF (D := D) (ci := 0) (v := .ref a18) (ty := .array .int) (C := RX0) (T := TX0) (N := 22) hx hb hts in_X0 tyX0 tyX0_ok nmX0 hown hK hP hD hS 0 rfl rfl 20 (by decide) (hts _ q51) (fun _ h9 => h9) rfl hnm rfl (by decide +kernel) rfl rfl (Nat.le_of_ble_eq_true rfl) dX0_init_135 (fun H locs hP hD hS => ?_)
  have hP : va_P D vwCl [(o, .inr (0, [.int 0, .ref a1, .ref a2, .ref a3, .int 0, .int 0, .ref a4, .ref a5, .ref a6, .ref a7, .ref a8, .ref a9, .ref a10, .ref a11, .ref a12, .ref a13, .ref a14, .ref a15, .ref a16, .ref a17, .ref a18, .null])), (a1, .inl (k1, 16, .inl rf_z)), (a2, .inl (k2, 16, .inl rf_z)), (a3, .inl (k3, 16, .inl rf_z)), (a4, .inl (k4, 3, .inl rf_z)), (a5, .inl (k5, 3, .inl rf_z)), (a6, .inl (k6, 3, .inl rf_z)), (a7, .inl (k7, 120, .inl rf_z)), (a8, .inl (k8, 3, .inl rf_z)), (a9, .inl (k9, 72, .inl rf_z)), (a10, .inl (k10, 72, .inl rf_z)), (a11, .inl (k11, 72, .inl rf_z)), (a12, .inl (k12, 3, .inl rf_z)), (a13, .inl (k13, 3, .inl rf_z)), (a14, .inl (k14, 12, .inl rf_z)), (a15, .inl (k15, 3, .inl rf_z)), (a16, .inl (k16, 3, .inl rf_z)), (a17, .inl (k17, 3, .inl rf_z)), (a18, .inl (k18, 3, .inl rf_z))] H := hP
  have hD : va_D A [(o, .inr (0, [.int 0, .ref a1, .ref a2, .ref a3, .int 0, .int 0, .ref a4, .ref a5, .ref a6, .ref a7, .ref a8, .ref a9, .ref a10, .ref a11, .ref a12, .ref a13, .ref a14, .ref a15, .ref a16, .ref a17, .ref a18, .null])), (a1, .inl (k1, 16, .inl rf_z)), (a2, .inl (k2, 16, .inl rf_z)), (a3, .inl (k3, 16, .inl rf_z)), (a4, .inl (k4, 3, .inl rf_z)), (a5, .inl (k5, 3, .inl rf_z)), (a6, .inl (k6, 3, .inl rf_z)), (a7, .inl (k7, 120, .inl rf_z)), (a8, .inl (k8, 3, .inl rf_z)), (a9, .inl (k9, 72, .inl rf_z)), (a10, .inl (k10, 72, .inl rf_z)), (a11, .inl (k11, 72, .inl rf_z)), (a12, .inl (k12, 3, .inl rf_z)), (a13, .inl (k13, 3, .inl rf_z)), (a14, .inl (k14, 12, .inl rf_z)), (a15, .inl (k15, 3, .inl rf_z)), (a16, .inl (k16, 3, .inl rf_z)), (a17, .inl (k17, 3, .inl rf_z)), (a18, .inl (k18, 3, .inl rf_z))] := hD
  refine lv_aload_n hx hb dX0_init_138 rfl (lv_at hl 0 rfl) ?_
  refine lv_iconst (v := 3) hx hb dX0_init_139 (by decide) ?_
  refine va_newa (atype := .int) (ty := .int) (N' := 3) (a0 := (3, .inl rf_z)) hx hb (hts _ q98) rfl hK hP hD hS hA (fun _ => rfl) (by decide) (by decide) (by decide) (Nat.le_of_ble_eq_true rfl) (Nat.le_of_ble_eq_true rfl) dX0_init_140 (fun a19 k19 H hK hP hD hS => ?_)
  have hP : va_P D vwCl [(o, .inr (0, [.int 0, .ref a1, .ref a2, .ref a3, .int 0, .int 0, .ref a4, .ref a5, .ref a6, .ref a7, .ref a8, .ref a9, .ref a10, .ref a11, .ref a12, .ref a13, .ref a14, .ref a15, .ref a16, .ref a17, .ref a18, .null])), (a1, .inl (k1, 16, .inl rf_z)), (a2, .inl (k2, 16, .inl rf_z)), (a3, .inl (k3, 16, .inl rf_z)), (a4, .inl (k4, 3, .inl rf_z)), (a5, .inl (k5, 3, .inl rf_z)), (a6, .inl (k6, 3, .inl rf_z)), (a7, .inl (k7, 120, .inl rf_z)), (a8, .inl (k8, 3, .inl rf_z)), (a9, .inl (k9, 72, .inl rf_z)), (a10, .inl (k10, 72, .inl rf_z)), (a11, .inl (k11, 72, .inl rf_z)), (a12, .inl (k12, 3, .inl rf_z)), (a13, .inl (k13, 3, .inl rf_z)), (a14, .inl (k14, 12, .inl rf_z)), (a15, .inl (k15, 3, .inl rf_z)), (a16, .inl (k16, 3, .inl rf_z)), (a17, .inl (k17, 3, .inl rf_z)), (a18, .inl (k18, 3, .inl rf_z)), (a19, .inl (k19, 3, .inl rf_z))] H := hP
  have hD : va_D A [(o, .inr (0, [.int 0, .ref a1, .ref a2, .ref a3, .int 0, .int 0, .ref a4, .ref a5, .ref a6, .ref a7, .ref a8, .ref a9, .ref a10, .ref a11, .ref a12, .ref a13, .ref a14, .ref a15, .ref a16, .ref a17, .ref a18, .null])), (a1, .inl (k1, 16, .inl rf_z)), (a2, .inl (k2, 16, .inl rf_z)), (a3, .inl (k3, 16, .inl rf_z)), (a4, .inl (k4, 3, .inl rf_z)), (a5, .inl (k5, 3, .inl rf_z)), (a6, .inl (k6, 3, .inl rf_z)), (a7, .inl (k7, 120, .inl rf_z)), (a8, .inl (k8, 3, .inl rf_z)), (a9, .inl (k9, 72, .inl rf_z)), (a10, .inl (k10, 72, .inl rf_z)), (a11, .inl (k11, 72, .inl rf_z)), (a12, .inl (k12, 3, .inl rf_z)), (a13, .inl (k13, 3, .inl rf_z)), (a14, .inl (k14, 12, .inl rf_z)), (a15, .inl (k15, 3, .inl rf_z)), (a16, .inl (k16, 3, .inl rf_z)), (a17, .inl (k17, 3, .inl rf_z)), (a18, .inl (k18, 3, .inl rf_z)), (a19, .inl (k19, 3, .inl rf_z))] := hD
  have hK : va_K D vwCl [(k1, .int), (k2, .int), (k3, .int), (k4, .boolean), (k5, .int), (k6, .int), (k7, .int), (k8, .int), (k9, .int), (k10, .int), (k11, .boolean), (k12, .int), (k13, .boolean), (k14, .int), (k15, .int), (k16, .int), (k17, .int), (k18, .int), (k19, .int)] s := hK
  refine W.widen (k := 19) (n := 429) (Nat.le_refl _) (Nat.le_refl _) ?_
  refine va_putF (D := D) (ci := 0) (v := .ref a19) (ty := .array .int) (C := RX0) (T := TX0) (N := 22) hx hb hts in_X0 tyX0 tyX0_ok nmX0 hown hK hP hD hS 0 rfl rfl 21 (by decide) (hts _ q52) (fun _ h9 => h9) rfl hnm rfl (by decide +kernel) rfl rfl (Nat.le_of_ble_eq_true rfl) dX0_init_142 (fun H locs hP hD hS => ?_)
  have hP : va_P D vwCl [(o, .inr (0, [.int 0, .ref a1, .ref a2, .ref a3, .int 0, .int 0, .ref a4, .ref a5, .ref a6, .ref a7, .ref a8, .ref a9, .ref a10, .ref a11, .ref a12, .ref a13, .ref a14, .ref a15, .ref a16, .ref a17, .ref a18, .ref a19])), (a1, .inl (k1, 16, .inl rf_z)), (a2, .inl (k2, 16, .inl rf_z)), (a3, .inl (k3, 16, .inl rf_z)), (a4, .inl (k4, 3, .inl rf_z)), (a5, .inl (k5, 3, .inl rf_z)), (a6, .inl (k6, 3, .inl rf_z)), (a7, .inl (k7, 120, .inl rf_z)), (a8, .inl (k8, 3, .inl rf_z)), (a9, .inl (k9, 72, .inl rf_z)), (a10, .inl (k10, 72, .inl rf_z)), (a11, .inl (k11, 72, .inl rf_z)), (a12, .inl (k12, 3, .inl rf_z)), (a13, .inl (k13, 3, .inl rf_z)), (a14, .inl (k14, 12, .inl rf_z)), (a15, .inl (k15, 3, .inl rf_z)), (a16, .inl (k16, 3, .inl rf_z)), (a17, .inl (k17, 3, .inl rf_z)), (a18, .inl (k18, 3, .inl rf_z)), (a19, .inl (k19, 3, .inl rf_z))] H := hP
  have hD : va_D A [(o, .inr (0, [.int 0, .ref a1, .ref a2, .ref a3, .int 0, .int 0, .ref a4, .ref a5, .ref a6, .ref a7, .ref a8, .ref a9, .ref a10, .ref a11, .ref a12, .ref a13, .ref a14, .ref a15, .ref a16, .ref a17, .ref a18, .ref a19])), (a1, .inl (k1, 16, .inl rf_z)), (a2, .inl (k2, 16, .inl rf_z)), (a3, .inl (k3, 16, .inl rf_z)), (a4, .inl (k4, 3, .inl rf_z)), (a5, .inl (k5, 3, .inl rf_z)), (a6, .inl (k6, 3, .inl rf_z)), (a7, .inl (k7, 120, .inl rf_z)), (a8, .inl (k8, 3, .inl rf_z)), (a9, .inl (k9, 72, .inl rf_z)), (a10, .inl (k10, 72, .inl rf_z)), (a11, .inl (k11, 72, .inl rf_z)), (a12, .inl (k12, 3, .inl rf_z)), (a13, .inl (k13, 3, .inl rf_z)), (a14, .inl (k14, 12, .inl rf_z)), (a15, .inl (k15, 3, .inl rf_z)), (a16, .inl (k16, 3, .inl rf_z)), (a17, .inl (k17, 3, .inl rf_z)), (a18, .inl (k18, 3, .inl rf_z)), (a19, .inl (k19, 3, .inl rf_z))] := hD
  refine lv_aload_n hx hb dX0_init_145 rfl (lv_at hl 0 rfl) ?_
  refine lv_iconst (v := 0) hx hb dX0_init_146 (by decide) ?_
  refine va_put (D := D) (ci := 0) (v := .int 0) (ty := .int) (C := RX0) (T := TX0) (N := 22) hx hb hts in_X0 tyX0 tyX0_ok nmX0 hown hK hP hD hS 0 rfl rfl 5 (by decide) (hts _ q36) (fun _ h9 => h9) rfl (by decide +kernel) rfl rfl (Nat.le_of_ble_eq_true rfl) dX0_init_147 (fun H locs hP hD hS => ?_)
  have hP : va_P D vwCl [(o, .inr (0, [.int 0, .ref a1, .ref a2, .ref a3, .int 0, .int 0, .ref a4, .ref a5, .ref a6, .ref a7, .ref a8, .ref a9, .ref a10, .ref a11, .ref a12, .ref a13, .ref a14, .ref a15, .ref a16, .ref a17, .ref a18, .ref a19])), (a1, .inl (k1, 16, .inl rf_z)), (a2, .inl (k2, 16, .inl rf_z)), (a3, .inl (k3, 16, .inl rf_z)), (a4, .inl (k4, 3, .inl rf_z)), (a5, .inl (k5, 3, .inl rf_z)), (a6, .inl (k6, 3, .inl rf_z)), (a7, .inl (k7, 120, .inl rf_z)), (a8, .inl (k8, 3, .inl rf_z)), (a9, .inl (k9, 72, .inl rf_z)), (a10, .inl (k10, 72, .inl rf_z)), (a11, .inl (k11, 72, .inl rf_z)), (a12, .inl (k12, 3, .inl rf_z)), (a13, .inl (k13, 3, .inl rf_z)), (a14, .inl (k14, 12, .inl rf_z)), (a15, .inl (k15, 3, .inl rf_z)), (a16, .inl (k16, 3, .inl rf_z)), (a17, .inl (k17, 3, .inl rf_z)), (a18, .inl (k18, 3, .inl rf_z)), (a19, .inl (k19, 3, .inl rf_z))] H := hP
  have hD : va_D A [(o, .inr (0, [.int 0, .ref a1, .ref a2, .ref a3, .int 0, .int 0, .ref a4, .ref a5, .ref a6, .ref a7, .ref a8, .ref a9, .ref a10, .ref a11, .ref a12, .ref a13, .ref a14, .ref a15, .ref a16, .ref a17, .ref a18, .ref a19])), (a1, .inl (k1, 16, .inl rf_z)), (a2, .inl (k2, 16, .inl rf_z)), (a3, .inl (k3, 16, .inl rf_z)), (a4, .inl (k4, 3, .inl rf_z)), (a5, .inl (k5, 3, .inl rf_z)), (a6, .inl (k6, 3, .inl rf_z)), (a7, .inl (k7, 120, .inl rf_z)), (a8, .inl (k8, 3, .inl rf_z)), (a9, .inl (k9, 72, .inl rf_z)), (a10, .inl (k10, 72, .inl rf_z)), (a11, .inl (k11, 72, .inl rf_z)), (a12, .inl (k12, 3, .inl rf_z)), (a13, .inl (k13, 3, .inl rf_z)), (a14, .inl (k14, 12, .inl rf_z)), (a15, .inl (k15, 3, .inl rf_z)), (a16, .inl (k16, 3, .inl rf_z)), (a17, .inl (k17, 3, .inl rf_z)), (a18, .inl (k18, 3, .inl rf_z)), (a19, .inl (k19, 3, .inl rf_z))] := hD
  have hP9 : va_P D vwCl (rf_ow xS (fun j => ([o, a1, a2, a3, a4, a5, a6, a7, a8, a9, a10, a11, a12, a13, a14, a15, a16, a17, a18, a19] : List Nat).getD j 0) (fun j => ([0, k1, k2, k3, k4, k5, k6, k7, k8, k9, k10, k11, k12, k13, k14, k15, k16, k17, k18, k19] : List ClassId).getD j 0) rf_zz) H := hP
  have hD9 : va_D A (rf_ow xS (fun j => ([o, a1, a2, a3, a4, a5, a6, a7, a8, a9, a10, a11, a12, a13, a14, a15, a16, a17, a18, a19] : List Nat).getD j 0) (fun j => ([0, k1, k2, k3, k4, k5, k6, k7, k8, k9, k10, k11, k12, k13, k14, k15, k16, k17, k18, k19] : List ClassId).getD j 0) rf_zz) := hD
  have hK9 : va_K D vwCl (rf_ty xS (fun j => ([0, k1, k2, k3, k4, k5, k6, k7, k8, k9, k10, k11, k12, k13, k14, k15, k16, k17, k18, k19] : List ClassId).getD j 0)) s := hK
  exact W.vret hx hb hr (fun t ht hW => ⟨⟨((fun j => ([o, a1, a2, a3, a4, a5, a6, a7, a8, a9, a10, a11, a12, a13, a14, a15, a16, a17, a18, a19] : List Nat).getD j 0), (fun j => ([0, k1, k2, k3, k4, k5, k6, k7, k8, k9, k10, k11, k12, k13, k14, k15, k16, k17, k18, k19] : List ClassId).getD j 0)), rfl, trivial, ⟨va_K.moved hW.alike hK9, by rw [ht]; exact hP9⟩, (rf_gD hD9).1, rfl, (rf_gD hD9).2⟩, hS.F ht⟩) hS.2.2 dX0_init_150 hlk
def m_dflt : List Value := [.null, .null, .null, .int 0, .int 0, .int 0, .null, .null, .null, .null, .null, .null, .null, .null, .null, .null, .null]
/-- behind the constructor: an object of the shape, all its memory 0 -/
def m_born (D : va_G) (A : Nat → Prop) (o : Nat) (u : (Nat → Nat) × (Nat → ClassId)) (t : State) : Prop := rf_J D vwCl mS u.1 u.2 rf_zz t ∧ rf_g mS u.1 ∧ u.1 0 = o ∧ ∀ j, j ≤ 14 → A (u.1 j)
set_option maxHeartbeats 4000000 in
set_option maxRecDepth 100000 in
theorem mt_init (l : Launch) (D : va_G) (o sz : Nat) : Met l yX1_init (ws_ yX1_init cX1_init 1 none) ({ frames := 1, cells := 14, slots := 297, locals := 12 }) (va_Pc [.ref o] (fun U => U.heap.size = sz ∧ va_P D vwCl [(o, .inr (1, m_dflt))] U.heap ∧ va_K D vwCl [] U ∧ va_D (fun _ => True) [(o, .inr (1, m_dflt))])) (va_Qv (fun _ => True) (m_born D (va_A [(o, .inr (1, m_dflt))] sz) o) (va_A [(o, .inr (1, m_dflt))] sz)) 14 297 (va_A [(o, .inr (1, m_dflt))] sz) := by
  refine rf_enter (by decide) (Nat.le_of_ble_eq_true rfl) ?_
  intro p e s m below meth c ls hx hb hr hlk hml hown hts hnm hB hl
  obtain ⟨hsz, hP, hK, hD0⟩ := hB
  subst hsz
  have hD := hD0.self (sz := s.heap.size)
  generalize hAe : va_A [(o, .inr (1, m_dflt))] s.heap.size = A at hD ⊢
  have hA : ∀ q : Nat, s.heap.size ≤ q → A q := fun q h => by rw [← hAe]; exact Or.inr h
  have hS : va_S A s.heap s.heap [] := va_S.rf
  have hP : va_P D vwCl [(o, .inr (1, [.null, .null, .null, .int 0, .int 0, .int 0, .null, .null, .null, .null, .null, .null, .null, .null, .null, .null, .null]))] s.heap := hP
  have hD : va_D A [(o, .inr (1, [.null, .null, .null, .int 0, .int 0, .int 0, .null, .null, .null, .null, .null, .null, .null, .null, .null, .null, .null]))] := hD
  have hl : lv_has ls 1 [(0, .ref o)] := hl
  refine lv_aload_n hx hb dX1_init_0 rfl (lv_at hl 0 rfl) ?_
  refine W.objInit hx hb hown (hts _ q208) (hts _ q29) (hts _ q30) rfl (by rw [hml]; exact hl.1) rfl dX1_init_1 (Nat.le_of_ble_eq_true rfl) (Nat.le_of_ble_eq_true rfl) ?_
  refine W.eq (g2 := F0 m 4 ls []) rfl ?_
  refine lv_aload_n hx hb dX1_init_4 rfl (lv_at hl 0 rfl) ?_
  refine lv_bipush (v := 16) hx hb dX1_init_5 (by decide) ?_
  refine va_newa (atype := .int) (ty := .int) (N' := 16) (a0 := (16, .inl rf_z)) hx hb (hts _ q98) rfl hK hP hD hS hA (fun _ => rfl) (by decide) (by decide) (by decide) (Nat.le_of_ble_eq_true rfl) (Nat.le_of_ble_eq_true rfl) dX1_init_7 (fun a1 k1 H hK hP hD hS => ?_)
  have hP : va_P D vwCl [(o, .inr (1, [.null, .null, .null, .int 0, .int 0, .int 0, .null, .null, .null, .null, .null, .null, .null, .null, .null, .null, .null])), (a1, .inl (k1, 16, .inl rf_z))] H := hP
  have hD : va_D A [(o, .inr (1, [.null, .null, .null, .int 0, .int 0, .int 0, .null, .null, .null, .null, .null, .null, .null, .null, .null, .null, .null])), (a1, .inl (k1, 16, .inl rf_z))] := hD
  have hK : va_K D vwCl [(k1, .int)] s := hK
  refine W.widen (k := 1) (n := 16) (Nat.le_refl _) (Nat.le_refl _) ?_
  refine va_putF (D := D) (ci := 1) (v := .ref a1) (ty := .array .int) (C := RX1) (T := TX1) (N := 17) hx hb hts in_X1 tyX1 tyX1_ok nmX1 hown hK hP hD hS 0 rfl rfl 0 (by decide) (hts _ q209) (fun _ h9 => h9) rfl hnm rfl (by decide +kernel) rfl rfl (Nat.le_of_ble_eq_true rfl) dX1_init_9 (fun H locs hP hD hS => ?_)
  have hP : va_P D vwCl [(o, .inr (1, [.ref a1, .null, .null, .int 0, .int 0, .int 0, .null, .null, .null, .null, .null, .null, .null, .null, .null, .null, .null])), (a1, .inl (k1, 16, .inl rf_z))] H := hP
  have hD : va_D A [(o, .inr (1, [.ref a1, .null, .null, .int 0, .int 0, .int 0, .null, .null, .null, .null, .null, .null, .null, .null, .null, .null, .null])), (a1, .inl (k1, 16, .inl rf_z))] := hD
  refine lv_aload_n hx hb dX1_init_12 rfl (lv_at hl 0 rfl) ?_
  refine lv_bipush (v := 16) hx hb dX1_init_13 (by decide) ?_
  refine va_newa (atype := .int) (ty := .int) (N' := 16) (a0 := (16, .inl rf_z)) hx hb (hts _ q98) rfl hK hP hD hS hA (fun _ => rfl) (by decide) (by decide) (by decide) (Nat.le_of_ble_eq_true rfl) (Nat.le_of_ble_eq_true rfl) dX1_init_15 (fun a2 k2 H hK hP hD hS => ?_)
  have hP : va_P D vwCl [(o, .inr (1, [.ref a1, .null, .null, .int 0, .int 0, .int 0, .null, .null, .null, .null, .null, .null, .null, .null, .null, .null, .null])), (a1, .inl (k1, 16, .inl rf_z)), (a2, .inl (k2, 16, .inl rf_z))] H := hP
  have hD : va_D A [(o, .inr (1, [.ref a1, .null, .null, .int 0, .int 0, .int 0, .null, .null, .null, .null, .null, .null, .null, .null, .null, .null, .null])), (a1, .inl (k1, 16, .inl rf_z)), (a2, .inl (k2, 16, .inl rf_z))] := hD
  have hK : va_K D vwCl [(k1, .int), (k2, .int)] s := hK
  refine W.widen (k := 2) (n := 32) (Nat.le_refl _) (Nat.le_refl _) ?_
  refine va_putF (D := D) (ci := 1) (v := .ref a2) (ty := .array .int) (C := RX1) (T := TX1) (N := 17) hx hb hts in_X1 tyX1 tyX1_ok nmX1 hown hK hP hD hS 0 rfl rfl 1 (by decide) (hts _ q210) (fun _ h9 => h9) rfl hnm rfl (by decide +kernel) rfl rfl (Nat.le_of_ble_eq_true rfl) dX1_init_17 (fun H locs hP hD hS => ?_)
  have hP : va_P D vwCl [(o, .inr (1, [.ref a1, .ref a2, .null, .int 0, .int 0, .int 0, .null, .null, .null, .null, .null, .null, .null, .null, .null, .null, .null])), (a1, .inl (k1, 16, .inl rf_z)), (a2, .inl (k2, 16, .inl rf_z))] H := hP
  have hD : va_D A [(o, .inr (1, [.ref a1, .ref a2, .null, .int 0, .int 0, .int 0, .null, .null, .null, .null, .null, .null, .null, .null, .null, .null, .null])), (a1, .inl (k1, 16, .inl rf_z)), (a2, .inl (k2, 16, .inl rf_z))] := hD
  refine lv_aload_n hx hb dX1_init_20 rfl (lv_at hl 0 rfl) ?_
  refine lv_bipush (v := 16) hx hb dX1_init_21 (by decide) ?_
  refine va_newa (atype := .int) (ty := .int) (N' := 16) (a0 := (16, .inl rf_z)) hx hb (hts _ q98) rfl hK hP hD hS hA (fun _ => rfl) (by decide) (by decide) (by decide) (Nat.le_of_ble_eq_true rfl) (Nat.le_of_ble_eq_true rfl) dX1_init_23 (fun a3 k3 H hK hP hD hS => ?_)
  have hP : va_P D vwCl [(o, .inr (1, [.ref a1, .ref a2, .null, .int 0, .int 0, .int 0, .null, .null, .null, .null, .null, .null, .null, .null, .null, .null, .null])), (a1, .inl (k1, 16, .inl rf_z)), (a2, .inl (k2, 16, .inl rf_z)), (a3, .inl (k3, 16, .inl rf_z))] H := hP
  have hD : va_D A [(o, .inr (1, [.ref a1, .ref a2, .null, .int 0, .int 0, .int 0, .null, .null, .null, .null, .null, .null, .null, .null, .null, .null, .null])), (a1, .inl (k1, 16, .inl rf_z)), (a2, .inl (k2, 16, .inl rf_z)), (a3, .inl (k3, 16, .inl rf_z))] := hD
  have hK : va_K D vwCl [(k1, .int), (k2, .int), (k3, .int)] s := hK
  refine W.widen (k := 3) (n := 48) (Nat.le_refl _) (Nat.le_refl _) ?_
  refine va_putF (D := D) (ci := 1) (v := .ref a3) (ty := .array .int) (C := RX1) (T := TX1) (N := 17) hx hb hts in_X1 tyX1 tyX1_ok nmX1 hown hK hP hD hS 0 rfl rfl 2 (by decide) (hts _ q211) (fun _ h9 => h9) rfl hnm rfl (by decide +kernel) rfl rfl (Nat.le_of_ble_eq_true rfl) dX1_init_25 (fun H locs hP hD hS => ?_)
  have hP : va_P D vwCl [(o, .inr (1, [.ref a1, .ref a2, .ref a3, .int 0, .int 0, .int 0, .null, .null, .null, .null, .null, .null, .null, .null, .null, .null, .null])), (a1, .inl (k1, 16, .inl rf_z)), (a2, .inl (k2, 16, .inl rf_z)), (a3, .inl (k3, 16, .inl rf_z))] H := hP
  have hD : va_D A [(o, .inr (1, [.ref a1, .ref a2, .ref a3, .int 0, .int 0, .int 0, .null, .null, .null, .null, .null, .null, .null, .null, .null, .null, .null])), (a1, .inl (k1, 16, .inl rf_z)), (a2, .inl (k2, 16, .inl rf_z)), (a3, .inl (k3, 16, .inl rf_z))] := hD
  refine lv_aload_n hx hb dX1_init_28 rfl (lv_at hl 0 rfl) ?_
  refine lv_iconst (v := 3) hx hb dX1_init_29 (by decide) ?_
  refine va_newa (atype := .int) (ty := .int) (N' := 3) (a0 := (3, .inl rf_z)) hx hb (hts _ q98) rfl hK hP hD hS hA (fun _ => rfl) (by decide) (by decide) (by decide) (Nat.le_of_ble_eq_true rfl) (Nat.le_of_ble_eq_true rfl) dX1_init_30 (fun a4 k4 H hK hP hD hS => ?_)
  have hP : va_P D vwCl [(o, .inr (1, [.ref a1, .ref a2, .ref a3, .int 0, .int 0, .int 0, .null, .null, .null, .null, .null, .null, .null, .null, .null, .null, .null])), (a1, .inl (k1, 16, .inl rf_z)), (a2, .inl (k2, 16, .inl rf_z)), (a3, .inl (k3, 16, .inl rf_z)), (a4, .inl (k4, 3, .inl rf_z))] H := hP
  have hD : va_D A [(o, .inr (1, [.ref a1, .ref a2, .ref a3, .int 0, .int 0, .int 0, .null, .null, .null, .null, .null, .null, .null, .null, .null, .null, .null])), (a1, .inl (k1, 16, .inl rf_z)), (a2, .inl (k2, 16, .inl rf_z)), (a3, .inl (k3, 16, .inl rf_z)), (a4, .inl (k4, 3, .inl rf_z))] := hD
  have hK : va_K D vwCl [(k1, .int), (k2, .int), (k3, .int), (k4, .int)] s := hK
  refine W.widen (k := 4) (n := 51) (Nat.le_refl _) (Nat.le_refl _) ?_
  refine va_putF (D := D) (ci := 1) (v := .ref a4) (ty := .array .int) (C := RX1) (T := TX1) (N := 17) hx hb hts in_X1 tyX1 tyX1_ok nmX1 hown hK hP hD hS 0 rfl rfl 6 (by decide) (hts _ q215) (fun _ h9 => h9) rfl hnm rfl (by decide +kernel) rfl rfl (Nat.le_of_ble_eq_true rfl) dX1_init_32 (fun H locs hP hD hS => ?_)
  have hP : va_P D vwCl [(o, .inr (1, [.ref a1, .ref a2, .ref a3, .int 0, .int 0, .int 0, .ref a4, .null, .null, .null, .null, .null, .null, .null, .null, .null, .null])), (a1, .inl (k1, 16, .inl rf_z)), (a2, .inl (k2, 16, .inl rf_z)), (a3, .inl (k3, 16, .inl rf_z)), (a4, .inl (k4, 3, .inl rf_z))] H := hP
  have hD : va_D A [(o, .inr (1, [.ref a1, .ref a2, .ref a3, .int 0, .int 0, .int 0, .ref a4, .null, .null, .null, .null, .null, .null, .null, .null, .null, .null])), (a1, .inl (k1, 16, .inl rf_z)), (a2, .inl (k2, 16, .inl rf_z)), (a3, .inl (k3, 16, .inl rf_z)), (a4, .inl (k4, 3, .inl rf_z))] := hD
  refine lv_aload_n hx hb dX1_init_35 rfl (lv_at hl 0 rfl) ?_
  refine lv_iconst (v := 3) hx hb dX1_init_36 (by decide) ?_
  refine va_newa (atype := .int) (ty := .int) (N' := 3) (a0 := (3, .inl rf_z)) hx hb (hts _ q98) rfl hK hP hD hS hA (fun _ => rfl) (by decide) (by decide) (by decide) (Nat.le_of_ble_eq_true rfl) (Nat.le_of_ble_eq_true rfl) dX1_init_37 (fun a5 k5 H hK hP hD hS => ?_)
  have hP : va_P D vwCl [(o, .inr (1, [.ref a1, .ref a2, .ref a3, .int 0, .int 0, .int 0, .ref a4, .null, .null, .null, .null, .null, .null, .null, .null, .null, .null])), (a1, .inl (k1, 16, .inl rf_z)), (a2, .inl (k2, 16, .inl rf_z)), (a3, .inl (k3, 16, .inl rf_z)), (a4, .inl (k4, 3, .inl rf_z)), (a5, .inl (k5, 3, .inl rf_z))] H := hP
  have hD : va_D A [(o, .inr (1, [.ref a1, .ref a2, .ref a3, .int 0, .int 0, .int 0, .ref a4, .null, .null, .null, .null, .null, .null, .null, .null, .null, .null])), (a1, .inl (k1, 16, .inl rf_z)), (a2, .inl (k2, 16, .inl rf_z)), (a3, .inl (k3, 16, .inl rf_z)), (a4, .inl (k4, 3, .inl rf_z)), (a5, .inl (k5, 3, .inl rf_z))] := hD
  have hK : va_K D vwCl [(k1, .int), (k2, .int), (k3, .int), (k4, .int), (k5, .int)] s := hK
  refine W.widen (k := 5) (n := 54) (Nat.le_refl _) (Nat.le_refl _) ?_
  refine va_putF (D := D) (ci := 1) (v := .ref a5) (ty := .array .int) (C := RX1) (T := TX1) (N := 17) hx hb hts in_X1 tyX1 tyX1_ok nmX1 hown hK hP hD hS 0 rfl rfl 7 (by decide) (hts _ q216) (fun _ h9 => h9) rfl hnm rfl (by decide +kernel) rfl rfl (Nat.le_of_ble_eq_true rfl) dX1_init_39 (fun H locs hP hD hS => ?_)
  have hP : va_P D vwCl [(o, .inr (1, [.ref a1, .ref a2, .ref a3, .int 0, .int 0, .int 0, .ref a4, .ref a5, .null, .null, .null, .null, .null, .null, .null, .null, .null])), (a1, .inl (k1, 16, .inl rf_z)), (a2, .inl (k2, 16, .inl rf_z)), (a3, .inl (k3, 16, .inl rf_z)), (a4, .inl (k4, 3, .inl rf_z)), (a5, .inl (k5, 3, .inl rf_z))] H := hP
  have hD : va_D A [(o, .inr (1, [.ref a1, .ref a2, .ref a3, .int 0, .int 0, .int 0, .ref a4, .ref a5, .null, .null, .null, .null, .null, .null, .null, .null, .null])), (a1, .inl (k1, 16, .inl rf_z)), (a2, .inl (k2, 16, .inl rf_z)), (a3, .inl (k3, 16, .inl rf_z)), (a4, .inl (k4, 3, .inl rf_z)), (a5, .inl (k5, 3, .inl rf_z))] := hD
  refine lv_aload_n hx hb dX1_init_42 rfl (lv_at hl 0 rfl) ?_
  refine lv_iconst (v := 3) hx hb dX1_init_43 (by decide) ?_
  refine va_newa (atype := .int) (ty := .int) (N' := 3) (a0 := (3, .inl rf_z)) hx hb (hts _ q98) rfl hK hP hD hS hA (fun _ => rfl) (by decide) (by decide) (by decide) (Nat.le_of_ble_eq_true rfl) (Nat.le_of_ble_eq_true rfl) dX1_init_44 (fun a6 k6 H hK hP hD hS => ?_)
  have hP : va_P D vwCl [(o, .inr (1, [.ref a1, .ref a2, .ref a3, .int 0, .int 0, .int 0, .ref a4, .ref a5, .null, .null, .null, .null, .null, .null, .null, .null, .null])), (a1, .inl (k1, 16, .inl rf_z)), (a2, .inl (k2, 16, .inl rf_z)), (a3, .inl (k3, 16, .inl rf_z)), (a4, .inl (k4, 3, .inl rf_z)), (a5, .inl (k5, 3, .inl rf_z)), (a6, .inl (k6, 3, .inl rf_z))] H := hP
  have hD : va_D A [(o, .inr (1, [.ref a1, .ref a2, .ref a3, .int 0, .int 0, .int 0, .ref a4, .ref a5, .null, .null, .null, .null, .null, .null, .null, .null, .null])), (a1, .inl (k1, 16, .inl rf_z)), (a2, .inl (k2, 16, .inl rf_z)), (a3, .inl (k3, 16, .inl rf_z)), (a4, .inl (k4, 3, .inl rf_z)), (a5, .inl (k5, 3, .inl rf_z)), (a6, .inl (k6, 3, .inl rf_z))] := hD
  have hK : va_K D vwCl [(k1, .int), (k2, .int), (k3, .int), (k4, .int), (k5, .int), (k6, .int)] s := hK
  refine W.widen (k := 6) (n := 57) (Nat.le_refl _) (Nat.le_refl _) ?_
  refine va_putF (D := D) (ci := 1) (v := .ref a6) (ty := .array .int) (C := RX1) (T := TX1) (N := 17) hx hb hts in_X1 tyX1 tyX1_ok nmX1 hown hK hP hD hS 0 rfl rfl 8 (by decide) (hts _ q217) (fun _ h9 => h9) rfl hnm rfl (by decide +kernel) rfl rfl (Nat.le_of_ble_eq_true rfl) dX1_init_46 (fun H locs hP hD hS => ?_)
  have hP : va_P D vwCl [(o, .inr (1, [.ref a1, .ref a2, .ref a3, .int 0, .int 0, .int 0, .ref a4, .ref a5, .ref a6, .null, .null, .null, .null, .null, .null, .null, .null])), (a1, .inl (k1, 16, .inl rf_z)), (a2, .inl (k2, 16, .inl rf_z)), (a3, .inl (k3, 16, .inl rf_z)), (a4, .inl (k4, 3, .inl rf_z)), (a5, .inl (k5, 3, .inl rf_z)), (a6, .inl (k6, 3, .inl rf_z))] H := hP
  have hD : va_D A [(o, .inr (1, [.ref a1, .ref a2, .ref a3, .int 0, .int 0, .int 0, .ref a4, .ref a5, .ref a6, .null, .null, .null, .null, .null, .null, .null, .null])), (a1, .inl (k1, 16, .inl rf_z)), (a2, .inl (k2, 16, .inl rf_z)), (a3, .inl (k3, 16, .inl rf_z)), (a4, .inl (k4, 3, .inl rf_z)), (a5, .inl (k5, 3, .inl rf_z)), (a6, .inl (k6, 3, .inl rf_z))] := hD
  refine lv_aload_n hx hb dX1_init_49 rfl (lv_at hl 0 rfl) ?_
  refine lv_bipush (v := 12) hx hb dX1_init_50 (by decide) ?_
  refine va_newa (atype := .int) (ty := .int) (N' := 12) (a0 := (12, .inl rf_z)) hx hb (hts _ q98) rfl hK hP hD hS hA (fun _ => rfl) (by decide) (by decide) (by decide) (Nat.le_of_ble_eq_true rfl) (Nat.le_of_ble_eq_true rfl) dX1_init_52 (fun a7 k7 H hK hP hD hS => ?_)
  have hP : va_P D vwCl [(o, .inr (1, [.ref a1, .ref a2, .ref a3, .int 0, .int 0, .int 0, .ref a4, .ref a5, .ref a6, .null, .null, .null, .null, .null, .null, .null, .null])), (a1, .inl (k1, 16, .inl rf_z)), (a2, .inl (k2, 16, .inl rf_z)), (a3, .inl (k3, 16, .inl rf_z)), (a4, .inl (k4, 3, .inl rf_z)), (a5, .inl (k5, 3, .inl rf_z)), (a6, .inl (k6, 3, .inl rf_z)), (a7, .inl (k7, 12, .inl rf_z))] H := hP
  have hD : va_D A [(o, .inr (1, [.ref a1, .ref a2, .ref a3, .int 0, .int 0, .int 0, .ref a4, .ref a5, .ref a6, .null, .null, .null, .null, .null, .null, .null, .null])), (a1, .inl (k1, 16, .inl rf_z)), (a2, .inl (k2, 16, .inl rf_z)), (a3, .inl (k3, 16, .inl rf_z)), (a4, .inl (k4, 3, .inl rf_z)), (a5, .inl (k5, 3, .inl rf_z)), (a6, .inl (k6, 3, .inl rf_z)), (a7, .inl (k7, 12, .inl rf_z))] := hD
  have hK : va_K D vwCl [(k1, .int), (k2, .int), (k3, .int), (k4, .int), (k5, .int), (k6, .int), (k7, .int)] s := hK
  refine W.widen (k := 7) (n := 69) (Nat.le_refl _) (Nat.le_refl _) ?_
  refine va_putF (D := D) (ci := 1) (v := .ref a7) (ty := .array .int) (C := RX1) (T := TX1) (N := 17) hx hb hts in_X1 tyX1 tyX1_ok nmX1 hown hK hP hD hS 0 rfl rfl 9 (by decide) (hts _ q218) (fun _ h9 => h9) rfl hnm rfl (by decide +kernel) rfl rfl (Nat.le_of_ble_eq_true rfl) dX1_init_54 (fun H locs hP hD hS => ?_)
  have hP : va_P D vwCl [(o, .inr (1, [.ref a1, .ref a2, .ref a3, .int 0, .int 0, .int 0, .ref a4, .ref a5, .ref a6, .ref a7, .null, .null, .null, .null, .null, .null, .null])), (a1, .inl (k1, 16, .inl rf_z)), (a2, .inl (k2, 16, .inl rf_z)), (a3, .inl (k3, 16, .inl rf_z)), (a4, .inl (k4, 3, .inl rf_z)), (a5, .inl (k5, 3, .inl rf_z)), (a6, .inl (k6, 3, .inl rf_z)), (a7, .inl (k7, 12, .inl rf_z))] H := hP
  have hD : va_D A [(o, .inr (1, [.ref a1, .ref a2, .ref a3, .int 0, .int 0, .int 0, .ref a4, .ref a5, .ref a6, .ref a7, .null, .null, .null, .null, .null, .null, .null])), (a1, .inl (k1, 16, .inl rf_z)), (a2, .inl (k2, 16, .inl rf_z)), (a3, .inl (k3, 16, .inl rf_z)), (a4, .inl (k4, 3, .inl rf_z)), (a5, .inl (k5, 3, .inl rf_z)), (a6, .inl (k6, 3, .inl rf_z)), (a7, .inl (k7, 12, .inl rf_z))] := hD
  refine lv_aload_n hx hb dX1_init_57 rfl (lv_at hl 0 rfl) ?_
  refine lv_iconst (v := 3) hx hb dX1_init_58 (by decide) ?_
  refine va_newa (atype := .int) (ty := .int) (N' := 3) (a0 := (3, .inl rf_z)) hx hb (hts _ q98) rfl hK hP hD hS hA (fun _ => rfl) (by decide) (by decide) (by decide) (Nat.le_of_ble_eq_true rfl) (Nat.le_of_ble_eq_true rfl) dX1_init_59 (fun a8 k8 H hK hP hD hS => ?_)
  have hP : va_P D vwCl [(o, .inr (1, [.ref a1, .ref a2, .ref a3, .int 0, .int 0, .int 0, .ref a4, .ref a5, .ref a6, .ref a7, .null, .null, .null, .null, .null, .null, .null])), (a1, .inl (k1, 16, .inl rf_z)), (a2, .inl (k2, 16, .inl rf_z)), (a3, .inl (k3, 16, .inl rf_z)), (a4, .inl (k4, 3, .inl rf_z)), (a5, .inl (k5, 3, .inl rf_z)), (a6, .inl (k6, 3, .inl rf_z)), (a7, .inl (k7, 12, .inl rf_z)), (a8, .inl (k8, 3, .inl rf_z))] H := hP
  have hD : va_D A [(o, .inr (1, [.ref a1, .ref a2, .ref a3, .int 0, .int 0, .int 0, .ref a4, .ref a5, .ref a6, .ref a7, .null, .null, .null, .null, .null, .null, .null])), (a1, .inl (k1, 16, .inl rf_z)), (a2, .inl (k2, 16, .inl rf_z)), (a3, .inl (k3, 16, .inl rf_z)), (a4, .inl (k4, 3, .inl rf_z)), (a5, .inl (k5, 3, .inl rf_z)), (a6, .inl (k6, 3, .inl rf_z)), (a7, .inl (k7, 12, .inl rf_z)), (a8, .inl (k8, 3, .inl rf_z))] := hD
  have hK : va_K D vwCl [(k1, .int), (k2, .int), (k3, .int), (k4, .int), (k5, .int), (k6, .int), (k7, .int), (k8, .int)] s := hK
  refine W.widen (k := 8) (n := 72) (Nat.le_refl _) (Nat.le_refl _) ?_
  refine va_putF (D := D) (ci := 1) (v := .ref a8) (ty := .array .int) (C := RX1) (T := TX1) (N := 17) hx hb hts in_X1 tyX1 tyX1_ok nmX1 hown hK hP hD hS 0 rfl rfl 10 (by decide) (hts _ q219) (fun _ h9 => h9) rfl hnm rfl (by decide +kernel) rfl rfl (Nat.le_of_ble_eq_true rfl) dX1_init_61 (fun H locs hP hD hS => ?_)
  have hP : va_P D vwCl [(o, .inr (1, [.ref a1, .ref a2, .ref a3, .int 0, .int 0, .int 0, .ref a4, .ref a5, .ref a6, .ref a7, .ref a8, .null, .null, .null, .null, .null, .null])), (a1, .inl (k1, 16, .inl rf_z)), (a2, .inl (k2, 16, .inl rf_z)), (a3, .inl (k3, 16, .inl rf_z)), (a4, .inl (k4, 3, .inl rf_z)), (a5, .inl (k5, 3, .inl rf_z)), (a6, .inl (k6, 3, .inl rf_z)), (a7, .inl (k7, 12, .inl rf_z)), (a8, .inl (k8, 3, .inl rf_z))] H := hP
  have hD : va_D A [(o, .inr (1, [.ref a1, .ref a2, .ref a3, .int 0, .int 0, .int 0, .ref a4, .ref a5, .ref a6, .ref a7, .ref a8, .null, .null, .null, .null, .null, .null])), (a1, .inl (k1, 16, .inl rf_z)), (a2, .inl (k2, 16, .inl rf_z)), (a3, .inl (k3, 16, .inl rf_z)), (a4, .inl (k4, 3, .inl rf_z)), (a5, .inl (k5, 3, .inl rf_z)), (a6, .inl (k6, 3, .inl rf_z)), (a7, .inl (k7, 12, .inl rf_z)), (a8, .inl (k8, 3, .inl rf_z))] := hD
  refine lv_aload_n hx hb dX1_init_64 rfl (lv_at hl 0 rfl) ?_
  refine lv_iconst (v := 3) hx hb dX1_init_65 (by decide) ?_
  refine va_newa (atype := .int) (ty := .int) (N' := 3) (a0 := (3, .inl rf_z)) hx hb (hts _ q98) rfl hK hP hD hS hA (fun _ => rfl) (by decide) (by decide) (by decide) (Nat.le_of_ble_eq_true rfl) (Nat.le_of_ble_eq_true rfl) dX1_init_66 (fun a9 k9 H hK hP hD hS => ?_)
  have hP : va_P D vwCl [(o, .inr (1, [.ref a1, .ref a2, .ref a3, .int 0, .int 0, .int 0, .ref a4, .ref a5, .ref a6, .ref a7, .ref a8, .null, .null, .null, .null, .null, .null])), (a1, .inl (k1, 16, .inl rf_z)), (a2, .inl (k2, 16, .inl rf_z)), (a3, .inl (k3, 16, .inl rf_z)), (a4, .inl (k4, 3, .inl rf_z)), (a5, .inl (k5, 3, .inl rf_z)), (a6, .inl (k6, 3, .inl rf_z)), (a7, .inl (k7, 12, .inl rf_z)), (a8, .inl (k8, 3, .inl rf_z)), (a9, .inl (k9, 3, .inl rf_z))] H := hP
  have hD : va_D A [(o, .inr (1, [.ref a1, .ref a2, .ref a3, .int 0, .int 0, .int 0, .ref a4, .ref a5, .ref a6, .ref a7, .ref a8, .null, .null, .null, .null, .null, .null])), (a1, .inl (k1, 16, .inl rf_z)), (a2, .inl (k2, 16, .inl rf_z)), (a3, .inl (k3, 16, .inl rf_z)), (a4, .inl (k4, 3, .inl rf_z)), (a5, .inl (k5, 3, .inl rf_z)), (a6, .inl (k6, 3, .inl rf_z)), (a7, .inl (k7, 12, .inl rf_z)), (a8, .inl (k8, 3, .inl rf_z)), (a9, .inl (k9, 3, .inl rf_z))] := hD
  have hK : va_K D vwCl [(k1, .int), (k2, .int), (k3, .int), (k4, .int), (k5, .int), (k6, .int), (k7, .int), (k8, .int), (k9, .int)] s := hK
  refine W.widen (k := 9) (n := 75) (Nat.le_refl _) (Nat.le_refl _) ?_
  refine va_putF (D := D) (ci := 1) (v := .ref a9) (ty := .array .int) (C := RX1) (T := TX1) (N := 17) hx hb hts in_X1 tyX1 tyX1_ok nmX1 hown hK hP hD hS 0 rfl rfl 11 (by decide) (hts _ q220) (fun _ h9 => h9) rfl hnm rfl (by decide +kernel) rfl rfl (Nat.le_of_ble_eq_true rfl) dX1_init_68 (fun H locs hP hD hS => ?_)
  have hP : va_P D vwCl [(o, .inr (1, [.ref a1, .ref a2, .ref a3, .int 0, .int 0, .int 0, .ref a4, .ref a5, .ref a6, .ref a7, .ref a8, .ref a9, .null, .null, .null, .null, .null])), (a1, .inl (k1, 16, .inl rf_z)), (a2, .inl (k2, 16, .inl rf_z)), (a3, .inl (k3, 16, .inl rf_z)), (a4, .inl (k4, 3, .inl rf_z)), (a5, .inl (k5, 3, .inl rf_z)), (a6, .inl (k6, 3, .inl rf_z)), (a7, .inl (k7, 12, .inl rf_z)), (a8, .inl (k8, 3, .inl rf_z)), (a9, .inl (k9, 3, .inl rf_z))] H := hP
  have hD : va_D A [(o, .inr (1, [.ref a1, .ref a2, .ref a3, .int 0, .int 0, .int 0, .ref a4, .ref a5, .ref a6, .ref a7, .ref a8, .ref a9, .null, .null, .null, .null, .null])), (a1, .inl (k1, 16, .inl rf_z)), (a2, .inl (k2, 16, .inl rf_z)), (a3, .inl (k3, 16, .inl rf_z)), (a4, .inl (k4, 3, .inl rf_z)), (a5, .inl (k5, 3, .inl rf_z)), (a6, .inl (k6, 3, .inl rf_z)), (a7, .inl (k7, 12, .inl rf_z)), (a8, .inl (k8, 3, .inl rf_z)), (a9, .inl (k9, 3, .inl rf_z))] := hD
  refine lv_aload_n hx hb dX1_init_71 rfl (lv_at hl 0 rfl) ?_
  refine lv_iconst (v := 3) hx hb dX1_init_72 (by decide) ?_
  refine va_newa (atype := .int) (ty := .int) (N' := 3) (a0 := (3, .inl rf_z)) hx hb (hts _ q98) rfl hK hP hD hS hA (fun _ => rfl) (by decide) (by decide) (by decide) (Nat.le_of_ble_eq_true rfl) (Nat.le_of_ble_eq_true rfl) dX1_init_73 (fun a10 k10 H hK hP hD hS => ?_)
  have hP : va_P D vwCl [(o, .inr (1, [.ref a1, .ref a2, .ref a3, .int 0, .int 0, .int 0, .ref a4, .ref a5, .ref a6, .ref a7, .ref a8, .ref a9, .null, .null, .null, .null, .null])), (a1, .inl (k1, 16, .inl rf_z)), (a2, .inl (k2, 16, .inl rf_z)), (a3, .inl (k3, 16, .inl rf_z)), (a4, .inl (k4, 3, .inl rf_z)), (a5, .inl (k5, 3, .inl rf_z)), (a6, .inl (k6, 3, .inl rf_z)), (a7, .inl (k7, 12, .inl rf_z)), (a8, .inl (k8, 3, .inl rf_z)), (a9, .inl (k9, 3, .inl rf_z)), (a10, .inl (k10, 3, .inl rf_z))] H := hP
  have hD : va_D A [(o, .inr (1, [.ref a1, .ref a2, .ref a3, .int 0, .int 0, .int 0, .ref a4, .ref a5, .ref a6, .ref a7, .ref a8, .ref a9, .null, .null, .null, .null, .null])), (a1, .inl (k1, 16, .inl rf_z)), (a2, .inl (k2, 16, .inl rf_z)), (a3, .inl (k3, 16, .inl rf_z)), (a4, .inl (k4, 3, .inl rf_z)), (a5, .inl (k5, 3, .inl rf_z)), (a6, .inl (k6, 3, .inl rf_z)), (a7, .inl (k7, 12, .inl rf_z)), (a8, .inl (k8, 3, .inl rf_z)), (a9, .inl (k9, 3, .inl rf_z)), (a10, .inl (k10, 3, .inl rf_z))] := hD
  have hK : va_K D vwCl [(k1, .int), (k2, .int), (k3, .int), (k4, .int), (k5, .int), (k6, .int), (k7, .int), (k8, .int), (k9, .int), (k10, .int)] s := hK
  refine W.widen (k := 10) (n := 78) (Nat.le_refl _) (Nat.le_refl _) ?_
  refine va_putF (D := D) (ci := 1) (v := .ref a10) (ty := .array .int) (C := RX1) (T := TX1) (N := 17) hx hb hts in_X1 tyX1 tyX1_ok nmX1 hown hK hP hD hS 0 rfl rfl 12 (by decide) (hts _ q221) (fun _ h9 => h9) rfl hnm rfl (by decide +kernel) rfl rfl (Nat.le_of_ble_eq_true rfl) dX1_init_75 (fun H locs hP hD hS => ?_)
  have hP : va_P D vwCl [(o, .inr (1, [.ref a1, .ref a2, .ref a3, .int 0, .int 0, .int 0, .ref a4, .ref a5, .ref a6, .ref a7, .ref a8, .ref a9, .ref a10, .null, .null, .null, .null])), (a1, .inl (k1, 16, .inl rf_z)), (a2, .inl (k2, 16, .inl rf_z)), (a3, .inl (k3, 16, .inl rf_z)), (a4, .inl (k4, 3, .inl rf_z)), (a5, .inl (k5, 3, .inl rf_z)), (a6, .inl (k6, 3, .inl rf_z)), (a7, .inl (k7, 12, .inl rf_z)), (a8, .inl (k8, 3, .inl rf_z)), (a9, .inl (k9, 3, .inl rf_z)), (a10, .inl (k10, 3, .inl rf_z))] H := hP
  have hD : va_D A [(o, .inr (1, [.ref a1, .ref a2, .ref a3, .int 0, .int 0, .int 0, .ref a4, .ref a5, .ref a6, .ref a7, .ref a8, .ref a9, .ref a10, .null, .null, .null, .null])), (a1, .inl (k1, 16, .inl rf_z)), (a2, .inl (k2, 16, .inl rf_z)), (a3, .inl (k3, 16, .inl rf_z)), (a4, .inl (k4, 3, .inl rf_z)), (a5, .inl (k5, 3, .inl rf_z)), (a6, .inl (k6, 3, .inl rf_z)), (a7, .inl (k7, 12, .inl rf_z)), (a8, .inl (k8, 3, .inl rf_z)), (a9, .inl (k9, 3, .inl rf_z)), (a10, .inl (k10, 3, .inl rf_z))] := hD
  refine lv_aload_n hx hb dX1_init_78 rfl (lv_at hl 0 rfl) ?_
  refine lv_iconst (v := 3) hx hb dX1_init_79 (by decide) ?_
  refine va_newa (atype := .int) (ty := .int) (N' := 3) (a0 := (3, .inl rf_z)) hx hb (hts _ q98) rfl hK hP hD hS hA (fun _ => rfl) (by decide) (by decide) (by decide) (Nat.le_of_ble_eq_true rfl) (Nat.le_of_ble_eq_true rfl) dX1_init_80 (fun a11 k11 H hK hP hD hS => ?_)
  have hP : va_P D vwCl [(o, .inr (1, [.ref a1, .ref a2, .ref a3, .int 0, .int 0, .int 0, .ref a4, .ref a5, .ref a6, .ref a7, .ref a8, .ref a9, .ref a10, .null, .null, .null, .null])), (a1, .inl (k1, 16, .inl rf_z)), (a2, .inl (k2, 16, .inl rf_z)), (a3, .inl (k3, 16, .inl rf_z)), (a4, .inl (k4, 3, .inl rf_z)), (a5, .inl (k5, 3, .inl rf_z)), (a6, .inl (k6, 3, .inl rf_z)), (a7, .inl (k7, 12, .inl rf_z)), (a8, .inl (k8, 3, .inl rf_z)), (a9, .inl (k9, 3, .inl rf_z)), (a10, .inl (k10, 3, .inl rf_z)), (a11, .inl (k11, 3, .inl rf_z))] H := hP
  have hD : va_D A [(o, .inr (1, [.ref a1, .ref a2, .ref a3, .int 0, .int 0, .int 0, .ref a4, .ref a5, .ref a6, .ref a7, .ref a8, .ref a9, .ref a10, .null, .null, .null, .null])), (a1, .inl (k1, 16, .inl rf_z)), (a2, .inl (k2, 16, .inl rf_z)), (a3, .inl (k3, 16, .inl rf_z)), (a4, .inl (k4, 3, .inl rf_z)), (a5, .inl (k5, 3, .inl rf_z)), (a6, .inl (k6, 3, .inl rf_z)), (a7, .inl (k7, 12, .inl rf_z)), (a8, .inl (k8, 3, .inl rf_z)), (a9, .inl (k9, 3, .inl rf_z)), (a10, .inl (k10, 3, .inl rf_z)), (a11, .inl (k11, 3, .inl rf_z))] := hD
  have hK : va_K D vwCl [(k1, .int), (k2, .int), (k3, .int), (k4, .int), (k5, .int), (k6, .int), (k7, .int), (k8, .int), (k9, .int), (k10, .int), (k11, .int)] s := hK
  refine W.widen (k := 11) (n := 81) (Nat.le_refl _) (Nat.le_refl _) ?_
  refine va_putF (D := D) (ci := 1) (v := .ref a11) (ty := .array .int) (C := RX1) (T := TX1) (N := 17) hx hb hts in_X1 tyX1 tyX1_ok nmX1 hown hK hP hD hS 0 rfl rfl 13 (by decide) (hts _ q222) (fun _ h9 => h9) rfl hnm rfl (by decide +kernel) rfl rfl (Nat.le_of_ble_eq_true rfl) dX1_init_82 (fun H locs hP hD hS => ?_)
  have hP : va_P D vwCl [(o, .inr (1, [.ref a1, .ref a2, .ref a3, .int 0, .int 0, .int 0, .ref a4, .ref a5, .ref a6, .ref a7, .ref a8, .ref a9, .ref a10, .ref a11, .null, .null, .null])), (a1, .inl (k1, 16, .inl rf_z)), (a2, .inl (k2, 16, .inl rf_z)), (a3, .inl (k3, 16, .inl rf_z)), (a4, .inl (k4, 3, .inl rf_z)), (a5, .inl (k5, 3, .inl rf_z)), (a6, .inl (k6, 3, .inl rf_z)), (a7, .inl (k7, 12, .inl rf_z)), (a8, .inl (k8, 3, .inl rf_z)), (a9, .inl (k9, 3, .inl rf_z)), (a10, .inl (k10, 3, .inl rf_z)), (a11, .inl (k11, 3, .inl rf_z))] H := hP
  have hD : va_D A [(o, .inr (1, [.ref a1, .ref a2, .ref a3, .int 0, .int 0, .int 0, .ref a4, .ref a5, .ref a6, .ref a7, .ref a8, .ref a9, .ref a10, .ref a11, .null, .null, .null])), (a1, .inl (k1, 16, .inl rf_z)), (a2, .inl (k2, 16, .inl rf_z)), (a3, .inl (k3, 16, .inl rf_z)), (a4, .inl (k4, 3, .inl rf_z)), (a5, .inl (k5, 3, .inl rf_z)), (a6, .inl (k6, 3, .inl rf_z)), (a7, .inl (k7, 12, .inl rf_z)), (a8, .inl (k8, 3, .inl rf_z)), (a9, .inl (k9, 3, .inl rf_z)), (a10, .inl (k10, 3, .inl rf_z)), (a11, .inl (k11, 3, .inl rf_z))] := hD
  refine lv_aload_n hx hb dX1_init_85 rfl (lv_at hl 0 rfl) ?_
  refine lv_bipush (v := 72) hx hb dX1_init_86 (by decide) ?_
  refine va_newa (atype := .int) (ty := .int) (N' := 72) (a0 := (72, .inl rf_z)) hx hb (hts _ q98) rfl hK hP hD hS hA (fun _ => rfl) (by decide) (by decide) (by decide) (Nat.le_of_ble_eq_true rfl) (Nat.le_of_ble_eq_true rfl) dX1_init_88 (fun a12 k12 H hK hP hD hS => ?_)
  have hP : va_P D vwCl [(o, .inr (1, [.ref a1, .ref a2, .ref a3, .int 0, .int 0, .int 0, .ref a4, .ref a5, .ref a6, .ref a7, .ref a8, .ref a9, .ref a10, .ref a11, .null, .null, .null])), (a1, .inl (k1, 16, .inl rf_z)), (a2, .inl (k2, 16, .inl rf_z)), (a3, .inl (k3, 16, .inl rf_z)), (a4, .inl (k4, 3, .inl rf_z)), (a5, .inl (k5, 3, .inl rf_z)), (a6, .inl (k6, 3, .inl rf_z)), (a7, .inl (k7, 12, .inl rf_z)), (a8, .inl (k8, 3, .inl rf_z)), (a9, .inl (k9, 3, .inl rf_z)), (a10, .inl (k10, 3, .inl rf_z)), (a11, .inl (k11, 3, .inl rf_z)), (a12, .inl (k12, 72, .inl rf_z))] H := hP
  have hD : va_D A [(o, .inr (1, [.ref a1, .ref a2, .ref a3, .int 0, .int 0, .int 0, .ref a4, .ref a5, .ref a6, .ref a7, .ref a8, .ref a9, .ref a10, .ref a11, .null, .null, .null])), (a1, .inl (k1, 16, .inl rf_z)), (a2, .inl (k2, 16, .inl rf_z)), (a3, .inl (k3, 16, .inl rf_z)), (a4, .inl (k4, 3, .inl rf_z)), (a5, .inl (k5, 3, .inl rf_z)), (a6, .inl (k6, 3, .inl rf_z)), (a7, .inl (k7, 12, .inl rf_z)), (a8, .inl (k8, 3, .inl rf_z)), (a9, .inl (k9, 3, .inl rf_z)), (a10, .inl (k10, 3, .inl rf_z)), (a11, .inl (k11, 3, .inl rf_z)), (a12, .inl (k12, 72, .inl rf_z))] := hD
  have hK : va_K D vwCl [(k1, .int), (k2, .int), (k3, .int), (k4, .int), (k5, .int), (k6, .int), (k7, .int), (k8, .int), (k9, .int), (k10, .int), (k11, .int), (k12, .int)] s := hK
  refine W.widen (k := 12) (n := 153) (Nat.le_refl _) (Nat.le_refl _) ?_
  refine va_putF (D := D) (ci := 1) (v := .ref a12) (ty := .array .int) (C := RX1) (T := TX1) (N := 17) hx hb hts in_X1 tyX1 tyX1_ok nmX1 hown hK hP hD hS 0 rfl rfl 14 (by decide) (hts _ q223) (fun _ h9 => h9) rfl hnm rfl (by decide +kernel) rfl rfl (Nat.le_of_ble_eq_true rfl) dX1_init_90 (fun H locs hP hD hS => ?_)
  have hP : va_P D vwCl [(o, .inr (1, [.ref a1, .ref a2, .ref a3, .int 0, .int 0, .int 0, .ref a4, .ref a5, .ref a6, .ref a7, .ref a8, .ref a9, .ref a10, .ref a11, .ref a12, .null, .null])), (a1, .inl (k1, 16, .inl rf_z)), (a2, .inl (k2, 16, .inl rf_z)), (a3, .inl (k3, 16, .inl rf_z)), (a4, .inl (k4, 3, .inl rf_z)), (a5, .inl (k5, 3, .inl rf_z)), (a6, .inl (k6, 3, .inl rf_z)), (a7, .inl (k7, 12, .inl rf_z)), (a8, .inl (k8, 3, .inl rf_z)), (a9, .inl (k9, 3, .inl rf_z)), (a10, .inl (k10, 3, .inl rf_z)), (a11, .inl (k11, 3, .inl rf_z)), (a12, .inl (k12, 72, .inl rf_z))] H := hP
  have hD : va_D A [(o, .inr (1, [.ref a1, .ref a2, .ref a3, .int 0, .int 0, .int 0, .ref a4, .ref a5, .ref a6, .ref a7, .ref a8, .ref a9, .ref a10, .ref a11, .ref a12, .null, .null])), (a1, .inl (k1, 16, .inl rf_z)), (a2, .inl (k2, 16, .inl rf_z)), (a3, .inl (k3, 16, .inl rf_z)), (a4, .inl (k4, 3, .inl rf_z)), (a5, .inl (k5, 3, .inl rf_z)), (a6, .inl (k6, 3, .inl rf_z)), (a7, .inl (k7, 12, .inl rf_z)), (a8, .inl (k8, 3, .inl rf_z)), (a9, .inl (k9, 3, .inl rf_z)), (a10, .inl (k10, 3, .inl rf_z)), (a11, .inl (k11, 3, .inl rf_z)), (a12, .inl (k12, 72, .inl rf_z))] := hD
  refine lv_aload_n hx hb dX1_init_93 rfl (lv_at hl 0 rfl) ?_
  refine lv_bipush (v := 72) hx hb dX1_init_94 (by decide) ?_
  refine va_newa (atype := .int) (ty := .int) (N' := 72) (a0 := (72, .inl rf_z)) hx hb (hts _ q98) rfl hK hP hD hS hA (fun _ => rfl) (by decide) (by decide) (by decide) (Nat.le_of_ble_eq_true rfl) (Nat.le_of_ble_eq_true rfl) dX1_init_96 (fun a13 k13 H hK hP hD hS => ?_)
  have hP : va_P D vwCl [(o, .inr (1, [.ref a1, .ref a2, .ref a3, .int 0, .int 0, .int 0, .ref a4, .ref a5, .ref a6, .ref a7, .ref a8, .ref a9, .ref a10, .ref a11, .ref a12, .null, .null])), (a1, .inl (k1, 16, .inl rf_z)), (a2, .inl (k2, 16, .inl rf_z)), (a3, .inl (k3, 16, .inl rf_z)), (a4, .inl (k4, 3, .inl rf_z)), (a5, .inl (k5, 3, .inl rf_z)), (a6, .inl (k6, 3, .inl rf_z)), (a7, .inl (k7, 12, .inl rf_z)), (a8, .inl (k8, 3, .inl rf_z)), (a9, .inl (k9, 3, .inl rf_z)), (a10, .inl (k10, 3, .inl rf_z)), (a11, .inl (k11, 3, .inl rf_z)), (a12, .inl (k12, 72, .inl rf_z)), (a13, .inl (k13, 72, .inl rf_z))] H := hP
  have hD : va_D A [(o, .inr (1, [.ref a1, .ref a2, .ref a3, .int 0, .int 0, .int 0, .ref a4, .ref a5, .ref a6, .ref a7, .ref a8, .ref a9, .ref a10, .ref a11, .ref a12, .null, .null])), (a1, .inl (k1, 16, .inl rf_z)), (a2, .inl (k2, 16, .inl rf_z)), (a3, .inl (k3, 16, .inl rf_z)), (a4, .inl (k4, 3, .inl rf_z)), (a5, .inl (k5, 3, .inl rf_z)), (a6, .inl (k6, 3, .inl rf_z)), (a7, .inl (k7, 12, .inl rf_z)), (a8, .inl (k8, 3, .inl rf_z)), (a9, .inl (k9, 3, .inl rf_z)), (a10, .inl (k10, 3, .inl rf_z)), (a11, .inl (k11, 3, .inl rf_z)), (a12, .inl (k12, 72, .inl rf_z)), (a13, .inl (k13, 72, .inl rf_z))] := hD
  have hK : va_K D vwCl [(k1, .int), (k2, .int), (k3, .int), (k4, .int), (k5, .int), (k6, .int), (k7, .int), (k8, .int), (k9, .int), (k10, .int), (k11, .int), (k12, .int), (k13, .int)] s := hK
  refine W.widen (k := 13) (n := 225) (Nat.le_refl _) (Nat.le_refl _) ?_
  refine va_putF (D := D) (ci := 1) (v := .ref a13) (ty := .array .int) (C := RX1) (T := TX1) (N := 17) hx hb hts in_X1 tyX1 tyX1_ok nmX1 hown hK hP hD hS 0 rfl rfl 15 (by decide) (hts _ q224) (fun _ h9 => h9) rfl hnm rfl (by decide +kernel) rfl rfl (Nat.le_of_ble_eq_true rfl) dX1_init_98 (fun H locs hP hD hS => ?_)
  have hP : va_P D vwCl [(o, .inr (1, [.ref a1, .ref a2, .ref a3, .int 0, .int 0, .int 0, .ref a4, .ref a5, .ref a6, .ref a7, .ref a8, .ref a9, .ref a10, .ref a11, .ref a12, .ref a13, .null])), (a1, .inl (k1, 16, .inl rf_z)), (a2, .inl (k2, 16, .inl rf_z)), (a3, .inl (k3, 16, .inl rf_z)), (a4, .inl (k4, 3, .inl rf_z)), (a5, .inl (k5, 3, .inl rf_z)), (a6, .inl (k6, 3, .inl rf_z)), (a7, .inl (k7, 12, .inl rf_z)), (a8, .inl (k8, 3, .inl rf_z)), (a9, .inl (k9, 3, .inl rf_z)), (a10, .inl (k10, 3, .inl rf_z)), (a11, .inl (k11, 3, .inl rf_z)), (a12, .inl (k12, 72, .inl rf_z)), (a13, .inl (k13, 72, .inl rf_z))] H := hP
  have hD : va_D A [(o, .inr (1, [.ref a1, .ref a2, .ref a3, .int 0, .int 0, .int 0, .ref a4, .ref a5, .ref a6, .ref a7, .ref a8, .ref a9, .ref a10, .ref a11, .ref a12, .ref a13, .null])), (a1, .inl (k1, 16, .inl rf_z)), (a2, .inl (k2, 16, .inl rf_z)), (a3, .inl (k3, 16, .inl rf_z)), (a4, .inl (k4, 3, .inl rf_z)), (a5, .inl (k5, 3, .inl rf_z)), (a6, .inl (k6, 3, .inl rf_z)), (a7, .inl (k7, 12, .inl rf_z)), (a8, .inl (k8, 3, .inl rf_z)), (a9, .inl (k9, 3, .inl rf_z)), (a10, .inl (k10, 3, .inl rf_z)), (a11, .inl (k11, 3, .inl rf_z)), (a12, .inl (k12, 72, .inl rf_z)), (a13, .inl (k13, 72, .inl rf_z))] := hD
  refine lv_aload_n hx hb dX1_init_101 rfl (lv_at hl 0 rfl) ?_
  refine lv_bipush (v := 72) hx hb dX1_init_102 (by decide) ?_
  refine va_newa (atype := .boolean) (ty := .boolean) (N' := 72) (a0 := (72, .inl rf_z)) hx hb (hts _ q99) rfl hK hP hD hS hA (fun _ => rfl) (by decide) (by decide) (by decide) (Nat.le_of_ble_eq_true rfl) (Nat.le_of_ble_eq_true rfl) dX1_init_104 (fun a14 k14 H hK hP hD hS => ?_)
  have hP : va_P D vwCl [(o, .inr (1, [.ref a1, .ref a2, .ref a3, .int 0, .int 0, .int 0, .ref a4, .ref a5, .ref a6, .ref a7, .ref a8, .ref a9, .ref a10, .ref a11, .ref a12, .ref a13, .null])), (a1, .inl (k1, 16, .inl rf_z)), (a2, .inl (k2, 16, .inl rf_z)), (a3, .inl (k3, 16, .inl rf_z)), (a4, .inl (k4, 3, .inl rf_z)), (a5, .inl (k5, 3, .inl rf_z)), (a6, .inl (k6, 3, .inl rf_z)), (a7, .inl (k7, 12, .inl rf_z)), (a8, .inl (k8, 3, .inl rf_z)), (a9, .inl (k9, 3, .inl rf_z)), (a10, .inl (k10, 3, .inl rf_z)), (a11, .inl (k11, 3, .inl rf_z)), (a12, .inl (k12, 72, .inl rf_z)), (a13, .inl (k13, 72, .inl rf_z)), (a14, .inl (k14, 72, .inl rf_z))] H := hP
  have hD : va_D A [(o, .inr (1, [.ref a1, .ref a2, .ref a3, .int 0, .int 0, .int 0, .ref a4, .ref a5, .ref a6, .ref a7, .ref a8, .ref a9, .ref a10, .ref a11, .ref a12, .ref a13, .null])), (a1, .inl (k1, 16, .inl rf_z)), (a2, .inl (k2, 16, .inl rf_z)), (a3, .inl (k3, 16, .inl rf_z)), (a4, .inl (k4, 3, .inl rf_z)), (a5, .inl (k5, 3, .inl rf_z)), (a6, .inl (k6, 3, .inl rf_z)), (a7, .inl (k7, 12, .inl rf_z)), (a8, .inl (k8, 3, .inl rf_z)), (a9, .inl (k9, 3, .inl rf_z)), (a10, .inl (k10, 3, .inl rf_z)), (a11, .inl (k11, 3, .inl rf_z)), (a12, .inl (k12, 72, .inl rf_z)), (a13, .inl (k13, 72, .inl rf_z)), (a14, .inl (k14, 72, .inl rf_z))] := hD
  have hK : va_K D vwCl [(k1, .int), (k2, .int), (k3, .int), (k4, .int), (k5, .int), (k6, .int), (k7, .int), (k8, .int), (k9, .int), (k10, .int), (k11, .int), (k12, .int), (k13, .int), (k14, .boolean)] s := hK
  refine W.widen (k := 14) (n := 297) (Nat.le_refl _) (Nat.le_refl _) ?_
  refine va_putF (D := D) (ci := 1) (v := .ref a14) (ty := .array .boolean) (C := RX1) (T := TX1) (N := 17) hx hb hts in_X1 tyX1 tyX1_ok nmX1 hown hK hP hD hS 0 rfl rfl 16 (by decide) (hts _ q225) (fun _ h9 => h9) rfl hnm rfl (by decide +kernel) rfl rfl (Nat.le_of_ble_eq_true rfl) dX1_init_106 (fun H locs hP hD hS => ?_)
  have hP : va_P D vwCl [(o, .inr (1, [.ref a1, .ref a2, .ref a3, .int 0, .int 0, .int 0, .ref a4, .ref a5, .ref a6, .ref a7, .ref a8, .ref a9, .ref a10, .ref a11, .ref a12, .ref a13, .ref a14])), (a1, .inl (k1, 16, .inl rf_z)), (a2, .inl (k2, 16, .inl rf_z)), (a3, .inl (k3, 16, .inl rf_z)), (a4, .inl (k4, 3, .inl rf_z)), (a5, .inl (k5, 3, .inl rf_z)), (a6, .inl (k6, 3, .inl rf_z)), (a7, .inl (k7, 12, .inl rf_z)), (a8, .inl (k8, 3, .inl rf_z)), (a9, .inl (k9, 3, .inl rf_z)), (a10, .inl (k10, 3, .inl rf_z)), (a11, .inl (k11, 3, .inl rf_z)), (a12, .inl (k12, 72, .inl rf_z)), (a13, .inl (k13, 72, .inl rf_z)), (a14, .inl (k14, 72, .inl rf_z))] H := hP
  have hD : va_D A [(o, .inr (1, [.ref a1, .ref a2, .ref a3, .int 0, .int 0, .int 0, .ref a4, .ref a5, .ref a6, .ref a7, .ref a8, .ref a9, .ref a10, .ref a11, .ref a12, .ref a13, .ref a14])), (a1, .inl (k1, 16, .inl rf_z)), (a2, .inl (k2, 16, .inl rf_z)), (a3, .inl (k3, 16, .inl rf_z)), (a4, .inl (k4, 3, .inl rf_z)), (a5, .inl (k5, 3, .inl rf_z)), (a6, .inl (k6, 3, .inl rf_z)), (a7, .inl (k7, 12, .inl rf_z)), (a8, .inl (k8, 3, .inl rf_z)), (a9, .inl (k9, 3, .inl rf_z)), (a10, .inl (k10, 3, .inl rf_z)), (a11, .inl (k11, 3, .inl rf_z)), (a12, .inl (k12, 72, .inl rf_z)), (a13, .inl (k13, 72, .inl rf_z)), (a14, .inl (k14, 72, .inl rf_z))] := hD
  have hP9 : va_P D vwCl (rf_ow mS (fun j => ([o, a1, a2, a3, a4, a5, a6, a7, a8, a9, a10, a11, a12, a13, a14] : List Nat).getD j 0) (fun j => ([0, k1, k2, k3, k4, k5, k6, k7, k8, k9, k10, k11, k12, k13, k14] : List ClassId).getD j 0) rf_zz) H := hP
  have hD9 : va_D A (rf_ow mS (fun j => ([o, a1, a2, a3, a4, a5, a6, a7, a8, a9, a10, a11, a12, a13, a14] : List Nat).getD j 0) (fun j => ([0, k1, k2, k3, k4, k5, k6, k7, k8, k9, k10, k11, k12, k13, k14] : List ClassId).getD j 0) rf_zz) := hD
  have hK9 : va_K D vwCl (rf_ty mS (fun j => ([0, k1, k2, k3, k4, k5, k6, k7, k8, k9, k10, k11, k12, k13, k14] : List ClassId).getD j 0)) s := hK
  exact W.vret hx hb hr (fun t ht hW => ⟨⟨((fun j => ([o, a1, a2, a3, a4, a5, a6, a7, a8, a9, a10, a11, a12, a13, a14] : List Nat).getD j 0), (fun j => ([0, k1, k2, k3, k4, k5, k6, k7, k8, k9, k10, k11, k12, k13, k14] : List ClassId).getD j 0)), rfl, trivial, ⟨va_K.moved hW.alike hK9, by rw [ht]; exact hP9⟩, (rf_gD hD9).1, rfl, (rf_gD hD9).2⟩, hS.F ht⟩) hS.2.2 dX1_init_109 hlk
end
section
/-! the plain law: ReplayFlow's memory σ against the model's τ. Run k's working memory is the same: -/
def rv_V (k : Nat) (σ τ : rf_Mem) : Prop := (∀ i, i < 4 → σ 14 (k * 4 + i) = τ 7 (k * 4 + i)) ∧ σ 15 k = τ 5 k ∧ σ 18 k = τ 10 k ∧ σ 19 k = τ 6 k
/-- the same script, in range -/
def rv_S (σ τ : rf_Mem) : Prop := σ 0 0 = τ 0 0 ∧ rf_le (σ 0 0) 16 ∧ ∀ j, j < 16 → σ 1 j = τ 1 j ∧ σ 2 j &&& 3 = τ 2 j ∧ σ 3 j = τ 3 j ∧ rf_le (σ 1 j) 8
/-- the run stands inside the script, and has not done its 60 -/
def rv_In (k : Nat) (τ : rf_Mem) : Prop := ¬ τ 5 k < 0 ∧ τ 5 k < τ 0 0 ∧ τ 6 k < 60
/-- behind a step: it works on, or is ended -/
def rv_A (k : Nat) (σ τ : rf_Mem) : Prop := (rv_In k τ ∧ σ 16 k = 5) ∨ (¬ rv_In k τ ∧ σ 16 k = 4 ∧ σ 17 k = 0)
/-- the worker's memory of run k -/
def rv_m (k a i : Nat) : Prop := (a = 14 ∧ k * 4 ≤ i ∧ i < k * 4 + 4) ∨ ((a = 15 ∨ a = 16 ∨ a = 17 ∨ a = 18 ∨ a = 19) ∧ i = k)
def rv_K (k : Nat) (σ σ1 : rf_Mem) : Prop := ∀ a i, ¬ rv_m k a i → σ1 a i = σ a i
theorem rv_K.rf {k : Nat} {σ : rf_Mem} : rv_K k σ σ := fun _ _ _ => rfl
theorem rv_K.tr {k : Nat} {σ σ1 σ2 : rf_Mem} (h : rv_K k σ σ1) (h2 : rv_K k σ1 σ2) : rv_K k σ σ2 := fun a i hn => (h2 a i hn).trans (h a i hn)
theorem rv_K.wr {k : Nat} {σ σ1 : rf_Mem} (h : rv_K k σ σ1) {a i : Nat} {v : Int32} (hm : rv_m k a i) : rv_K k σ (rf_wr σ1 a i v) := by
  intro b j hn
  rw [rf_wr_at, if_neg, h b j hn]
  rintro ⟨rfl, rfl⟩
  exact hn hm
theorem rv_m_r {k x : Nat} (hx : x < 4) : rv_m k 14 (k * 4 + x) := Or.inl ⟨rfl, by omega, by omega⟩
theorem rv_m_s {k a : Nat} (h : a = 15 ∨ a = 16 ∨ a = 17 ∨ a = 18 ∨ a = 19) : rv_m k a k := Or.inr ⟨h, rfl⟩
theorem rv_n0 {k i : Nat} : ¬ rv_m k 0 i := by rintro (⟨h, -⟩ | ⟨h, -⟩) <;> omega
theorem rv_na {k a i : Nat} (h : a < 14) : ¬ rv_m k a i := by rintro (⟨h1, -⟩ | ⟨h1, -⟩) <;> omega
theorem rf_wr_self (σ : rf_Mem) (a i : Nat) : rf_wr σ a i (σ a i) = σ := by
  funext b j
  rw [rf_wr_at]
  split
  · rename_i h; rw [h.1, h.2]
  · rfl
theorem rf_wr_wr (σ : rf_Mem) (a i : Nat) (v w : Int32) : rf_wr (rf_wr σ a i v) a i w = rf_wr σ a i w := by
  funext b j
  simp only [rf_wr_at]
  split <;> rfl
theorem goTo_in {σ : rf_Mem} {k : Nat} {p : Int32} (h0 : ¬ p < 0) (h1 : p < σ 0 0) : xx_goTo σ k p = rf_wr σ 15 k p := by
  rw [xx_goTo, if_neg h0, if_pos h1]
theorem goTo_out {σ : rf_Mem} {k : Nat} {p : Int32} (h : ¬ (¬ p < 0 ∧ p < σ 0 0)) : xx_goTo σ k p = xx_finish (rf_wr σ 15 k p) k 0 := by
  by_cases h0 : p < 0
  · rw [xx_goTo, if_pos h0]
  · rw [xx_goTo, if_neg h0, if_neg (fun q => h ⟨h0, q⟩)]
theorem finish_K {σ σ1 : rf_Mem} {k : Nat} {v : Int32} (h : rv_K k σ σ1) : rv_K k σ (xx_finish σ1 k v) := (h.wr (rv_m_s (by decide))).wr (rv_m_s (by decide))
theorem goTo_K {σ σ1 : rf_Mem} {k : Nat} {p : Int32} (h : rv_K k σ σ1) : rv_K k σ (xx_goTo σ1 k p) := by
  unfold xx_goTo
  split
  · exact finish_K (h.wr (rv_m_s (by decide)))
  · split
    · exact h.wr (rv_m_s (by decide))
    · exact finish_K (h.wr (rv_m_s (by decide)))
theorem plainT_K {σ σ1 : rf_Mem} {k : Nat} {p : Int32} (h : rv_K k σ σ1) : rv_K k σ (xx_plainT σ1 k p) := by
  unfold xx_plainT xx_rowT
  have h1 := (goTo_K (p := p) h).wr (a := 19) (i := k) (v := xx_goTo σ1 k p 19 k + 1) (rv_m_s (by decide))
  split
  · exact h1
  · exact finish_K h1
theorem meetT_K {σ σ1 : rf_Mem} {k : Nat} {p : Int32} (h : rv_K k σ σ1) : rv_K k σ (xx_meetT σ1 k p) := goTo_K ((h.wr (rv_m_s (by decide))).wr (rv_m_s (by decide)))
/-- behind a plain instruction -/
theorem tail_ok {σ τ : rf_Mem} {k : Nat} {n : Int32} (hL : σ 0 0 = τ 0 0) (hr : ∀ i, i < 4 → σ 14 (k * 4 + i) = τ 7 (k * 4 + i)) (hn : τ 5 k = n) (hm : σ 18 k = τ 10 k) (hs : σ 19 k + 1 = τ 6 k) (h5 : σ 16 k = 5) : rv_V k (xx_plainT σ k n) τ ∧ rv_A k (xx_plainT σ k n) τ := by
  unfold xx_plainT xx_rowT
  by_cases hi : ¬ n < 0 ∧ n < σ 0 0
  · rw [goTo_in hi.1 hi.2]
    by_cases h6 : τ 6 k < 60
    · rw [if_pos (by simp only [rf_wr_at]; simpa [hs] using h6)]
      refine ⟨⟨fun i hi => by simpa [rf_wr_at] using hr i hi, by simp [rf_wr_at, hn], by simpa [rf_wr_at] using hm, by simp [rf_wr_at, hs]⟩, Or.inl ⟨⟨by rw [hn]; exact hi.1, by rw [hn, ← hL]; exact hi.2, h6⟩, by simp [rf_wr_at, h5]⟩⟩
    · rw [if_neg (by simp only [rf_wr_at]; simpa [hs] using h6)]
      refine ⟨⟨fun i hi => by simpa [xx_finish, rf_wr_at] using hr i hi, by simp [xx_finish, rf_wr_at, hn], by simpa [xx_finish, rf_wr_at] using hm, by simp [xx_finish, rf_wr_at, hs]⟩, Or.inr ⟨fun q => h6 q.2.2, by simp [xx_finish, rf_wr_at], by simp [xx_finish, rf_wr_at]⟩⟩
  · rw [goTo_out hi]
    have hni : ¬ rv_In k τ := fun q => hi ⟨by rw [← hn]; exact q.1, by rw [← hn, hL]; exact q.2.1⟩
    split
    · refine ⟨⟨fun i hi => by simpa [xx_finish, rf_wr_at] using hr i hi, by simp [xx_finish, rf_wr_at, hn], by simpa [xx_finish, rf_wr_at] using hm, by simp [xx_finish, rf_wr_at, hs]⟩, Or.inr ⟨hni, by simp [xx_finish, rf_wr_at], by simp [xx_finish, rf_wr_at]⟩⟩
    · refine ⟨⟨fun i hi => by simpa [xx_finish, rf_wr_at] using hr i hi, by simp [xx_finish, rf_wr_at, hn], by simpa [xx_finish, rf_wr_at] using hm, by simp [xx_finish, rf_wr_at, hs]⟩, Or.inr ⟨hni, by simp [xx_finish, rf_wr_at], by simp [xx_finish, rf_wr_at]⟩⟩
/-- behind a wait that is over -/
theorem meetT_ok {σ τ : rf_Mem} {k : Nat} {p : Int32} (hL : σ 0 0 = τ 0 0) (hr : ∀ i, i < 4 → σ 14 (k * 4 + i) = τ 7 (k * 4 + i)) (hn : τ 5 k = p + 1) (hm : σ 18 k + 1 = τ 10 k) (hs : τ 6 k = 0) (h5 : σ 16 k = 5) : rv_V k (xx_meetT σ k p) τ ∧ rv_A k (xx_meetT σ k p) τ := by
  unfold xx_meetT
  by_cases hi : ¬ p + 1 < 0 ∧ p + 1 < σ 0 0
  · rw [goTo_in (σ := rf_wr (rf_wr σ 18 k (σ 18 k + 1)) 19 k 0) hi.1 hi.2]
    refine ⟨⟨fun i hi => by simpa [rf_wr_at] using hr i hi, by simp [rf_wr_at, hn], by simpa [rf_wr_at] using hm, by simp [rf_wr_at, hs]⟩, Or.inl ⟨⟨by rw [hn]; exact hi.1, by rw [hn, ← hL]; exact hi.2, by rw [hs]; decide⟩, by simp [rf_wr_at, h5]⟩⟩
  · rw [goTo_out (σ := rf_wr (rf_wr σ 18 k (σ 18 k + 1)) 19 k 0) hi]
    have hni : ¬ rv_In k τ := fun q => hi ⟨by rw [← hn]; exact q.1, by rw [← hn, hL]; exact q.2.1⟩
    refine ⟨⟨fun i hi => by simpa [xx_finish, rf_wr_at] using hr i hi, by simp [xx_finish, rf_wr_at, hn], by simpa [xx_finish, rf_wr_at] using hm, by simp [xx_finish, rf_wr_at, hs]⟩, Or.inr ⟨hni, by simp [xx_finish, rf_wr_at], by simp [xx_finish, rf_wr_at]⟩⟩
/-- the instruction at the run's place, on both sides -/
theorem rv_at {σ τ : rf_Mem} {k : Nat} (hS : rv_S σ τ) (hV : rv_V k σ τ) (hi : rv_In k τ) : vp_in (σ 15 k) 16 ∧ mm_op τ k = xx_op σ k ∧ mm_se τ k = xx_se σ k ∧ mm_fa τ k = xx_fa σ k ∧ rf_le (xx_op σ k) 8 := by
  have hp : vp_in (σ 15 k) 16 := rf_in_of hS.2.1 (by rw [hV.2.1]; exact hi.1) (by rw [hV.2.1, hS.1]; exact hi.2.1)
  have hlt := (rf_in hp (by decide)).1
  obtain ⟨h1, h2, h3, h4⟩ := hS.2.2 _ hlt
  refine ⟨hp, ?_, ?_, ?_, h4⟩
  · show τ 1 (rf_ix (τ 5 k)) = σ 1 (rf_ix (σ 15 k))
    rw [← hV.2.1, h1]
  · show τ 3 (rf_ix (τ 5 k)) = σ 3 (rf_ix (σ 15 k))
    rw [← hV.2.1, h3]
  · show k * 4 + rf_ix (τ 2 (rf_ix (τ 5 k))) = k * 4 + rf_q (σ 2 (rf_ix (σ 15 k)))
    rw [← hV.2.1, ← h2]
    rfl
end
section
/-! one step of each side -/
theorem step_plain {σ τ : rf_Mem} {k : Nat} (hS : rv_S σ τ) (hV : rv_V k σ τ) (hi : rv_In k τ) (h5 : σ 16 k = 5) (ho : mm_op τ k < 5) : rv_V k (xx_step σ k) (mm_plainS τ k) ∧ rv_A k (xx_step σ k) (mm_plainS τ k) ∧ rv_K k σ (xx_step σ k) ∧ ∃ (x : Nat) (v nxt : Int32), x < 4 ∧ mm_plainS τ k = rf_wr (rf_wr (rf_wr τ 6 k (τ 6 k + 1)) 5 k nxt) 7 (k * 4 + x) v := by
  obtain ⟨hp, e1, e2, e3, j, hj, ej⟩ := rv_at hS hV hi
  have hj5 : j < 5 := by
    rw [e1, ej] at ho
    exact (nI_ltI (b := 5) (by omega) (by decide)).mp ho
  have hst : xx_step σ k = xx_plain σ k (xx_op σ k) := by
    rw [xx_step, if_neg]
    rw [ej]
    exact nI_nlt (a := 4) (by omega) (by omega)
  have hx : rf_q (σ 2 (rf_ix (σ 15 k))) < 4 := (rf_q_of _).1
  have hr1 : σ 14 (xx_fa σ k) = τ 7 (xx_fa σ k) := hV.1 _ hx
  have hr2 : σ 14 (k * 4 + rf_q (xx_se σ k)) = τ 7 (k * 4 + rf_q (xx_se σ k)) := hV.1 _ (rf_q_of _).1
  have hm : mm_plainS τ k = mm_plain1 (rf_wr (rf_wr τ 6 k (τ 6 k + 1)) 5 k (τ 5 k + 1)) k (mm_op τ k) (mm_se τ k) (τ 7 (k * 4 + rf_q (mm_se τ k))) (mm_fa τ k) := rfl
  rw [e1, e2, e3, ← hV.2.1] at hm
  have key : ∃ (x : Nat) (v nxt : Int32), x < 4 ∧ xx_plain σ k (xx_op σ k) = xx_plainT (rf_wr σ 14 (k * 4 + x) v) k nxt ∧ mm_plainS τ k = rf_wr (rf_wr (rf_wr τ 6 k (τ 6 k + 1)) 5 k nxt) 7 (k * 4 + x) v := by
    rcases (show j = 0 ∨ j = 1 ∨ j = 2 ∨ j = 3 ∨ j = 4 by omega) with rfl | rfl | rfl | rfl | rfl
    · have ho : xx_op σ k = 0 := ej
      refine ⟨_, xx_se σ k, σ 15 k + 1, hx, ?_, ?_⟩
      · rw [xx_plain, if_pos ho]; rfl
      · rw [hm, ho]; rfl
    · have ho : xx_op σ k = 1 := ej
      refine ⟨_, τ 7 (xx_fa σ k) + τ 7 (k * 4 + rf_q (xx_se σ k)), σ 15 k + 1, hx, ?_, ?_⟩
      · rw [xx_plain, if_neg (by rw [ho]; decide), if_pos ho, hr1, hr2]; rfl
      · rw [hm, ho]; rfl
    · have ho : xx_op σ k = 2 := ej
      refine ⟨_, τ 7 (xx_fa σ k) - τ 7 (k * 4 + rf_q (xx_se σ k)), σ 15 k + 1, hx, ?_, ?_⟩
      · rw [xx_plain, if_neg (by rw [ho]; decide), if_neg (by rw [ho]; decide), if_pos ho, hr1, hr2]; rfl
      · rw [hm, ho]; rfl
    · have ho : xx_op σ k = 3 := ej
      refine ⟨_, τ 7 (xx_fa σ k), xx_se σ k, hx, ?_, ?_⟩
      · rw [xx_plain, if_neg (by rw [ho]; decide), if_neg (by rw [ho]; decide), if_neg (by rw [ho]; decide), if_pos ho, ← hr1]
        exact (congrArg (fun z => xx_plainT z k (xx_se σ k)) (rf_wr_self σ 14 (xx_fa σ k))).symm
      · rw [hm, ho]
        show rf_wr (rf_wr (rf_wr τ 6 k (τ 6 k + 1)) 5 k (σ 15 k + 1)) 5 k (xx_se σ k) = _
        rw [rf_wr_wr]
        exact (rf_wr_self _ 7 (xx_fa σ k)).symm
    · have ho : xx_op σ k = 4 := ej
      by_cases h0 : σ 14 (xx_fa σ k) ≤ 0
      · refine ⟨_, τ 7 (xx_fa σ k), σ 15 k + 1, hx, ?_, ?_⟩
        · rw [xx_plain, if_neg (by rw [ho]; decide), if_neg (by rw [ho]; decide), if_neg (by rw [ho]; decide), if_neg (by rw [ho]; decide), if_pos h0, ← hr1]
          exact (congrArg (fun z => xx_plainT z k (σ 15 k + 1)) (rf_wr_self σ 14 (xx_fa σ k))).symm
        · rw [hm, ho]
          show (if τ 7 (xx_fa σ k) ≤ 0 then rf_wr (rf_wr τ 6 k (τ 6 k + 1)) 5 k (σ 15 k + 1) else _) = _
          rw [if_pos (by rw [← hr1]; exact h0)]
          exact (rf_wr_self _ 7 (xx_fa σ k)).symm
      · refine ⟨_, τ 7 (xx_fa σ k), xx_se σ k, hx, ?_, ?_⟩
        · rw [xx_plain, if_neg (by rw [ho]; decide), if_neg (by rw [ho]; decide), if_neg (by rw [ho]; decide), if_neg (by rw [ho]; decide), if_neg h0, ← hr1]
          exact (congrArg (fun z => xx_plainT z k (xx_se σ k)) (rf_wr_self σ 14 (xx_fa σ k))).symm
        · rw [hm, ho]
          show (if τ 7 (xx_fa σ k) ≤ 0 then _ else rf_wr (rf_wr (rf_wr τ 6 k (τ 6 k + 1)) 5 k (σ 15 k + 1)) 5 k (xx_se σ k)) = _
          rw [if_neg (by rw [← hr1]; exact h0), rf_wr_wr]
          exact (rf_wr_self _ 7 (xx_fa σ k)).symm
  obtain ⟨x, v, nxt, hx4, k1, k2⟩ := key
  refine (fun (q : rv_V k (xx_step σ k) (mm_plainS τ k) ∧ rv_A k (xx_step σ k) (mm_plainS τ k) ∧ rv_K k σ (xx_step σ k)) => ⟨q.1, q.2.1, q.2.2, x, v, nxt, hx4, k2⟩) ?_
  rw [hst, k1, k2]
  have ht := tail_ok (σ := rf_wr σ 14 (k * 4 + x) v) (τ := rf_wr (rf_wr (rf_wr τ 6 k (τ 6 k + 1)) 5 k nxt) 7 (k * 4 + x) v) (k := k) (n := nxt) hS.1
    (fun i hi4 => by
      have := hV.1 i hi4
      simp only [rf_wr_at]
      by_cases hix : i = x
      · subst hix; simp
      · simp [hix, this])
    (by simp [rf_wr_at]) hV.2.2.1 (by simp [rf_wr_at, hV.2.2.2]) h5
  exact ⟨ht.1, ht.2, plainT_K (rv_K.rf.wr (rv_m_r hx4))⟩
theorem step_meet {σ τ : rf_Mem} {k : Nat} {o z v : Int32} (hS : rv_S σ τ) (hV : rv_V k σ τ) (hi : rv_In k τ) (h5 : σ 16 k = 5) (hz : (o = 6 ∧ z = 0) ∨ (¬ o = 6 ∧ ¬ z = 0 ∧ v = σ 7 (k * 40 + rf_ix (σ 18 k)))) : rv_V k (xx_meet σ k o) (mm_pastWait τ k z v) ∧ rv_A k (xx_meet σ k o) (mm_pastWait τ k z v) ∧ rv_K k σ (xx_meet σ k o) := by
  obtain ⟨hp, e1, e2, e3, -⟩ := rv_at hS hV hi
  rcases hz with ⟨ho, hz⟩ | ⟨ho, hz, hv⟩
  · rw [xx_meet, if_pos ho, mm_pastWait, if_pos hz]
    have ht := meetT_ok (σ := σ) (τ := mm_pastT τ k) (k := k) (p := σ 15 k) hS.1 (fun i hi4 => hV.1 i hi4) (by simp [mm_pastT, rf_wr_at, hV.2.1]) (by simp [mm_pastT, rf_wr_at, hV.2.2.1]) (by simp [mm_pastT, rf_wr_at]) h5
    exact ⟨ht.1, ht.2, meetT_K rv_K.rf⟩
  · rw [xx_meet, if_neg ho, mm_pastWait, if_neg hz, e3, ← hv]
    have hx : rf_q (σ 2 (rf_ix (σ 15 k))) < 4 := (rf_q_of _).1
    have ht := meetT_ok (σ := rf_wr σ 14 (xx_fa σ k) v) (τ := mm_pastT (rf_wr τ 7 (xx_fa σ k) v) k) (k := k) (p := σ 15 k) hS.1
      (fun i hi4 => by
        have := hV.1 i hi4
        simp only [mm_pastT, rf_wr_at]
        by_cases hix : k * 4 + i = xx_fa σ k
        · simp [hix]
        · simp [hix, this])
      (by simp [mm_pastT, rf_wr_at, hV.2.1]) (by simp [mm_pastT, rf_wr_at, hV.2.2.1]) (by simp [mm_pastT, rf_wr_at]) h5
    exact ⟨ht.1, ht.2, meetT_K (rv_K.rf.wr (rv_m_r hx))⟩
/-! loops -/
theorem loop_stop {σ : rf_Mem} {k : Nat} (n : Nat) (h : ¬ σ 16 k = 5) : xx_loop n σ k = σ := by
  cases n with
  | zero => rfl
  | succ n => rw [xx_loop, if_neg h]
theorem loop_go {σ : rf_Mem} {k : Nat} (n : Nat) (h : σ 16 k = 5) : xx_loop (n + 1) σ k = xx_loop n (xx_step σ k) k := by
  rw [xx_loop, if_pos h]
theorem loop_add (n m : Nat) (σ : rf_Mem) (k : Nat) : xx_loop (n + m) σ k = xx_loop m (xx_loop n σ k) k := by
  induction n generalizing σ with
  | zero => rw [Nat.zero_add]; rfl
  | succ n ih =>
    by_cases h : σ 16 k = 5
    · rw [show n + 1 + m = (n + m) + 1 by omega, loop_go _ h, loop_go _ h, ih]
    · rw [loop_stop _ h, loop_stop _ h, loop_stop _ h]
theorem loop_succ {n : Nat} {σ : rf_Mem} {k : Nat} (h : xx_loop n σ k 16 k = 5) : xx_loop (n + 1) σ k = xx_step (xx_loop n σ k) k := by
  rw [loop_add, loop_go _ h]
  rfl
theorem mloop_0 (n : Nat) (τ : rf_Mem) (k : Nat) : mm_loop n τ k 0 = τ := by
  cases n with
  | zero => rfl
  | succ n => rw [mm_loop, if_pos rfl]
theorem mloop_1 (n : Nat) (τ : rf_Mem) (k : Nat) : mm_loop (n + 1) τ k 1 = mm_loop n (mm_turn τ k) k (mr_turn τ k) := by
  rw [mm_loop, if_neg (by decide)]
/-! the model's turn -/
theorem rf_lt60 {x : Int32} {w : Nat} (hw : w ≤ 60) (e : x = nI w) (h : ¬ x < 60) : x = 60 := by
  rw [e] at h ⊢
  have : ¬ w < 60 := fun q => h (nI_lt (b := 60) q (by decide))
  obtain rfl : w = 60 := by omega
  rfl
theorem turn_out {τ : rf_Mem} {k w : Nat} (hi : ¬ rv_In k τ) (hw : w ≤ 60) (e : τ 6 k = nI w) : mm_turn τ k = mm_end τ k 0 ∧ mr_turn τ k = 0 := by
  by_cases h0 : τ 5 k < 0
  · exact ⟨by rw [mm_turn, if_pos h0], by rw [mr_turn, if_pos h0]⟩
  · by_cases h1 : τ 0 0 ≤ τ 5 k
    · exact ⟨by rw [mm_turn, if_neg h0, if_pos h1], by rw [mr_turn, if_neg h0, if_pos h1]⟩
    · have h2 : τ 6 k = 60 := rf_lt60 hw e (fun q => hi ⟨h0, Int32.not_le.mp h1, q⟩)
      exact ⟨by rw [mm_turn, if_neg h0, if_neg h1, if_pos h2], by rw [mr_turn, if_neg h0, if_neg h1, if_pos h2]⟩
theorem rf_ne60 {x : Int32} (h : x < 60) : ¬ x = 60 := fun q => by rw [q] at h; exact absurd h (by decide)
theorem turn_plain {τ : rf_Mem} {k : Nat} (hi : rv_In k τ) (ho : mm_op τ k < 5) : mm_turn τ k = mm_plainS τ k ∧ mr_turn τ k = 1 := by
  have h1 : ¬ τ 0 0 ≤ τ 5 k := fun q => absurd hi.2.1 (Int32.not_lt.mpr q)
  have hw : mr_isWait τ (τ 5 k) = 0 := by rw [mr_isWait, if_pos (show τ 1 (rf_ix (τ 5 k)) < 5 from ho)]
  exact ⟨by rw [mm_turn, if_neg hi.1, if_neg h1, if_neg (rf_ne60 hi.2.2), if_pos hw, if_pos ho], by rw [mr_turn, if_neg hi.1, if_neg h1, if_neg (rf_ne60 hi.2.2), if_pos hw, if_pos ho]⟩
theorem turn_8 {τ : rf_Mem} {k : Nat} (hi : rv_In k τ) (ho : mm_op τ k = 8) : mm_turn τ k = mm_end τ k (τ 7 (mm_fa τ k)) ∧ mr_turn τ k = 0 := by
  have h1 : ¬ τ 0 0 ≤ τ 5 k := fun q => absurd hi.2.1 (Int32.not_lt.mpr q)
  have ho1 : τ 1 (rf_ix (τ 5 k)) = 8 := ho
  have hw : mr_isWait τ (τ 5 k) = 0 := by rw [mr_isWait, ho1]; rfl
  have h5 : ¬ mm_op τ k < 5 := by rw [ho]; decide
  exact ⟨by rw [mm_turn, if_neg hi.1, if_neg h1, if_neg (rf_ne60 hi.2.2), if_pos hw, if_neg h5, mm_waits, if_pos ho], by rw [mr_turn, if_neg hi.1, if_neg h1, if_neg (rf_ne60 hi.2.2), if_pos hw, if_neg h5, mr_waits, if_neg (by rw [ho]; decide)]⟩
theorem turn_wait {τ : rf_Mem} {k : Nat} (hi : rv_In k τ) (ho : mm_op τ k = 5 ∨ mm_op τ k = 6 ∨ mm_op τ k = 7) : (τ 10 k = 40 → mm_turn τ k = mm_end τ k 0 ∧ mr_turn τ k = 0) ∧ (¬ τ 10 k = 40 → mm_turn τ k = mm_waits τ k ∧ mr_turn τ k = mr_waits τ k) := by
  have h1 : ¬ τ 0 0 ≤ τ 5 k := fun q => absurd hi.2.1 (Int32.not_lt.mpr q)
  have hw : ¬ mr_isWait τ (τ 5 k) = 0 := by
    have e : mr_isWait τ (τ 5 k) = if mm_op τ k < 5 then 0 else if 7 < mm_op τ k then 0 else 1 := rfl
    rw [e]
    rcases ho with h | h | h <;> rw [h] <;> decide
  have h5 : ¬ mm_op τ k < 5 := by rcases ho with h | h | h <;> rw [h] <;> decide
  refine ⟨fun h => ?_, fun h => ?_⟩
  · exact ⟨by rw [mm_turn, if_neg hi.1, if_neg h1, if_neg (rf_ne60 hi.2.2), if_neg hw, if_pos h], by rw [mr_turn, if_neg hi.1, if_neg h1, if_neg (rf_ne60 hi.2.2), if_neg hw, if_pos h]⟩
  · exact ⟨by rw [mm_turn, if_neg hi.1, if_neg h1, if_neg (rf_ne60 hi.2.2), if_neg hw, if_neg h, if_neg h5], by rw [mr_turn, if_neg hi.1, if_neg h1, if_neg (rf_ne60 hi.2.2), if_neg hw, if_neg h, if_neg h5]⟩
end
section
/-! histories: σ' has the same script and argument as σ, and its first E events -/
def rv_Hi (k E : Nat) (σ1 σ : rf_Mem) : Prop := σ1 0 0 = σ 0 0 ∧ σ1 1 = σ 1 ∧ σ1 2 = σ 2 ∧ σ1 3 = σ 3 ∧ σ1 5 k = σ 5 k ∧ (∀ i, i < E → σ1 7 (k * 40 + i) = σ 7 (k * 40 + i)) ∧ ∃ e : Nat, E ≤ e ∧ e ≤ 40 ∧ σ1 6 k = nI e
def xx_first (σ : rf_Mem) (k : Nat) : rf_Mem := xx_goTo (rf_wr (xx_blank σ k) 16 k 5) k 0
theorem begin_eq (σ : rf_Mem) (k : Nat) : xx_begin σ k = xx_loop 2600 (xx_first σ k) k := by
  unfold xx_begin xx_carryOn xx_first
  rw [show xx_blank σ k 15 k = 0 by simp [xx_blank, rf_wr_at]]
/-- whoever has that history comes, n steps behind its begin, to a memory with P, and loses nothing that is kept -/
def rv_R (k E n : Nat) (P : rf_Mem → Prop) (σ : rf_Mem) : Prop := ∀ σ1, rv_Hi k E σ1 σ → P (xx_loop n (xx_first σ1 k) k) ∧ rv_K k (rf_wr σ1 13 k 1) (xx_loop n (xx_first σ1 k) k)
theorem rv_R.mono {k E n : Nat} {P P' : rf_Mem → Prop} {σ σ2 : rf_Mem} (h : rv_R k E n P σ) (hP : ∀ s, P s → P' s) (hH : ∀ σ1, rv_Hi k E σ1 σ2 → rv_Hi k E σ1 σ) : rv_R k E n P' σ2 := fun σ1 h1 => ⟨hP _ (h σ1 (hH σ1 h1)).1, (h σ1 (hH σ1 h1)).2⟩
theorem kept_at {k a i : Nat} {σ1 s : rf_Mem} (hK : rv_K k (rf_wr σ1 13 k 1) s) (h : a < 13) : s a i = σ1 a i := by
  rw [hK a i (rv_na (by omega)), rf_wr_at, if_neg]
  rintro ⟨q, -⟩
  omega
theorem rv_S_of {k E : Nat} {σ σ1 s τ : rf_Mem} (hH : rv_Hi k E σ1 σ) (hK : rv_K k (rf_wr σ1 13 k 1) s) (hS : rv_S σ τ) : rv_S s τ := by
  refine ⟨by rw [kept_at hK (by decide), hH.1]; exact hS.1, by rw [kept_at hK (by decide), hH.1]; exact hS.2.1, fun j hj => ?_⟩
  rw [kept_at hK (by decide), kept_at hK (by decide), kept_at hK (by decide), hH.2.1, hH.2.2.1, hH.2.2.2.1]
  exact hS.2.2 j hj
/-! waits -/
theorem step_wait {σ : rf_Mem} {k : Nat} (ho : xx_op σ k = 5 ∨ xx_op σ k = 6 ∨ xx_op σ k = 7) : xx_step σ k = xx_await σ k (xx_op σ k) := by
  rw [xx_step, if_pos (by rcases ho with h | h | h <;> rw [h] <;> decide), if_neg (by rcases ho with h | h | h <;> rw [h] <;> decide)]
theorem await_meet {σ : rf_Mem} {k m e : Nat} {o : Int32} (hm : σ 18 k = nI m) (he : σ 6 k = nI e) (h : m < e) (h40 : e ≤ 40) : xx_await σ k o = xx_meet σ k o := by
  have h1 : σ 18 k < 40 := by rw [hm]; exact nI_lt (b := 40) (by omega) (by decide)
  have h2 : ¬ σ 18 k = σ 6 k := by rw [hm, he, nI_eq (by omega) (by omega)]; omega
  have h3 : ¬ σ 6 k ≤ σ 18 k := by rw [hm, he]; exact nI_ge h (by omega)
  rw [xx_await, if_pos h1, if_neg h2, xx_awaitT, if_neg h3]
theorem awaitT_meet {σ : rf_Mem} {k m e : Nat} {o : Int32} (hm : σ 18 k = nI m) (he : σ 6 k = nI e) (h : m < e) (h40 : e ≤ 40) : xx_awaitT σ k o = xx_meet σ k o := by
  have h3 : ¬ σ 6 k ≤ σ 18 k := by rw [hm, he]; exact nI_ge h (by omega)
  rw [xx_awaitT, if_neg h3]
theorem front {σ : rf_Mem} {k E : Nat} (hm : σ 18 k = nI E) (he : σ 6 k = nI E) (h : E < 40) : xx_await σ k 5 = rf_wr σ 16 k 1 ∧ xx_await σ k 6 = xx_fallAsleep σ k ∧ xx_await σ k 7 = xx_awaitT (xx_takeSignal σ k (xx_se σ k &&& 1)) k 7 ∧ xx_awaitT σ k 7 = rf_wr σ 16 k 3 := by
  have h1 : σ 18 k < 40 := by rw [hm]; exact nI_lt (b := 40) (by omega) (by decide)
  have h2 : σ 18 k = σ 6 k := by rw [hm, he]
  have h3 : σ 6 k ≤ σ 18 k := by rw [hm, he]; exact nI_le (Nat.le_refl _) (by omega)
  refine ⟨?_, ?_, ?_, ?_⟩
  · rw [xx_await, if_pos h1, if_pos h2, if_neg (by decide), xx_awaitT, if_pos h3, if_pos rfl]
  · rw [xx_await, if_pos h1, if_pos h2, if_neg (by decide), xx_awaitT, if_pos h3, if_neg (by decide), if_pos rfl]
  · rw [xx_await, if_pos h1, if_pos h2, if_pos rfl]
  · rw [xx_awaitT, if_pos h3, if_neg (by decide), if_neg (by decide)]
/-- the history with one more event, and one more step -/
theorem rep_app {k E n : Nat} {σ σ3 τ τ1 : rf_Mem} {z v : Int32} (hS : rv_S σ τ) (hi : rv_In k τ) (hM : τ 10 k = nI E) (hE : E < 40) (ho : mm_op τ k = 5 ∨ mm_op τ k = 6 ∨ mm_op τ k = 7) (hz : (mm_op τ k = 6 ∧ z = 0) ∨ (¬ mm_op τ k = 6 ∧ ¬ z = 0 ∧ σ3 7 (k * 40 + E) = v)) (hτ : ∀ a, a ≠ 4 → a ≠ 14 → τ1 a = τ a)
    (h3 : ∀ σ1, rv_Hi k (E + 1) σ1 σ3 → rv_Hi k E σ1 σ) (hR : rv_R k E n (fun s => rv_V k s τ ∧ s 16 k = 5) σ) : rv_R k (E + 1) (n + 1) (fun s => rv_V k s (mm_pastWait τ1 k z v) ∧ rv_A k s (mm_pastWait τ1 k z v)) σ3 := by
  intro σ1 hH
  have hH0 := h3 σ1 hH
  obtain ⟨⟨hV, h5⟩, hK⟩ := hR σ1 hH0
  have hl := loop_succ h5
  rw [hl]
  generalize xx_loop n (xx_first σ1 k) k = s at hV h5 hK
  have hSs := rv_S_of hH0 hK hS
  have hV1 : rv_V k s τ1 := by
    unfold rv_V
    rw [hτ 7 (by decide) (by decide), hτ 5 (by decide) (by decide), hτ 10 (by decide) (by decide), hτ 6 (by decide) (by decide)]
    exact hV
  have hS1 : rv_S s τ1 := by
    unfold rv_S
    rw [hτ 0 (by decide) (by decide), hτ 1 (by decide) (by decide), hτ 2 (by decide) (by decide), hτ 3 (by decide) (by decide)]
    exact hSs
  have hi1 : rv_In k τ1 := by
    unfold rv_In
    rw [hτ 0 (by decide) (by decide), hτ 5 (by decide) (by decide), hτ 6 (by decide) (by decide)]
    exact hi
  obtain ⟨e, h1, h2, h6⟩ := hH.2.2.2.2.2.2
  have h6s : s 6 k = nI e := by rw [kept_at hK (by decide)]; exact h6
  have hms : s 18 k = nI E := by rw [hV.2.2.1]; exact hM
  have hop : xx_op s k = mm_op τ k := (rv_at hSs hV hi).2.1.symm
  rw [step_wait (by rw [hop]; exact ho), hop, await_meet hms h6s (by omega) h2]
  have hm := step_meet (σ := s) (τ := τ1) (k := k) (o := mm_op τ k) (z := z) (v := v) hS1 hV1 hi1 h5 (by
    rcases hz with q | ⟨a, b, q⟩
    · exact Or.inl q
    · refine Or.inr ⟨a, b, ?_⟩
      rw [hms, show rf_ix (nI E) = E from nI_clamp (by omega), kept_at hK (by decide), hH.2.2.2.2.2.1 E (by omega), q])
  exact ⟨⟨hm.1, hm.2.1⟩, hK.tr hm.2.2⟩
/-! what a run of either side may change while it is carried on -/
def rv_c (k a i : Nat) : Prop := (a = 14 ∧ k * 4 ≤ i ∧ i < k * 4 + 4) ∨ (a = 7 ∧ k * 40 ≤ i ∧ i < k * 40 + 40) ∨ (a = 11 ∧ k * 24 ≤ i ∧ i < k * 24 + 24) ∨ ((a = 6 ∨ a = 12 ∨ a = 15 ∨ a = 16 ∨ a = 17 ∨ a = 18 ∨ a = 19) ∧ i = k)
def rv_F (k : Nat) (σ σ1 : rf_Mem) : Prop := ∀ a i, ¬ rv_c k a i → σ1 a i = σ a i
def rv_d (k a i : Nat) : Prop := (a = 7 ∧ k * 4 ≤ i ∧ i < k * 4 + 4) ∨ (a = 14 ∧ k * 24 ≤ i ∧ i < k * 24 + 24) ∨ ((a = 4 ∨ a = 5 ∨ a = 6 ∨ a = 8 ∨ a = 9 ∨ a = 10) ∧ i = k)
def rv_G (k : Nat) (τ τ1 : rf_Mem) : Prop := ∀ a i, ¬ rv_d k a i → τ1 a i = τ a i
theorem rv_F.rf {k : Nat} {σ : rf_Mem} : rv_F k σ σ := fun _ _ _ => rfl
theorem rv_F.tr {k : Nat} {σ σ1 σ2 : rf_Mem} (h : rv_F k σ σ1) (h2 : rv_F k σ1 σ2) : rv_F k σ σ2 := fun a i hn => (h2 a i hn).trans (h a i hn)
theorem rv_F.wr {k : Nat} {σ σ1 : rf_Mem} (h : rv_F k σ σ1) {a i : Nat} {v : Int32} (hm : rv_c k a i) : rv_F k σ (rf_wr σ1 a i v) := by
  intro b j hn
  rw [rf_wr_at, if_neg, h b j hn]
  rintro ⟨rfl, rfl⟩
  exact hn hm
theorem rv_K.F {k : Nat} {σ σ1 : rf_Mem} (h : rv_K k σ σ1) : rv_F k σ σ1 := by
  intro a i hn
  refine h a i (fun q => hn ?_)
  rcases q with q | ⟨q, r⟩
  · exact Or.inl q
  · exact Or.inr (Or.inr (Or.inr ⟨by omega, r⟩))
theorem rv_G.rf {k : Nat} {τ : rf_Mem} : rv_G k τ τ := fun _ _ _ => rfl
theorem rv_G.tr {k : Nat} {σ σ1 σ2 : rf_Mem} (h : rv_G k σ σ1) (h2 : rv_G k σ1 σ2) : rv_G k σ σ2 := fun a i hn => (h2 a i hn).trans (h a i hn)
theorem rv_G.wr {k : Nat} {σ σ1 : rf_Mem} (h : rv_G k σ σ1) {a i : Nat} {v : Int32} (hm : rv_d k a i) : rv_G k σ (rf_wr σ1 a i v) := by
  intro b j hn
  rw [rf_wr_at, if_neg, h b j hn]
  rintro ⟨rfl, rfl⟩
  exact hn hm
theorem rv_c_s {k a : Nat} (h : a = 6 ∨ a = 12 ∨ a = 15 ∨ a = 16 ∨ a = 17 ∨ a = 18 ∨ a = 19) : rv_c k a k := Or.inr (Or.inr (Or.inr ⟨h, rfl⟩))
theorem rv_d_s {k a : Nat} (h : a = 4 ∨ a = 5 ∨ a = 6 ∨ a = 8 ∨ a = 9 ∨ a = 10) : rv_d k a k := Or.inr (Or.inr ⟨h, rfl⟩)
theorem rv_d_r {k x : Nat} (hx : x < 4) : rv_d k 7 (k * 4 + x) := Or.inl ⟨rfl, by omega, by omega⟩
theorem rv_nc {k a i : Nat} (h : a ≠ 6 ∧ a ≠ 7 ∧ a ≠ 11 ∧ a ≠ 12 ∧ a < 14) : ¬ rv_c k a i := by rintro (⟨h1, -⟩ | ⟨h1, -⟩ | ⟨h1, -⟩ | ⟨h1, -⟩) <;> omega
theorem rv_nd {k a i : Nat} (h : a < 4 ∨ a = 11 ∨ a = 12 ∨ a = 13) : ¬ rv_d k a i := by rintro (⟨h1, -⟩ | ⟨h1, -⟩ | ⟨h1, -⟩) <;> omega
theorem rv_F.eq {k : Nat} {σ σ1 : rf_Mem} (h : rv_F k σ σ1) (a : Nat) (ha : a ≠ 6 ∧ a ≠ 7 ∧ a ≠ 11 ∧ a ≠ 12 ∧ a < 14) : σ1 a = σ a := funext fun i => h a i (rv_nc ha)
theorem rv_G.eq {k : Nat} {σ σ1 : rf_Mem} (h : rv_G k σ σ1) (a : Nat) (ha : a < 4 ∨ a = 11 ∨ a = 12 ∨ a = 13) : σ1 a = σ a := funext fun i => h a i (rv_nd ha)
theorem rv_S.fr {k : Nat} {σ σ1 τ τ1 : rf_Mem} (hS : rv_S σ τ) (hF : rv_F k σ σ1) (hG : rv_G k τ τ1) : rv_S σ1 τ1 := by
  unfold rv_S
  rw [hF.eq 0 (by decide), hF.eq 1 (by decide), hF.eq 2 (by decide), hF.eq 3 (by decide), hG.eq 0 (by decide), hG.eq 1 (by decide), hG.eq 2 (by decide), hG.eq 3 (by decide)]
  exact hS
theorem past_at {τ : rf_Mem} {k x : Nat} {z v : Int32} (hx : x < 4) (hf : mm_fa τ k = k * 4 + x) : rv_G k τ (mm_pastWait τ k z v) ∧ mm_pastWait τ k z v 10 k = τ 10 k + 1 ∧ mm_pastWait τ k z v 6 k = 0 ∧ mm_pastWait τ k z v 4 = τ 4 ∧ mm_pastWait τ k z v 14 = τ 14 := by
  unfold mm_pastWait
  split
  · exact ⟨((rv_G.rf.wr (rv_d_s (by decide))).wr (rv_d_s (by decide))).wr (rv_d_s (by decide)), by simp [mm_pastT, rf_wr_at], by simp [mm_pastT, rf_wr_at], rfl, rfl⟩
  · rw [hf]
    exact ⟨(((rv_G.rf.wr (rv_d_r hx)).wr (rv_d_s (by decide))).wr (rv_d_s (by decide))).wr (rv_d_s (by decide)), by simp [mm_pastT, rf_wr_at], by simp [mm_pastT, rf_wr_at], rfl, rfl⟩
end
section
/-! a started run, at rest: σ against τ -/
def rv_T (k : Nat) (σ τ : rf_Mem) : Prop := ∃ E n : Nat, E ≤ 40 ∧ σ 6 k = nI E ∧ σ 8 k = τ 11 k ∧ rf_le (σ 8 k) 24 ∧
  ((τ 4 k = 4 ∧ σ 12 k = 0 ∧ n ≤ 2460 ∧ rv_R k E n (fun s => rv_V k s τ ∧ s 16 k = 4 ∧ s 17 k = τ 8 k) σ) ∨
   (E < 40 ∧ rv_In k τ ∧ τ 10 k = nI E ∧ (∃ w : Nat, w < 60 ∧ τ 6 k = nI w ∧ n ≤ 60 * E + w) ∧ rv_R k E n (fun s => rv_V k s τ ∧ s 16 k = 5) σ ∧
     ((τ 4 k = 1 ∧ mm_op τ k = 5 ∧ σ 12 k = 0) ∨ (τ 4 k = 2 ∧ mm_op τ k = 6 ∧ σ 12 k = τ 9 k ∧ 0 < σ 12 k) ∨ (τ 4 k = 3 ∧ mm_op τ k = 7 ∧ σ 12 k = 0 ∧ rf_find (τ 14) (τ 12) (mm_se τ k &&& 1) (k * 24) (rf_ix (τ 11 k)) 0 = none))))
/-- the worker knows the run -/
def rv_N (k : Nat) (σ τ : rf_Mem) : Prop := σ 13 k = 1 ∧ rv_V k σ τ ∧ σ 16 k = τ 4 k ∧ (τ 4 k = 4 → σ 17 k = τ 8 k)
def rv_Z (σ τ : rf_Mem) : Prop := σ 9 = τ 12 ∧ σ 10 = τ 13 ∧ σ 11 = τ 14
def rv_Fin (k : Nat) (σ τ σ1 τ1 : rf_Mem) : Prop := rv_T k σ1 τ1 ∧ rv_N k σ1 τ1 ∧ rv_F k σ σ1 ∧ rv_G k τ τ1 ∧ rv_Z σ1 τ1
def rv_B (k : Nat) (σ τ : rf_Mem) : Prop := rv_S σ τ ∧ rv_Z σ τ ∧ σ 8 k = τ 11 k ∧ rf_le (σ 8 k) 24 ∧ σ 0 2 = τ 0 2 ∧ (∃ t : Nat, t ≤ 100000 ∧ σ 0 2 = nI t) ∧ σ 13 k = 1 ∧ σ 12 k = 0
theorem rv_Fin.tr {k : Nat} {σ τ σ1 τ1 σ2 τ2 : rf_Mem} (h : rv_Fin k σ1 τ1 σ2 τ2) (hF : rv_F k σ σ1) (hG : rv_G k τ τ1) : rv_Fin k σ τ σ2 τ2 := ⟨h.1, h.2.1, hF.tr h.2.2.1, hG.tr h.2.2.2.1, h.2.2.2.2⟩
theorem rv_K.eq {k : Nat} {σ σ1 : rf_Mem} (h : rv_K k σ σ1) (a : Nat) (ha : a < 14) : σ1 a = σ a := funext fun i => h a i (rv_na ha)
theorem rv_Hi.to {k E : Nat} {σ σ1 σ2 : rf_Mem} (h : rv_Hi k E σ1 σ2) (h0 : σ2 0 0 = σ 0 0) (h1 : σ2 1 = σ 1) (h2 : σ2 2 = σ 2) (h3 : σ2 3 = σ 3) (h5 : σ2 5 k = σ 5 k) (h7 : ∀ i, i < E → σ2 7 (k * 40 + i) = σ 7 (k * 40 + i)) : rv_Hi k E σ1 σ :=
  ⟨h.1.trans h0, h.2.1.trans h1, h.2.2.1.trans h2, h.2.2.2.1.trans h3, h.2.2.2.2.1.trans h5, fun i hi => (h.2.2.2.2.2.1 i hi).trans (h7 i hi), h.2.2.2.2.2.2⟩
theorem rv_Hi.K {k E : Nat} {σ σ1 σ2 : rf_Mem} (h : rv_Hi k E σ1 σ2) (hK : rv_K k σ σ2) : rv_Hi k E σ1 σ :=
  h.to (by rw [hK.eq 0 (by decide)]) (hK.eq 1 (by decide)) (hK.eq 2 (by decide)) (hK.eq 3 (by decide)) (by rw [hK.eq 5 (by decide)]) (fun i _ => by rw [hK.eq 7 (by decide)])
theorem rv_clamp (b : Int32) : ∃ c : Nat, 1 ≤ c ∧ c ≤ 100 ∧ rf_clamp b = nI c := by
  unfold rf_clamp
  split
  · rename_i h1
    split
    · rename_i h2
      have h0 : ¬ b < 0 := Int32.not_lt.mpr (Int32.le_trans (by decide) h1)
      obtain ⟨j, hj, e⟩ := nI_of2 (M := 100) (n := 100) rfl h0 h2
      rw [e] at h1
      exact ⟨j, (nI_leI (a := 1) (by omega) (by omega)).mp h1, hj, e⟩
    · exact ⟨100, by omega, by omega, rfl⟩
  · exact ⟨1, by omega, by omega, rfl⟩
theorem step_8 {σ : rf_Mem} {k : Nat} (ho : xx_op σ k = 8) : xx_step σ k = xx_finish σ k (σ 14 (xx_fa σ k)) := by
  rw [xx_step, if_pos (by rw [ho]; decide), if_pos (by rw [ho]; decide)]
/-- the run ends with r -/
theorem lock_end {k E w n : Nat} {σ τ : rf_Mem} {r : Int32} (hB : rv_B k σ τ) (hV : rv_V k σ τ) (hi : rv_In k τ) (hE : σ 6 k = nI E) (hE40 : E ≤ 40) (hw : w < 60) (hn : n ≤ 60 * E + w) (hR : rv_R k E n (fun s => rv_V k s τ ∧ s 16 k = 5) σ)
    (hst : ∀ s, rv_S s τ → rv_V k s τ → xx_step s k = xx_finish s k r) : rv_Fin k σ τ (xx_finish σ k r) (mm_end τ k r) := by
  obtain ⟨hS, hG, h8, h8l, hnow, hnt, h13, h12⟩ := hB
  have hKf : rv_K k σ (xx_finish σ k r) := finish_K rv_K.rf
  refine ⟨⟨E, n + 1, hE40, hE, h8, h8l, Or.inl ⟨by simp [mm_end, rf_wr_at], h12, by omega, ?_⟩⟩, ⟨h13, hV, by simp [xx_finish, mm_end, rf_wr_at], fun _ => by simp [xx_finish, mm_end, rf_wr_at]⟩, hKf.F, (rv_G.rf.wr (rv_d_s (by decide))).wr (rv_d_s (by decide)), hG⟩
  intro σ1 hH
  have hH0 := hH.K hKf
  obtain ⟨⟨v1, s5⟩, K1⟩ := hR σ1 hH0
  rw [loop_succ s5]
  generalize xx_loop n (xx_first σ1 k) k = s at v1 s5 K1
  rw [hst s (rv_S_of hH0 K1 hS) v1]
  exact ⟨⟨v1, by simp [xx_finish, rf_wr_at], by simp [xx_finish, mm_end, rf_wr_at]⟩, finish_K K1⟩
theorem lock (k : Nat) : ∀ (d : Nat) (σ τ : rf_Mem) (E w n nx nm : Nat), rv_B k σ τ → rv_V k σ τ → rv_A k σ τ → σ 6 k = nI E → τ 10 k = nI E → E ≤ 40 → τ 6 k = nI w → w ≤ 60 → n ≤ 60 * E + w → rv_R k E n (fun s => rv_V k s τ ∧ rv_A k s τ) σ → 2461 ≤ 60 * E + w + d → d ≤ nx → d + 1 ≤ nm → rv_Fin k σ τ (xx_loop nx σ k) (mm_loop nm τ k 1) := by
  intro d
  induction d with
  | zero => intro σ τ E w n nx nm _ _ _ _ _ h1 _ h2 _ _ h3 _ _; exact absurd h3 (by omega)
  | succ d ih =>
    intro σ τ E w n nx nm hB hV hA hE hM hE40 hw hw60 hn hR hd hnx hnm
    have hB0 := hB
    obtain ⟨hS, hG, h8, h8l, hnow, hnt, h13, h12⟩ := hB
    obtain ⟨nm, rfl⟩ : ∃ m, nm = m + 1 := ⟨nm - 1, by omega⟩
    by_cases hi : rv_In k τ
    · have h5 : σ 16 k = 5 := by
        rcases hA with q | q
        · exact q.2
        · exact absurd hi q.1
      obtain ⟨nx, rfl⟩ : ∃ m, nx = m + 1 := ⟨nx - 1, by omega⟩
      obtain ⟨hp, e1, e2, e3, j, hj, ej⟩ := rv_at hS hV hi
      have hR5 : rv_R k E n (fun s => rv_V k s τ ∧ s 16 k = 5) σ := hR.mono (fun s q => ⟨q.1, by
        rcases q.2 with r | r
        · exact r.2
        · exact absurd hi r.1⟩) (fun _ h => h)
      have hw59 : w < 60 := by
        have := hi.2.2
        rw [hw] at this
        exact (nI_ltI (b := 60) (by omega) (by decide)).mp this
      have hx4 : rf_q (σ 2 (rf_ix (σ 15 k))) < 4 := (rf_q_of _).1
      have hfa : mm_fa τ k = k * 4 + rf_q (σ 2 (rf_ix (σ 15 k))) := e3
      rw [loop_go nx h5, mloop_1]
      by_cases hj5 : j < 5
      · have ho : mm_op τ k < 5 := by rw [e1, ej]; exact nI_lt (b := 5) hj5 (by decide)
        obtain ⟨t1, t2⟩ := turn_plain hi ho
        obtain ⟨q1, q2, q3, x, v, nxt, hx, q4⟩ := step_plain hS hV hi h5 ho
        have hGp : rv_G k τ (mm_plainS τ k) := by rw [q4]; exact ((rv_G.rf.wr (rv_d_s (by decide))).wr (rv_d_s (by decide))).wr (rv_d_r hx)
        rw [t1, t2]
        refine (ih (xx_step σ k) (mm_plainS τ k) E (w + 1) (n + 1) nx nm ⟨hS.fr q3.F hGp, ?_, ?_, ?_, ?_, ?_, ?_, ?_⟩ q1 q2 ?_ ?_ hE40 ?_ (by omega) (by omega) ?_ (by omega) (by omega) (by omega)).tr q3.F hGp
        · unfold rv_Z
          rw [q3.eq 9 (by decide), q3.eq 10 (by decide), q3.eq 11 (by decide), hGp.eq 12 (by decide), hGp.eq 13 (by decide), show mm_plainS τ k 14 = τ 14 by rw [q4]; rfl]
          exact hG
        · rw [q3.eq 8 (by decide), hGp.eq 11 (by decide)]; exact h8
        · rw [q3.eq 8 (by decide)]; exact h8l
        · rw [q3.eq 0 (by decide), hGp.eq 0 (by decide)]; exact hnow
        · rw [q3.eq 0 (by decide)]; exact hnt
        · rw [q3.eq 13 (by decide)]; exact h13
        · rw [q3.eq 12 (by decide)]; exact h12
        · rw [q3.eq 6 (by decide)]; exact hE
        · rw [q4]; exact hM
        · rw [q4]
          simp only [rf_wr_at, and_self, ↓reduceIte, hw]
          exact nI_1 w
        · intro σ1 hH
          have hH0 := hH.K q3
          obtain ⟨⟨v1, s5⟩, K1⟩ := hR5 σ1 hH0
          rw [loop_succ s5]
          generalize xx_loop n (xx_first σ1 k) k = s at v1 s5 K1
          obtain ⟨r1, r2, r3, -⟩ := step_plain (rv_S_of hH0 K1 hS) v1 hi s5 ho
          exact ⟨⟨r1, r2⟩, K1.tr r3⟩
      · by_cases hj8 : j = 8
        · subst hj8
          have ho : mm_op τ k = 8 := e1.trans ej
          obtain ⟨t1, t2⟩ := turn_8 hi ho
          have hst : ∀ s, rv_S s τ → rv_V k s τ → xx_step s k = xx_finish s k (τ 7 (mm_fa τ k)) := by
            intro s hSs hVs
            obtain ⟨-, f1, -, f3, -⟩ := rv_at hSs hVs hi
            rw [step_8 (f1.symm.trans ho), f3, show s 14 (xx_fa s k) = τ 7 (xx_fa s k) from hVs.1 _ (rf_q_of _).1]
          rw [t1, t2, mloop_0, hst σ hS hV, loop_stop nx (by simp [xx_finish, rf_wr_at])]
          exact lock_end hB0 hV hi hE hE40 hw59 hn hR5 hst
        · have ho : mm_op τ k = 5 ∨ mm_op τ k = 6 ∨ mm_op τ k = 7 := by
            rcases (show j = 5 ∨ j = 6 ∨ j = 7 by omega) with rfl | rfl | rfl
            · exact Or.inl (e1.trans ej)
            · exact Or.inr (Or.inl (e1.trans ej))
            · exact Or.inr (Or.inr (e1.trans ej))
          obtain ⟨t40, tn⟩ := turn_wait hi ho
          have hms : σ 18 k = nI E := by rw [hV.2.2.1]; exact hM
          by_cases hE4 : E = 40
          · subst hE4
            obtain ⟨t1, t2⟩ := t40 hM
            have hst : ∀ s, rv_S s τ → rv_V k s τ → xx_step s k = xx_finish s k 0 := by
              intro s hSs hVs
              obtain ⟨-, f1, -, -, -⟩ := rv_at hSs hVs hi
              rw [step_wait (by rw [← f1]; exact ho), xx_await, if_neg]
              rw [hVs.2.2.1, hM]
              decide
            rw [t1, t2, mloop_0, hst σ hS hV, loop_stop nx (by simp [xx_finish, rf_wr_at])]
            exact lock_end hB0 hV hi hE hE40 hw59 hn hR5 hst
          · have hEl : E < 40 := by omega
            obtain ⟨t1, t2⟩ := tn (by
              rw [hM]
              exact fun q => hE4 ((nI_eq (b := 40) (by omega) (by decide)).mp q))
            obtain ⟨f5, f6, f7, f7n⟩ := front hms hE hEl
            rw [t1, t2]
            rcases ho with ho | ho | ho
            · have hox : xx_op σ k = 5 := e1.symm.trans ho
              rw [step_wait (Or.inl hox), hox, f5, loop_stop nx (by simp [rf_wr_at]), show mm_waits τ k = rf_wr τ 4 k 1 by rw [mm_waits, if_neg (by rw [ho]; decide), if_pos ho], show mr_waits τ k = 0 by rw [mr_waits, if_neg (by rw [ho]; decide)], mloop_0]
              refine ⟨⟨E, n, hE40, hE, h8, h8l, Or.inr ⟨hEl, hi, hM, ⟨w, hw59, hw, hn⟩, hR5, Or.inl ⟨by simp [rf_wr_at], ho, h12⟩⟩⟩, ⟨h13, hV, by simp [rf_wr_at], fun q => ?_⟩, rv_F.rf.wr (rv_c_s (by decide)), rv_G.rf.wr (rv_d_s (by decide)), hG⟩
              simp [rf_wr_at] at q
            · have hox : xx_op σ k = 6 := e1.symm.trans ho
              obtain ⟨t, ht, et⟩ := hnt
              obtain ⟨cl, hc1, hc2, ec⟩ := rv_clamp (xx_se σ k)
              have hs12 : σ 0 2 + rf_clamp (xx_se σ k) = nI (t + cl) := by rw [et, ec, nI_add]
              rw [step_wait (Or.inr (Or.inl hox)), hox, f6, show xx_fallAsleep σ k = rf_wr (rf_wr σ 16 k 2) 12 k (σ 0 2 + rf_clamp (xx_se σ k)) by rw [xx_fallAsleep, if_pos (by rw [h12]; decide)], loop_stop nx (by simp [rf_wr_at]), show mm_waits τ k = rf_wr (rf_wr τ 4 k 2) 9 k (τ 0 2 + rf_clamp (mm_se τ k)) by rw [mm_waits, if_neg (by rw [ho]; decide), if_neg (by rw [ho]; decide), if_pos ho], show mr_waits τ k = 0 by rw [mr_waits, if_neg (by rw [ho]; decide)], mloop_0, e2, ← hnow, hs12]
              refine ⟨⟨E, n, hE40, hE, h8, h8l, Or.inr ⟨hEl, hi, hM, ⟨w, hw59, hw, hn⟩, hR5, Or.inr (Or.inl ⟨by simp [rf_wr_at], ho, by simp [rf_wr_at], ?_⟩)⟩⟩, ⟨h13, hV, by simp [rf_wr_at], fun q => ?_⟩, (rv_F.rf.wr (rv_c_s (by decide))).wr (rv_c_s (by decide)), (rv_G.rf.wr (rv_d_s (by decide))).wr (rv_d_s (by decide)), hG⟩
              · simp only [rf_wr_at, and_self, ↓reduceIte]
                exact nI_lt (a := 0) (by omega) (by omega)
              · simp [rf_wr_at] at q
            · have hox : xx_op σ k = 7 := e1.symm.trans ho
              have hfeq : rf_find (σ 11) (σ 9) (xx_se σ k &&& 1) (k * 24) (rf_ix (σ 8 k)) 0 = rf_find (τ 14) (τ 12) (mm_se τ k &&& 1) (k * 24) (rf_ix (τ 11 k)) 0 := by rw [hG.1, hG.2.2, h8, e2]
              have hmw : mm_waits τ k = mm_take τ k := by rw [mm_waits, if_neg (by rw [ho]; decide), if_neg (by rw [ho]; decide), if_neg (by rw [ho]; decide), if_pos ho]
              have hmr : mr_waits τ k = mr_take τ k := by rw [mr_waits, if_pos ho]
              rw [step_wait (Or.inr (Or.inr hox)), hox, f7, hmw, hmr]
              cases hf : rf_find (τ 14) (τ 12) (mm_se τ k &&& 1) (k * 24) (rf_ix (τ 11 k)) 0 with
              | none =>
                rw [show xx_takeSignal σ k (xx_se σ k &&& 1) = σ by rw [xx_takeSignal, hfeq, hf], f7n, loop_stop nx (by simp [rf_wr_at]), show mm_take τ k = rf_wr τ 4 k 3 by rw [mm_take, hf], show mr_take τ k = 0 by rw [mr_take, hf], mloop_0]
                refine ⟨⟨E, n, hE40, hE, h8, h8l, Or.inr ⟨hEl, hi, hM, ⟨w, hw59, hw, hn⟩, hR5, Or.inr (Or.inr ⟨by simp [rf_wr_at], ho, h12, hf⟩)⟩⟩, ⟨h13, hV, by simp [rf_wr_at], fun q => ?_⟩, rv_F.rf.wr (rv_c_s (by decide)), rv_G.rf.wr (rv_d_s (by decide)), hG⟩
                simp [rf_wr_at] at q
              | some i =>
                have hil := rf_find_lt _ _ hf
                have h24 : rf_ix (τ 11 k) ≤ 24 := by rw [← h8]; exact (rf_le_ix h8l (by decide)).1
                have hci : rv_c k 11 i := Or.inr (Or.inr (Or.inl ⟨rfl, by omega, by omega⟩))
                have hdi : rv_d k 14 i := Or.inr (Or.inl ⟨rfl, by omega, by omega⟩)
                have hixE : rf_ix (nI E) = E := nI_clamp (by omega)
                have htk : xx_takeSignal σ k (xx_se σ k &&& 1) = rf_wr (rf_wr (rf_wr σ 11 i 1) 7 (k * 40 + E) (σ 10 i)) 6 k (nI (E + 1)) := by
                  rw [xx_takeSignal, hfeq, hf]
                  show xx_addEvent (rf_wr σ 11 i 1) k (σ 10 i) = _
                  have he6 : rf_wr σ 11 i 1 6 k = nI E := hE
                  rw [xx_addEvent, he6, if_pos (show nI E < 40 from nI_lt (b := 40) hEl (by decide)), hixE, nI_1]
                have hmt : mm_take τ k = mm_pastWait (rf_wr (rf_wr τ 4 k 3) 14 i 1) k 1 (σ 10 i) := by rw [mm_take, hf, hG.2.1]
                rw [htk, hmt, show mr_take τ k = 1 by rw [mr_take, hf]]
                generalize hσ1 : rf_wr (rf_wr (rf_wr σ 11 i 1) 7 (k * 40 + E) (σ 10 i)) 6 k (nI (E + 1)) = σ1
                generalize hτ1 : rf_wr (rf_wr τ 4 k 3) 14 i 1 = τ1
                have hF1 : rv_F k σ σ1 := by rw [← hσ1]; exact ((rv_F.rf.wr hci).wr (Or.inr (Or.inl ⟨rfl, by omega, by omega⟩))).wr (rv_c_s (by decide))
                have hG1 : rv_G k τ τ1 := by rw [← hτ1]; exact (rv_G.rf.wr (rv_d_s (by decide))).wr hdi
                have hS1 : rv_S σ1 τ1 := hS.fr hF1 hG1
                have hV1 : rv_V k σ1 τ1 := by rw [← hσ1, ← hτ1]; exact hV
                have hi1 : rv_In k τ1 := by rw [← hτ1]; exact hi
                have h51 : σ1 16 k = 5 := by rw [← hσ1]; exact h5
                have hm1 : σ1 18 k = nI E := by rw [← hσ1]; exact hms
                have h61 : σ1 6 k = nI (E + 1) := by rw [← hσ1]; simp [rf_wr_at]
                have h71 : σ1 7 (k * 40 + E) = σ 10 i := by rw [← hσ1]; simp [rf_wr_at]
                have h7l : ∀ x, x < E → σ1 7 (k * 40 + x) = σ 7 (k * 40 + x) := by
                  intro x hx
                  rw [← hσ1]
                  simp only [rf_wr_at]
                  simp [show ¬ x = E by omega]
                have hfa1 : mm_fa τ1 k = k * 4 + rf_q (σ 2 (rf_ix (σ 15 k))) := by rw [← hτ1]; exact hfa
                rw [awaitT_meet hm1 h61 (by omega) (by omega)]
                obtain ⟨q1, q2, q3⟩ := step_meet (o := 7) (z := 1) (v := σ 10 i) hS1 hV1 hi1 h51 (Or.inr ⟨by decide, by decide, by rw [hm1, hixE, h71]⟩)
                obtain ⟨g1, g2, g3, g4, g5⟩ := past_at (z := 1) (v := σ 10 i) hx4 hfa1
                refine (ih (xx_meet σ1 k 7) (mm_pastWait τ1 k 1 (σ 10 i)) (E + 1) 0 (n + 1) nx nm ⟨hS1.fr q3.F g1, ?_, ?_, ?_, ?_, ?_, ?_, ?_⟩ q1 q2 ?_ ?_ (by omega) g3 (by omega) (by omega) ?_ (by omega) (by omega) (by omega)).tr (hF1.tr q3.F) (hG1.tr g1)
                · unfold rv_Z
                  rw [q3.eq 9 (by decide), q3.eq 10 (by decide), q3.eq 11 (by decide), g1.eq 12 (by decide), g1.eq 13 (by decide), g5, hF1.eq 9 (by decide), hF1.eq 10 (by decide), hG1.eq 12 (by decide), hG1.eq 13 (by decide)]
                  refine ⟨hG.1, hG.2.1, ?_⟩
                  rw [← hσ1, ← hτ1]
                  show upd (σ 11) i 1 = upd (τ 14) i 1
                  rw [hG.2.2]
                · rw [q3.eq 8 (by decide), hF1.eq 8 (by decide), g1.eq 11 (by decide), hG1.eq 11 (by decide)]; exact h8
                · rw [q3.eq 8 (by decide), hF1.eq 8 (by decide)]; exact h8l
                · rw [q3.eq 0 (by decide), hF1.eq 0 (by decide), g1.eq 0 (by decide), hG1.eq 0 (by decide)]; exact hnow
                · rw [q3.eq 0 (by decide), hF1.eq 0 (by decide)]; exact hnt
                · rw [q3.eq 13 (by decide), hF1.eq 13 (by decide)]; exact h13
                · rw [q3.eq 12 (by decide), ← hσ1]; exact h12
                · rw [q3.eq 6 (by decide)]; exact h61
                · rw [g2, ← hτ1]
                  show τ 10 k + 1 = nI (E + 1)
                  rw [hM, nI_1]
                · refine rep_app (τ := τ) hS hi hM hEl (Or.inr (Or.inr ho)) (Or.inr ⟨by rw [ho]; decide, by decide, by rw [q3.eq 7 (by decide)]; exact h71⟩) (fun a h4 h14 => ?_) (fun σ2 hH => ?_) hR5
                  · rw [← hτ1, rf_wr_ne _ _ _ h14, rf_wr_ne _ _ _ h4]
                  · have hH1 := hH.K q3
                    refine rv_Hi.to ⟨hH1.1, hH1.2.1, hH1.2.2.1, hH1.2.2.2.1, hH1.2.2.2.2.1, fun i hi => hH1.2.2.2.2.2.1 i (by omega), ?_⟩ (by rw [hF1.eq 0 (by decide)]) (hF1.eq 1 (by decide)) (hF1.eq 2 (by decide)) (hF1.eq 3 (by decide)) (by rw [hF1.eq 5 (by decide)]) h7l
                    obtain ⟨e, a1, a2, a3⟩ := hH1.2.2.2.2.2.2
                    exact ⟨e, by omega, a2, a3⟩
    · obtain ⟨-, h4, h0⟩ := hA.resolve_left (fun q => hi q.1)
      obtain ⟨t1, t2⟩ := turn_out hi hw60 hw
      rw [loop_stop nx (by rw [h4]; decide), mloop_1, t1, t2, mloop_0]
      refine ⟨⟨E, n, hE40, hE, h8, h8l, Or.inl ⟨by simp [mm_end, rf_wr_at], h12, by omega, hR.mono (fun s q => ?_) (fun _ h => h)⟩⟩, ⟨h13, hV, by rw [h4]; simp [mm_end, rf_wr_at], fun _ => by rw [h0]; simp [mm_end, rf_wr_at]⟩, rv_F.rf, (rv_G.rf.wr (rv_d_s (by decide))).wr (rv_d_s (by decide)), hG⟩
      obtain ⟨-, s4, s0⟩ := q.2.resolve_left (fun r => hi r.1)
      exact ⟨q.1, s4, by rw [s0]; simp [mm_end, rf_wr_at]⟩
end
section
/-! what belongs to run k, on either side -/
def rv_O (k a i : Nat) : Prop := (a = 14 ∧ k * 4 ≤ i ∧ i < k * 4 + 4) ∨ (a = 7 ∧ k * 40 ≤ i ∧ i < k * 40 + 40) ∨ ((a = 9 ∨ a = 10 ∨ a = 11) ∧ k * 24 ≤ i ∧ i < k * 24 + 24) ∨ ((a = 4 ∨ a = 5 ∨ a = 6 ∨ a = 8 ∨ a = 12 ∨ a = 13 ∨ a = 15 ∨ a = 16 ∨ a = 17 ∨ a = 18 ∨ a = 19) ∧ i = k)
def rv_P (k a i : Nat) : Prop := (a = 7 ∧ k * 4 ≤ i ∧ i < k * 4 + 4) ∨ ((a = 12 ∨ a = 13 ∨ a = 14) ∧ k * 24 ≤ i ∧ i < k * 24 + 24) ∨ ((a = 4 ∨ a = 5 ∨ a = 6 ∨ a = 8 ∨ a = 9 ∨ a = 10 ∨ a = 11) ∧ i = k)
def rv_FO (k : Nat) (σ σ1 : rf_Mem) : Prop := ∀ a i, ¬ rv_O k a i → σ1 a i = σ a i
def rv_GO (k : Nat) (τ τ1 : rf_Mem) : Prop := ∀ a i, ¬ rv_P k a i → τ1 a i = τ a i
theorem rv_FO.rf {k : Nat} {σ : rf_Mem} : rv_FO k σ σ := fun _ _ _ => rfl
theorem rv_FO.tr {k : Nat} {σ σ1 σ2 : rf_Mem} (h : rv_FO k σ σ1) (h2 : rv_FO k σ1 σ2) : rv_FO k σ σ2 := fun a i hn => (h2 a i hn).trans (h a i hn)
theorem rv_FO.wr {k : Nat} {σ σ1 : rf_Mem} (h : rv_FO k σ σ1) {a i : Nat} {v : Int32} (hm : rv_O k a i) : rv_FO k σ (rf_wr σ1 a i v) := by
  intro b j hn
  rw [rf_wr_at, if_neg, h b j hn]
  rintro ⟨rfl, rfl⟩
  exact hn hm
theorem rv_GO.rf {k : Nat} {σ : rf_Mem} : rv_GO k σ σ := fun _ _ _ => rfl
theorem rv_GO.tr {k : Nat} {σ σ1 σ2 : rf_Mem} (h : rv_GO k σ σ1) (h2 : rv_GO k σ1 σ2) : rv_GO k σ σ2 := fun a i hn => (h2 a i hn).trans (h a i hn)
theorem rv_GO.wr {k : Nat} {σ σ1 : rf_Mem} (h : rv_GO k σ σ1) {a i : Nat} {v : Int32} (hm : rv_P k a i) : rv_GO k σ (rf_wr σ1 a i v) := by
  intro b j hn
  rw [rf_wr_at, if_neg, h b j hn]
  rintro ⟨rfl, rfl⟩
  exact hn hm
theorem rv_F.o {k : Nat} {σ σ1 : rf_Mem} (h : rv_F k σ σ1) : rv_FO k σ σ1 := by
  intro a i hn
  refine h a i (fun q => hn ?_)
  rcases q with q | q | ⟨q, r⟩ | ⟨q, r⟩
  · exact Or.inl q
  · exact Or.inr (Or.inl q)
  · exact Or.inr (Or.inr (Or.inl ⟨by omega, r⟩))
  · exact Or.inr (Or.inr (Or.inr ⟨by omega, r⟩))
theorem rv_G.o {k : Nat} {σ σ1 : rf_Mem} (h : rv_G k σ σ1) : rv_GO k σ σ1 := by
  intro a i hn
  refine h a i (fun q => hn ?_)
  rcases q with q | ⟨q, r⟩ | ⟨q, r⟩
  · exact Or.inl q
  · exact Or.inr (Or.inl ⟨by omega, r⟩)
  · exact Or.inr (Or.inr ⟨by omega, r⟩)
theorem rv_O_s {k a : Nat} (h : a = 4 ∨ a = 5 ∨ a = 6 ∨ a = 8 ∨ a = 12 ∨ a = 13 ∨ a = 15 ∨ a = 16 ∨ a = 17 ∨ a = 18 ∨ a = 19) : rv_O k a k := Or.inr (Or.inr (Or.inr ⟨h, rfl⟩))
theorem rv_P_s {k a : Nat} (h : a = 4 ∨ a = 5 ∨ a = 6 ∨ a = 8 ∨ a = 9 ∨ a = 10 ∨ a = 11) : rv_P k a k := Or.inr (Or.inr ⟨h, rfl⟩)
theorem rv_O_24 {k a x : Nat} (h : a = 9 ∨ a = 10 ∨ a = 11) (hx : x < 24) : rv_O k a (k * 24 + x) := Or.inr (Or.inr (Or.inl ⟨h, by omega, by omega⟩))
theorem rv_P_24 {k a x : Nat} (h : a = 12 ∨ a = 13 ∨ a = 14) (hx : x < 24) : rv_P k a (k * 24 + x) := Or.inr (Or.inl ⟨h, by omega, by omega⟩)
/-- σ1 is σ where run j looks -/
def rv_ag (j : Nat) (σ σ1 : rf_Mem) : Prop := σ1 0 0 = σ 0 0 ∧ (σ 0 1 = 1 → σ1 0 1 = 1) ∧ σ1 1 = σ 1 ∧ σ1 2 = σ 2 ∧ σ1 3 = σ 3 ∧ ∀ a i, rv_O j a i → σ1 a i = σ a i
def rv_am (j : Nat) (τ τ1 : rf_Mem) : Prop := τ1 0 0 = τ 0 0 ∧ τ1 1 = τ 1 ∧ τ1 2 = τ 2 ∧ τ1 3 = τ 3 ∧ ∀ a i, rv_P j a i → τ1 a i = τ a i
theorem rv_n4 {k a i : Nat} (h : a < 4) : ¬ rv_O k a i := by rintro (⟨h1, -⟩ | ⟨h1, -⟩ | ⟨h1, -⟩ | ⟨h1, -⟩) <;> omega
theorem rv_p4 {k a i : Nat} (h : a < 4) : ¬ rv_P k a i := by rintro (⟨h1, -⟩ | ⟨h1, -⟩ | ⟨h1, -⟩) <;> omega
theorem rv_FO.eq {k : Nat} {σ σ1 : rf_Mem} (h : rv_FO k σ σ1) (a : Nat) (ha : a < 4) : σ1 a = σ a := funext fun i => h a i (rv_n4 ha)
theorem rv_GO.eq {k : Nat} {σ σ1 : rf_Mem} (h : rv_GO k σ σ1) (a : Nat) (ha : a < 4) : σ1 a = σ a := funext fun i => h a i (rv_p4 ha)
theorem rv_FO.ag {k j : Nat} {σ σ1 : rf_Mem} (h : rv_FO k σ σ1) (hj : j ≠ k) : rv_ag j σ σ1 := by
  refine ⟨by rw [h.eq 0 (by decide)], fun q => by rw [h.eq 0 (by decide)]; exact q, h.eq 1 (by decide), h.eq 2 (by decide), h.eq 3 (by decide), fun a i ho => h a i (fun q => ?_)⟩
  rcases ho with ⟨a1, b1⟩ | ⟨a1, b1⟩ | ⟨a1, b1⟩ | ⟨a1, b1⟩ <;> rcases q with ⟨a2, b2⟩ | ⟨a2, b2⟩ | ⟨a2, b2⟩ | ⟨a2, b2⟩ <;> omega
theorem rv_GO.ag {k j : Nat} {σ σ1 : rf_Mem} (h : rv_GO k σ σ1) (hj : j ≠ k) : rv_am j σ σ1 := by
  refine ⟨by rw [h.eq 0 (by decide)], h.eq 1 (by decide), h.eq 2 (by decide), h.eq 3 (by decide), fun a i ho => h a i (fun q => ?_)⟩
  rcases ho with ⟨a1, b1⟩ | ⟨a1, b1⟩ | ⟨a1, b1⟩ <;> rcases q with ⟨a2, b2⟩ | ⟨a2, b2⟩ | ⟨a2, b2⟩ <;> omega
theorem rv_ag.s {j : Nat} {σ σ1 : rf_Mem} (h : rv_ag j σ σ1) (a : Nat) (ha : a = 4 ∨ a = 5 ∨ a = 6 ∨ a = 8 ∨ a = 12 ∨ a = 13 ∨ a = 15 ∨ a = 16 ∨ a = 17 ∨ a = 18 ∨ a = 19) : σ1 a j = σ a j := h.2.2.2.2.2 a j (rv_O_s ha)
theorem rv_am.s {j : Nat} {σ σ1 : rf_Mem} (h : rv_am j σ σ1) (a : Nat) (ha : a = 4 ∨ a = 5 ∨ a = 6 ∨ a = 8 ∨ a = 9 ∨ a = 10 ∨ a = 11) : σ1 a j = σ a j := h.2.2.2.2 a j (rv_P_s ha)
theorem rv_find_eq {tk chn tk1 chn1 : Nat → Int32} {ch : Int32} {b : Nat} : ∀ (n t : Nat), (∀ i, b + t ≤ i → i < b + t + n → tk1 i = tk i ∧ chn1 i = chn i) → rf_find tk1 chn1 ch b n t = rf_find tk chn ch b n t
  | 0, _, _ => rfl
  | n + 1, t, h => by
    rw [rf_find, rf_find, (h (b + t) (by omega) (by omega)).1, (h (b + t) (by omega) (by omega)).2, rv_find_eq n (t + 1) (fun i h1 h2 => h i (by omega) (by omega))]
theorem rv_V.m {j : Nat} {s τ τ1 : rf_Mem} (h : rv_V j s τ) (hm : rv_am j τ τ1) : rv_V j s τ1 :=
  ⟨fun i hi => by rw [hm.2.2.2.2 7 (j * 4 + i) (Or.inl ⟨rfl, by omega, by omega⟩)]; exact h.1 i hi, by rw [hm.s 5 (by decide)]; exact h.2.1, by rw [hm.s 10 (by decide)]; exact h.2.2.1, by rw [hm.s 6 (by decide)]; exact h.2.2.2⟩
theorem rv_V.x {j : Nat} {σ σ1 τ : rf_Mem} (h : rv_V j σ τ) (hm : rv_ag j σ σ1) : rv_V j σ1 τ :=
  ⟨fun i hi => by rw [hm.2.2.2.2.2 14 (j * 4 + i) (Or.inl ⟨rfl, by omega, by omega⟩)]; exact h.1 i hi, by rw [hm.s 15 (by decide)]; exact h.2.1, by rw [hm.s 18 (by decide)]; exact h.2.2.1, by rw [hm.s 19 (by decide)]; exact h.2.2.2⟩
theorem rv_In.m {j : Nat} {τ τ1 : rf_Mem} (h : rv_In j τ) (hm : rv_am j τ τ1) : rv_In j τ1 := by
  unfold rv_In
  rw [hm.s 5 (by decide), hm.s 6 (by decide), hm.1]
  exact h
theorem op_m {j : Nat} {τ τ1 : rf_Mem} (hm : rv_am j τ τ1) : mm_op τ1 j = mm_op τ j ∧ mm_se τ1 j = mm_se τ j := by
  unfold mm_op mm_se
  rw [hm.s 5 (by decide), hm.2.1, hm.2.2.2.1]
  exact ⟨rfl, rfl⟩
theorem rv_Hi.ag {j E : Nat} {σ σ1 σ2 : rf_Mem} (h : rv_Hi j E σ2 σ1) (hE : E ≤ 40) (hm : rv_ag j σ σ1) : rv_Hi j E σ2 σ :=
  h.to hm.1 hm.2.2.1 hm.2.2.2.1 hm.2.2.2.2.1 (hm.s 5 (by decide)) (fun i hi => hm.2.2.2.2.2 7 _ (Or.inr (Or.inl ⟨rfl, by omega, by omega⟩)))
theorem rv_T.ag {j : Nat} {σ σ1 τ τ1 : rf_Mem} (h : rv_T j σ τ) (hx : rv_ag j σ σ1) (hm : rv_am j τ τ1) : rv_T j σ1 τ1 := by
  obtain ⟨E, n, hE40, hE, h8, h8l, hc⟩ := h
  refine ⟨E, n, hE40, by rw [hx.s 6 (by decide)]; exact hE, by rw [hx.s 8 (by decide), hm.s 11 (by decide)]; exact h8, by rw [hx.s 8 (by decide)]; exact h8l, ?_⟩
  rcases hc with ⟨a1, a2, a3, a4⟩ | ⟨a1, a2, a3, a4, a5, a6⟩
  · refine Or.inl ⟨by rw [hm.s 4 (by decide)]; exact a1, by rw [hx.s 12 (by decide)]; exact a2, a3, a4.mono (fun s q => ⟨q.1.m hm, q.2.1, by rw [hm.s 8 (by decide)]; exact q.2.2⟩) (fun σ2 q => q.ag hE40 hx)⟩
  · refine Or.inr ⟨a1, a2.m hm, by rw [hm.s 10 (by decide)]; exact a3, by rw [hm.s 6 (by decide)]; exact a4, a5.mono (fun s q => ⟨q.1.m hm, q.2⟩) (fun σ2 q => q.ag hE40 hx), ?_⟩
    rw [hm.s 4 (by decide), hx.s 12 (by decide), (op_m hm).1, (op_m hm).2, hm.s 9 (by decide), hm.s 11 (by decide), rv_find_eq (tk := τ 14) (chn := τ 12)]
    · exact a6
    · intro i h1 h2
      have h3 := (rf_le_ix h8l (by decide)).1
      rw [h8] at h3
      exact ⟨hm.2.2.2.2 14 i (Or.inr (Or.inl ⟨by decide, by omega, by omega⟩)), hm.2.2.2.2 12 i (Or.inr (Or.inl ⟨by decide, by omega, by omega⟩))⟩
theorem rv_N.ag {j : Nat} {σ σ1 τ τ1 : rf_Mem} (h : rv_N j σ τ) (hx : rv_ag j σ σ1) (hm : rv_am j τ τ1) : rv_N j σ1 τ1 :=
  ⟨by rw [hx.s 13 (by decide)]; exact h.1, (h.2.1.m hm).x hx, by rw [hx.s 16 (by decide), hm.s 4 (by decide)]; exact h.2.2.1, fun q => by rw [hx.s 17 (by decide), hm.s 8 (by decide)]; rw [hm.s 4 (by decide)] at q; exact h.2.2.2 q⟩
/-- run k, on both sides -/
def rv_Run (k : Nat) (σ τ : rf_Mem) : Prop := (σ 4 k = 0 ∧ τ 4 k = 0 ∧ σ 8 k = 0) ∨ (σ 4 k = 1 ∧ σ 0 1 = 1 ∧ rv_T k σ τ ∧ (σ 13 k = 0 ∨ rv_N k σ τ))
theorem rv_Run.ag {j : Nat} {σ σ1 τ τ1 : rf_Mem} (h : rv_Run j σ τ) (hx : rv_ag j σ σ1) (hm : rv_am j τ τ1) : rv_Run j σ1 τ1 := by
  rcases h with ⟨a, b, c⟩ | ⟨a, b, c, d⟩
  · exact Or.inl ⟨by rw [hx.s 4 (by decide)]; exact a, by rw [hm.s 4 (by decide)]; exact b, by rw [hx.s 8 (by decide)]; exact c⟩
  · refine Or.inr ⟨by rw [hx.s 4 (by decide)]; exact a, hx.2.1 b, c.ag hx hm, ?_⟩
    rcases d with d | d
    · exact Or.inl (by rw [hx.s 13 (by decide)]; exact d)
    · exact Or.inr (d.ag hx hm)
def rv_rg (k : Nat) (σ τ : rf_Mem) : Prop := rf_le (σ 6 k) 40 ∧ rf_le (σ 18 k) 40 ∧ rf_le (σ 8 k) 24 ∧ rf_le (τ 11 k) 24
/-- the whole: σ against τ; the time is at most 1000 N -/
def rv_All (N : Nat) (σ τ : rf_Mem) : Prop := rv_S σ τ ∧ rv_Z σ τ ∧ σ 0 1 = τ 0 1 ∧ (σ 0 1 = 0 ∨ σ 0 1 = 1) ∧ σ 0 2 = τ 0 2 ∧ (∃ t : Nat, t ≤ 1000 * N ∧ σ 0 2 = nI t) ∧ ∀ k, k < 3 → rv_Run k σ τ ∧ rv_rg k σ τ
theorem rv_rg.ag {j : Nat} {σ σ1 τ τ1 : rf_Mem} (h : rv_rg j σ τ) (hx : rv_ag j σ σ1) (hm : rv_am j τ τ1) : rv_rg j σ1 τ1 := by
  unfold rv_rg
  rw [hx.s 6 (by decide), hx.s 18 (by decide), hx.s 8 (by decide), hm.s 11 (by decide)]
  exact h
/-- an operation on run k alone -/
theorem all_of {N k : Nat} {σ τ σ1 τ1 : rf_Mem} (h : rv_All N σ τ) (hF : rv_FO k σ σ1) (hG : rv_GO k τ τ1) (hZ : rv_Z σ1 τ1) (hr : k < 3 → rv_Run k σ1 τ1) (hl : k < 3 → rv_rg k σ1 τ1) : rv_All N σ1 τ1 := by
  obtain ⟨a1, a2, a3, a4, a5, a6, a7⟩ := h
  refine ⟨?_, hZ, by rw [hF.eq 0 (by decide), hG.eq 0 (by decide)]; exact a3, by rw [hF.eq 0 (by decide)]; exact a4, by rw [hF.eq 0 (by decide), hG.eq 0 (by decide)]; exact a5, by rw [hF.eq 0 (by decide)]; exact a6, fun j hj => ?_⟩
  · unfold rv_S
    rw [hF.eq 0 (by decide), hF.eq 1 (by decide), hF.eq 2 (by decide), hF.eq 3 (by decide), hG.eq 0 (by decide), hG.eq 1 (by decide), hG.eq 2 (by decide), hG.eq 3 (by decide)]
    exact a1
  · by_cases hjk : j = k
    · subst hjk
      exact ⟨hr hj, hl hj⟩
    · exact ⟨(a7 j hj).1.ag (hF.ag hjk) (hG.ag hjk), (a7 j hj).2.ag (hF.ag hjk) (hG.ag hjk)⟩
/-! remembering -/
theorem st_of {k : Nat} {σ τ : rf_Mem} (h : rv_T k σ τ) : τ 4 k = 1 ∨ τ 4 k = 2 ∨ τ 4 k = 3 ∨ τ 4 k = 4 := by
  obtain ⟨E, n, -, -, -, -, ⟨q, -⟩ | ⟨-, -, -, -, -, ⟨q, -⟩ | ⟨q, -⟩ | ⟨q, -⟩⟩⟩ := h
  · exact Or.inr (Or.inr (Or.inr q))
  · exact Or.inl q
  · exact Or.inr (Or.inl q)
  · exact Or.inr (Or.inr (Or.inl q))
theorem rem_begin {k : Nat} {σ τ : rf_Mem} (hS : rv_S σ τ) (hZ : rv_Z σ τ) (hT : rv_T k σ τ) : rv_N k (xx_begin σ k) τ ∧ rv_K k (rf_wr σ 13 k 1) (xx_begin σ k) := by
  obtain ⟨E, n, hE40, hE, h8, h8l, hc⟩ := hT
  have hH : rv_Hi k E σ σ := ⟨rfl, rfl, rfl, rfl, rfl, fun _ _ => rfl, E, Nat.le_refl _, hE40, hE⟩
  have h13 : ∀ s, rv_K k (rf_wr σ 13 k 1) s → s 13 k = 1 := fun s hK => by rw [hK 13 k (rv_na (by decide))]; simp [rf_wr_at]
  rw [begin_eq]
  rcases hc with ⟨a1, a2, a3, a4⟩ | ⟨a1, a2, a3, a4, a5, a6⟩
  · obtain ⟨⟨hV, s4, s17⟩, hK⟩ := a4 σ hH
    rw [show 2600 = n + (2600 - n) by omega, loop_add, loop_stop _ (by rw [s4]; decide)]
    exact ⟨⟨h13 _ hK, hV, by rw [s4, a1], fun _ => s17⟩, hK⟩
  · obtain ⟨⟨hV, s5⟩, hK⟩ := a5 σ hH
    obtain ⟨w, hw1, -, hw2⟩ := a4
    rw [show 2600 = n + ((2599 - n) + 1) by omega, loop_add, loop_go _ s5]
    generalize xx_loop n (xx_first σ k) k = s at hV s5 hK
    have hSs := rv_S_of hH hK hS
    obtain ⟨-, e1, e2, -, -⟩ := rv_at hSs hV a2
    have hms : s 18 k = nI E := by rw [hV.2.2.1]; exact a3
    have h6s : s 6 k = nI E := by rw [kept_at hK (by decide)]; exact hE
    obtain ⟨f5, f6, f7, f7n⟩ := front hms h6s a1
    have key : xx_step s k = rf_wr s 16 k (τ 4 k) ∧ ¬ τ 4 k = 5 ∧ ¬ τ 4 k = 4 := by
      rcases a6 with ⟨b1, b2, b3⟩ | ⟨b1, b2, b3, b4⟩ | ⟨b1, b2, b3, b4⟩
      · have ho : xx_op s k = 5 := e1.symm.trans b2
        rw [step_wait (Or.inl ho), ho, f5, b1]
        exact ⟨rfl, by decide, by decide⟩
      · have ho : xx_op s k = 6 := e1.symm.trans b2
        have h12 : ¬ s 12 k ≤ 0 := by rw [kept_at hK (by decide)]; exact Int32.not_le.mpr b4
        rw [step_wait (Or.inr (Or.inl ho)), ho, f6, b1, xx_fallAsleep, if_neg h12]
        exact ⟨rfl, by decide, by decide⟩
      · have ho : xx_op s k = 7 := e1.symm.trans b2
        have ht : xx_takeSignal s k (xx_se s k &&& 1) = s := by
          have hf : rf_find (s 11) (s 9) (xx_se s k &&& 1) (k * 24) (rf_ix (s 8 k)) 0 = none := by
            rw [show s 11 = σ 11 from funext fun i => kept_at hK (by decide), show s 9 = σ 9 from funext fun i => kept_at hK (by decide), kept_at hK (by decide), hZ.1, hZ.2.2, h8, ← e2]
            exact b4
          rw [xx_takeSignal, hf]
        rw [step_wait (Or.inr (Or.inr ho)), ho, f7, ht, f7n, b1]
        exact ⟨rfl, by decide, by decide⟩
    rw [key.1, loop_stop _ (by simp only [rf_wr_at, and_self, ↓reduceIte]; exact key.2.1)]
    have hK2 := hK.wr (a := 16) (i := k) (v := τ 4 k) (rv_m_s (by decide))
    exact ⟨⟨h13 _ hK2, hV, by simp [rf_wr_at], fun q => absurd q key.2.2⟩, hK2⟩
theorem rem_ok {k : Nat} {σ τ : rf_Mem} (hS : rv_S σ τ) (hZ : rv_Z σ τ) (h4 : σ 4 k = 1) (hT : rv_T k σ τ) (hN : σ 13 k = 0 ∨ rv_N k σ τ) : rv_N k (xx_remember σ k) τ ∧ rv_K k (rf_wr σ 13 k 1) (xx_remember σ k) := by
  have h40 : ¬ σ 4 k = 0 := by rw [h4]; decide
  by_cases h13 : σ 13 k = 0
  · rw [xx_remember, if_neg h40, if_pos h13]
    exact rem_begin hS hZ hT
  · rw [xx_remember, if_neg h40, if_neg h13]
    have hN := hN.resolve_left h13
    refine ⟨hN, ?_⟩
    rw [← hN.1, rf_wr_self]
    exact rv_K.rf
theorem rv_T.keep {k : Nat} {σ s τ : rf_Mem} (h : rv_T k σ τ) (hk : ∀ a i, a < 13 → s a i = σ a i) : rv_T k s τ := by
  obtain ⟨E, n, hE40, hE, h8, h8l, hc⟩ := h
  have hH : ∀ σ2, rv_Hi k E σ2 s → rv_Hi k E σ2 σ := fun σ2 q => q.to (hk 0 0 (by decide)) (funext fun i => hk 1 i (by decide)) (funext fun i => hk 2 i (by decide)) (funext fun i => hk 3 i (by decide)) (hk 5 k (by decide)) (fun i _ => hk 7 _ (by decide))
  refine ⟨E, n, hE40, by rw [hk 6 k (by decide)]; exact hE, by rw [hk 8 k (by decide)]; exact h8, by rw [hk 8 k (by decide)]; exact h8l, ?_⟩
  rw [hk 12 k (by decide)]
  rcases hc with ⟨a1, a2, a3, a4⟩ | ⟨a1, a2, a3, a4, a5, a6⟩
  · exact Or.inl ⟨a1, a2, a3, a4.mono (fun _ q => q) hH⟩
  · exact Or.inr ⟨a1, a2, a3, a4, a5.mono (fun _ q => q) hH, a6⟩
theorem rv_T.K {k : Nat} {σ s τ : rf_Mem} (h : rv_T k σ τ) (hK : rv_K k (rf_wr σ 13 k 1) s) : rv_T k s τ := h.keep (fun _ _ ha => kept_at hK ha)
theorem rv_K13 {k : Nat} {σ s : rf_Mem} (hK : rv_K k (rf_wr σ 13 k 1) s) : rv_FO k σ s := (rv_FO.rf.wr (rv_O_s (by decide))).tr hK.F.o
/-- what stateOf finds -/
theorem rem_all {N k : Nat} {σ τ : rf_Mem} (h : rv_All N σ τ) (hk : k < 3) : rv_All N (xx_remember σ k) τ ∧ xr_stateOf σ k = τ 4 k ∧ (τ 4 k = 0 → xx_remember σ k = σ ∧ σ 4 k = 0) ∧ (¬ τ 4 k = 0 → σ 4 k = 1 ∧ xx_remember σ k 4 k = 1 ∧ rv_T k (xx_remember σ k) τ ∧ rv_N k (xx_remember σ k) τ) := by
  have h0 := h
  obtain ⟨a1, a2, a3, a4, a5, a6, a7⟩ := h
  obtain ⟨hr, hg⟩ := a7 k hk
  rcases hr with ⟨b1, b2, b3⟩ | ⟨b1, b2, b3, b4⟩
  · have hrem : xx_remember σ k = σ := by rw [xx_remember, if_pos b1]
    rw [hrem, xr_stateOf, if_pos b1]
    exact ⟨h0, b2.symm, fun _ => ⟨rfl, b1⟩, fun q => absurd b2 q⟩
  · obtain ⟨hN, hK⟩ := rem_ok a1 a2 b1 b3 b4
    have hT := b3.K hK
    have h4' : xx_remember σ k 4 k = 1 := by rw [kept_at hK (by decide)]; exact b1
    have hne : ¬ τ 4 k = 0 := by rcases st_of b3 with q | q | q | q <;> rw [q] <;> decide
    refine ⟨all_of h0 (rv_K13 hK) rv_GO.rf ?_ (fun _ => Or.inr ⟨h4', ?_, hT, Or.inr hN⟩) (fun _ => ?_), ?_, fun q => absurd q hne, fun _ => ⟨b1, h4', hT, hN⟩⟩
    · unfold rv_Z
      rw [show xx_remember σ k 9 = σ 9 from funext fun i => kept_at hK (by decide), show xx_remember σ k 10 = σ 10 from funext fun i => kept_at hK (by decide), show xx_remember σ k 11 = σ 11 from funext fun i => kept_at hK (by decide)]
      exact a2
    · rw [kept_at hK (by decide)]; exact b2
    · refine ⟨by rw [kept_at hK (by decide)]; exact hg.1, (ok_remember ⟨a1.2.1, hg.1, hg.2.2.1, hg.2.1⟩).2.2.2, by rw [kept_at hK (by decide)]; exact hg.2.2.1, hg.2.2.2⟩
    · rw [xr_stateOf, if_neg (by rw [b1]; decide)]
      exact hN.2.2.1
theorem all_ok {N : Nat} {σ τ : rf_Mem} (h : rv_All N σ τ) : ∀ k, k < 3 → xx_ok σ k := fun k hk => ⟨h.1.2.1, (h.2.2.2.2.2.2 k hk).2.1, (h.2.2.2.2.2.2 k hk).2.2.2.1, (h.2.2.2.2.2.2 k hk).2.2.1⟩
theorem all_mok {N : Nat} {σ τ : rf_Mem} (h : rv_All N σ τ) : ∀ k, k < 3 → mm_ok τ k := fun k hk => ⟨by rw [← h.1.1]; exact h.1.2.1, (h.2.2.2.2.2.2 k hk).2.2.2.2, fun j hj => by
  rw [← (h.1.2.2 j hj).2.1]
  exact pk_andIn (σ 2 j) (m := 3) 2 rfl (by decide)⟩
end
section
/-! the operations -/
theorem go_on {k E n : Nat} {σ τ : rf_Mem} {z v : Int32} (hS : rv_S σ τ) (hZ : rv_Z σ τ) (h8 : σ 8 k = τ 11 k) (h8l : rf_le (σ 8 k) 24) (hnow : σ 0 2 = τ 0 2) (hnt : ∃ t : Nat, t ≤ 100000 ∧ σ 0 2 = nI t) (h13 : σ 13 k = 1) (h12 : σ 12 k = 0) (hV : rv_V k σ τ) (hE : σ 6 k = nI E) (hEl : E < 40) (hi : rv_In k τ) (hM : τ 10 k = nI E) (hn : ∃ w : Nat, w < 60 ∧ τ 6 k = nI w ∧ n ≤ 60 * E + w) (hR : rv_R k E n (fun s => rv_V k s τ ∧ s 16 k = 5) σ)
    (ho : mm_op τ k = 5 ∨ mm_op τ k = 6) (hz : (mm_op τ k = 6 ∧ z = 0) ∨ (¬ mm_op τ k = 6 ∧ ¬ z = 0)) : rv_Fin k σ τ (xx_carryOn (xx_addEvent σ k v) k) (mm_goOn (mm_pastWait τ k z v) k) := by
  obtain ⟨w, hw1, hw2, hw3⟩ := hn
  obtain ⟨hp, e1, e2, e3, -⟩ := rv_at hS hV hi
  have hx4 : rf_q (σ 2 (rf_ix (σ 15 k))) < 4 := (rf_q_of _).1
  have hfa : mm_fa τ k = k * 4 + rf_q (σ 2 (rf_ix (σ 15 k))) := e3
  have hixE : rf_ix (nI E) = E := nI_clamp (by omega)
  have hms : σ 18 k = nI E := by rw [hV.2.2.1]; exact hM
  have hadd : xx_addEvent σ k v = rf_wr (rf_wr σ 7 (k * 40 + E) v) 6 k (nI (E + 1)) := by
    rw [xx_addEvent, hE, if_pos (show nI E < 40 from nI_lt (b := 40) hEl (by decide)), hixE, nI_1]
  rw [hadd]
  have hpl : xx_goTo (rf_wr (rf_wr (rf_wr σ 7 (k * 40 + E) v) 6 k (nI (E + 1))) 16 k 5) k (σ 15 k) = rf_wr (rf_wr (rf_wr σ 7 (k * 40 + E) v) 6 k (nI (E + 1))) 16 k 5 := by
    rw [goTo_in (σ := rf_wr (rf_wr (rf_wr σ 7 (k * 40 + E) v) 6 k (nI (E + 1))) 16 k 5) (by rw [hV.2.1]; exact hi.1) (show σ 15 k < σ 0 0 by rw [hV.2.1, hS.1]; exact hi.2.1)]
    exact rf_wr_self _ 15 k
  have hca : xx_carryOn (rf_wr (rf_wr σ 7 (k * 40 + E) v) 6 k (nI (E + 1))) k = xx_loop 2600 (rf_wr (rf_wr (rf_wr σ 7 (k * 40 + E) v) 6 k (nI (E + 1))) 16 k 5) k := by
    unfold xx_carryOn
    exact congrArg (fun m => xx_loop 2600 m k) hpl
  rw [hca]
  generalize hσ1 : rf_wr (rf_wr (rf_wr σ 7 (k * 40 + E) v) 6 k (nI (E + 1))) 16 k 5 = σ1
  have hF1 : rv_F k σ σ1 := by rw [← hσ1]; exact ((rv_F.rf.wr (Or.inr (Or.inl ⟨rfl, by omega, by omega⟩))).wr (rv_c_s (by decide))).wr (rv_c_s (by decide))
  have hS1 : rv_S σ1 τ := hS.fr hF1 rv_G.rf
  have hV1 : rv_V k σ1 τ := by rw [← hσ1]; exact hV
  have h51 : σ1 16 k = 5 := by rw [← hσ1]; simp [rf_wr_at]
  have hm1 : σ1 18 k = nI E := by rw [← hσ1]; exact hms
  have h61 : σ1 6 k = nI (E + 1) := by rw [← hσ1]; simp [rf_wr_at]
  have h71 : σ1 7 (k * 40 + E) = v := by rw [← hσ1]; simp [rf_wr_at]
  have h7l : ∀ x, x < E → σ1 7 (k * 40 + x) = σ 7 (k * 40 + x) := by
    intro x hx
    rw [← hσ1]
    simp only [rf_wr_at]
    simp [show ¬ x = E by omega]
  have hop : xx_op σ1 k = mm_op τ k := (rv_at hS1 hV1 hi).2.1.symm
  have ho3 : mm_op τ k = 5 ∨ mm_op τ k = 6 ∨ mm_op τ k = 7 := by
    rcases ho with q | q
    · exact Or.inl q
    · exact Or.inr (Or.inl q)
  have hst : xx_loop 2600 σ1 k = xx_loop 2599 (xx_meet σ1 k (mm_op τ k)) k := by
    refine (loop_go 2599 h51).trans ?_
    rw [step_wait (by rw [hop]; exact ho3), hop, await_meet hm1 h61 (by omega) (by omega)]
  rw [hst]
  obtain ⟨q1, q2, q3⟩ := step_meet (o := mm_op τ k) (z := z) (v := v) hS1 hV1 hi h51 (by
    rcases hz with q | ⟨a, b⟩
    · exact Or.inl q
    · exact Or.inr ⟨a, b, by rw [hm1, hixE, h71]⟩)
  obtain ⟨g1, g2, g3, g4, g5⟩ := past_at (z := z) (v := v) hx4 hfa
  unfold mm_goOn
  refine (lock k (2461 - 60 * (E + 1)) (xx_meet σ1 k (mm_op τ k)) (mm_pastWait τ k z v) (E + 1) 0 (n + 1) 2599 3000 ⟨hS1.fr q3.F g1, ?_, ?_, ?_, ?_, ?_, ?_, ?_⟩ q1 q2 ?_ ?_ (by omega) g3 (by omega) (by omega) ?_ (by omega) (by omega) (by omega)).tr (hF1.tr q3.F) g1
  · unfold rv_Z
    rw [q3.eq 9 (by decide), q3.eq 10 (by decide), q3.eq 11 (by decide), g1.eq 12 (by decide), g1.eq 13 (by decide), g5, hF1.eq 9 (by decide), hF1.eq 10 (by decide)]
    refine ⟨hZ.1, hZ.2.1, ?_⟩
    rw [← hσ1]
    exact hZ.2.2
  · rw [q3.eq 8 (by decide), hF1.eq 8 (by decide), g1.eq 11 (by decide)]; exact h8
  · rw [q3.eq 8 (by decide), hF1.eq 8 (by decide)]; exact h8l
  · rw [q3.eq 0 (by decide), hF1.eq 0 (by decide), g1.eq 0 (by decide)]; exact hnow
  · rw [q3.eq 0 (by decide), hF1.eq 0 (by decide)]; exact hnt
  · rw [q3.eq 13 (by decide), hF1.eq 13 (by decide)]; exact h13
  · rw [q3.eq 12 (by decide), ← hσ1]; exact h12
  · rw [q3.eq 6 (by decide)]; exact h61
  · rw [g2, hM, nI_1]
  · refine rep_app (τ := τ) hS hi hM hEl ho3 ?_ (fun a _ _ => rfl) (fun σ2 hH => ?_) hR
    · rcases hz with q | ⟨a, b⟩
      · exact Or.inl q
      · exact Or.inr ⟨a, b, by rw [q3.eq 7 (by decide)]; exact h71⟩
    · have hH1 := hH.K q3
      refine rv_Hi.to ⟨hH1.1, hH1.2.1, hH1.2.2.1, hH1.2.2.2.1, hH1.2.2.2.2.1, fun i hi => hH1.2.2.2.2.2.1 i (by omega), ?_⟩ (by rw [hF1.eq 0 (by decide)]) (hF1.eq 1 (by decide)) (hF1.eq 2 (by decide)) (hF1.eq 3 (by decide)) (by rw [hF1.eq 5 (by decide)]) h7l
      obtain ⟨e, a1, a2, a3⟩ := hH1.2.2.2.2.2.2
      exact ⟨e, by omega, a2, a3⟩
/-- from the run's end state to the whole -/
theorem all_fin {N k : Nat} {σ τ σ0 τ0 σ1 τ1 : rf_Mem} (h : rv_All N σ τ) (hF : rv_FO k σ σ0) (hG : rv_GO k τ τ0) (h4 : σ0 4 k = 1) (hl : σ 0 1 = 1) (hm : rf_le (σ1 18 k) 40) (hf : rv_Fin k σ0 τ0 σ1 τ1) : rv_All N σ1 τ1 ∧ σ1 16 k = τ1 4 k := by
  obtain ⟨f1, f2, f3, f4, f5⟩ := hf
  obtain ⟨E, n, hE40, hE, h8, h8l, hc⟩ := f1
  have hFO := hF.tr f3.o
  refine ⟨all_of h hFO (hG.tr f4.o) f5 (fun _ => Or.inr ⟨by rw [f3.eq 4 (by decide)]; exact h4, by rw [hFO.eq 0 (by decide)]; exact hl, ⟨E, n, hE40, hE, h8, h8l, hc⟩, Or.inr f2⟩) (fun _ => ⟨⟨E, hE40, hE⟩, hm, h8l, by rw [← h8]; exact h8l⟩), f2.2.2.1⟩
theorem nt_of {N : Nat} (hN : N ≤ 100) {x : Int32} (h : ∃ t : Nat, t ≤ 1000 * N ∧ x = nI t) : ∃ t : Nat, t ≤ 100000 ∧ x = nI t := by
  obtain ⟨t, h1, h2⟩ := h
  exact ⟨t, by omega, h2⟩
theorem bad_run (r : Int32) : (xr_bad r = 0 ∧ mr_isRun r = 1 ∧ ∃ k : Nat, k < 3 ∧ r = nI k ∧ rf_ix r = k) ∨ (¬ xr_bad r = 0 ∧ mr_isRun r = 0) := by
  by_cases h : xr_bad r = 0
  · obtain ⟨k, hk, e⟩ := rf_run h
    refine Or.inl ⟨h, by rw [e]; exact mr_run1 hk, k, hk, e, by rw [e]; exact rf_ixk hk⟩
  · refine Or.inr ⟨h, ?_⟩
    by_cases h2 : mr_isRun r = 0
    · exact h2
    · obtain ⟨k, hk, e⟩ := mr_run h2
      exact absurd (by rw [e]; exact rf_bad0 hk) h
theorem op_answer {N : Nat} (hN : N ≤ 100) {σ τ : rf_Mem} (h : rv_All N σ τ) (r v : Int32) : xr_answer σ r v = mr_answer τ r v ∧ rv_All N (xx_answer σ r v) (mm_answer τ r v) := by
  rcases bad_run r with ⟨b1, b2, k, hk, e, ek⟩ | ⟨b1, b2⟩
  · have b3 : ¬ mr_isRun r = 0 := by rw [b2]; decide
    obtain ⟨hA, hst, h0, h1⟩ := rem_all h hk
    rw [xr_answer, if_pos b1, mr_answer, if_neg b3, xx_answer, if_pos b1, mm_answer, if_neg b3, ek, hst]
    by_cases hc : τ 4 k = 1
    · rw [if_pos hc, if_pos hc, if_pos hc, if_pos hc]
      obtain ⟨c1, c2, c3, c4⟩ := h1 (by rw [hc]; decide)
      have c3' := c3
      obtain ⟨E, n, hE40, hE, h8, h8l, ⟨a1, -⟩ | ⟨a1, a2, a3, a4, a5, ⟨-, a7, a8⟩ | ⟨a6, -⟩ | ⟨a6, -⟩⟩⟩ := c3
      · rw [hc] at a1; exact absurd a1 (by decide)
      · have hl : xx_remember σ k 0 1 = 1 := by
          rcases (hA.2.2.2.2.2.2 k hk).1 with ⟨q, -⟩ | ⟨-, q, -⟩
          · rw [c2] at q; exact absurd q (by decide)
          · exact q
        have hf := go_on (v := v) (z := 1) hA.1 hA.2.1 h8 h8l hA.2.2.2.2.1 (nt_of hN hA.2.2.2.2.2.1) c4.1 a8 c4.2.1 hE a1 a2 a3 a4 a5 (Or.inl a7) (Or.inr ⟨by rw [a7]; decide, by decide⟩)
        have hall := all_fin hA rv_FO.rf rv_GO.rf c2 hl (ok_carryOn (ok_addEvent (all_ok hA k hk))).2.2.2 hf
        exact ⟨hall.2, hall.1⟩
      · rw [hc] at a6; exact absurd a6 (by decide)
      · rw [hc] at a6; exact absurd a6 (by decide)
    · rw [if_neg hc, if_neg hc, if_neg hc, if_neg hc]
      exact ⟨rfl, hA⟩
  · rw [xr_answer, if_neg b1, mr_answer, if_pos b2, xx_answer, if_neg b1, mm_answer, if_pos b2]
    exact ⟨rfl, h⟩
/-! pass -/
theorem op_pass1 {N : Nat} (hN : N ≤ 100) {σ τ : rf_Mem} {k : Nat} (hk : k < 3) (h : rv_All N σ τ) : xr_pass1 σ k = mr_pass1 τ k ∧ rv_All N (xx_pass1 σ k) (mm_pass1 τ k) := by
  obtain ⟨hA, hst, h0, h1⟩ := rem_all h hk
  rw [xr_pass1, mr_pass1, xx_pass1, mm_pass1, hst]
  by_cases hc : τ 4 k = 2
  · rw [if_pos hc, if_pos hc, if_pos hc, if_pos hc]
    obtain ⟨c1, c2, c3, c4⟩ := h1 (by rw [hc]; decide)
    obtain ⟨E, n, hE40, hE, h8, h8l, ⟨a1, -⟩ | ⟨a1, a2, a3, a4, a5, ⟨a6, -⟩ | ⟨-, a7, a8, a9⟩ | ⟨a6, -⟩⟩⟩ := c3
    · rw [hc] at a1; exact absurd a1 (by decide)
    · rw [hc] at a6; exact absurd a6 (by decide)
    · rw [hA.2.2.2.2.1, a8]
      by_cases hw : τ 0 2 < τ 9 k
      · rw [if_pos hw, if_pos hw, if_pos hw]
        exact ⟨rfl, hA⟩
      · rw [if_neg hw, if_neg hw, if_neg hw]
        refine ⟨rfl, ?_⟩
        have hl : xx_remember σ k 0 1 = 1 := by
          rcases (hA.2.2.2.2.2.2 k hk).1 with ⟨q, -⟩ | ⟨-, q, -⟩
          · rw [c2] at q; exact absurd q (by decide)
          · exact q
        have hf := go_on (σ := rf_wr (xx_remember σ k) 12 k 0) (τ := τ) (k := k) (E := E) (n := n) (v := 0) (z := 0) hA.1 hA.2.1 h8 h8l hA.2.2.2.2.1 (nt_of hN hA.2.2.2.2.2.1) c4.1 (by simp [rf_wr_at]) c4.2.1 hE a1 a2 a3 a4 (a5.mono (fun _ q => q) (fun _ q => q)) (Or.inr a7) (Or.inl ⟨a7, rfl⟩)
        exact (all_fin (σ0 := rf_wr (xx_remember σ k) 12 k 0) hA (rv_FO.rf.wr (rv_O_s (by decide))) rv_GO.rf c2 hl (ok_carryOn (ok_addEvent (ok_wake (all_ok hA k hk)))).2.2.2 hf).1
    · rw [hc] at a6; exact absurd a6 (by decide)
  · rw [if_neg hc, if_neg hc, if_neg hc, if_neg hc]
    exact ⟨rfl, hA⟩
theorem op_passN {N : Nat} (hN : N ≤ 100) {σ τ : rf_Mem} (h : rv_All N σ τ) : ∀ j, j ≤ 3 → xr_passN σ j = mr_passN τ j ∧ rv_All N (xx_passN σ j) (mm_passN τ j)
  | 0, _ => ⟨rfl, h⟩
  | j + 1, hj => by
    obtain ⟨h1, h2⟩ := op_passN hN h j (by omega)
    obtain ⟨h3, h4⟩ := op_pass1 hN (by omega : j < 3) h2
    exact ⟨by rw [xr_passN, mr_passN, h1, h3], h4⟩
theorem all_now {N : Nat} (hN : N ≤ 99) {σ τ : rf_Mem} (h : rv_All N σ τ) {n : Int32} (h0 : ¬ n < 0) (h1 : n ≤ 1000) : rv_All (N + 1) (xx_now σ n) (mm_now τ n) := by
  obtain ⟨a1, a2, a3, a4, a5, ⟨t, ht, et⟩, a7⟩ := h
  obtain ⟨j, hj, ej⟩ := nI_of2 (M := 1000) (n := 1000) rfl h0 h1
  refine ⟨a1, a2, a3, a4, ?_, ⟨t + j, by omega, ?_⟩, fun k hk => ⟨(a7 k hk).1.ag ⟨rfl, fun q => q, rfl, rfl, rfl, fun a i ho => ?_⟩ ⟨rfl, rfl, rfl, rfl, fun a i ho => ?_⟩, (a7 k hk).2⟩⟩
  · simp only [xx_now, mm_now, rf_wr_at, and_self, ↓reduceIte]
    rw [a5]
  · simp only [xx_now, rf_wr_at, and_self, ↓reduceIte]
    rw [et, ej, nI_add]
  · rw [xx_now, rf_wr_ne]
    rintro rfl
    exact rv_n4 (by decide) ho
  · rw [mm_now, rf_wr_ne]
    rintro rfl
    exact rv_p4 (by decide) ho
theorem all_up {N : Nat} {σ τ : rf_Mem} (h : rv_All N σ τ) : rv_All (N + 1) σ τ := by
  obtain ⟨a1, a2, a3, a4, a5, ⟨t, ht, et⟩, a7⟩ := h
  exact ⟨a1, a2, a3, a4, a5, ⟨t, by omega, et⟩, a7⟩
theorem op_pass {N : Nat} (hN : N ≤ 99) {σ τ : rf_Mem} (h : rv_All N σ τ) (n : Int32) : xr_pass σ n = mr_pass τ n ∧ rv_All (N + 1) (xx_pass σ n) (mm_pass τ n) := by
  rw [xr_pass, mr_pass, xx_pass, mm_pass]
  by_cases h0 : n < 0
  · rw [if_pos h0, if_pos h0, if_pos h0, if_pos h0]
    exact ⟨rfl, all_up h⟩
  · rw [if_neg h0, if_neg h0, if_neg h0, if_neg h0]
    by_cases h1 : n ≤ 1000
    · rw [if_pos h1, if_pos h1, if_pos h1, if_pos h1]
      have h2 := op_passN (by omega) (all_now hN h h0 h1) 3 (Nat.le_refl _)
      exact ⟨by rw [h2.1], h2.2⟩
    · rw [if_neg h1, if_neg h1, if_neg h1, if_neg h1]
      exact ⟨rfl, all_up h⟩
end
section
/-! signal -/
theorem put_FO {k : Nat} {σ : rf_Mem} {c v : Int32} (h : vp_in (σ 8 k) 24) : rv_FO k σ (xx_put σ k c v) := by
  have hx := (rf_in h (by decide)).1
  exact (((rv_FO.rf.wr (rv_O_24 (by decide) hx)).wr (rv_O_24 (by decide) hx)).wr (rv_O_24 (by decide) hx)).wr (rv_O_s (by decide))
theorem put_GO {k : Nat} {σ : rf_Mem} {c v : Int32} (h : vp_in (σ 11 k) 24) : rv_GO k σ (mm_put σ k c v) := by
  have hx := (rf_in h (by decide)).1
  exact (((rv_GO.rf.wr (rv_P_24 (by decide) hx)).wr (rv_P_24 (by decide) hx)).wr (rv_P_24 (by decide) hx)).wr (rv_P_s (by decide))
theorem put_Z {k : Nat} {σ τ : rf_Mem} {c v : Int32} (hZ : rv_Z σ τ) (h8 : σ 8 k = τ 11 k) : rv_Z (xx_put σ k c v) (mm_put τ k c v) := by
  refine ⟨?_, ?_, ?_⟩
  · show upd (σ 9) (k * 24 + rf_ix (σ 8 k)) (c &&& 1) = upd (τ 12) (k * 24 + rf_ix (τ 11 k)) (c &&& 1)
    rw [hZ.1, h8]
  · show upd (σ 10) (k * 24 + rf_ix (σ 8 k)) v = upd (τ 13) (k * 24 + rf_ix (τ 11 k)) v
    rw [hZ.2.1, h8]
  · show upd (σ 11) (k * 24 + rf_ix (σ 8 k)) 0 = upd (τ 14) (k * 24 + rf_ix (τ 11 k)) 0
    rw [hZ.2.2, h8]
theorem put_8 {k : Nat} {σ τ : rf_Mem} {c v : Int32} (h8 : σ 8 k = τ 11 k) : xx_put σ k c v 8 k = mm_put τ k c v 11 k := by
  simp only [xx_put, mm_put, rf_wr_at, and_self, ↓reduceIte]
  rw [h8]
theorem op_signal {N : Nat} (hN : N ≤ 100) {σ τ : rf_Mem} (h : rv_All N σ τ) (r c v : Int32) : xr_signal σ r c v = mr_signal τ r c v ∧ rv_All N (xx_signal σ r c v) (mm_signal τ r c v) := by
  rcases bad_run r with ⟨b1, b2, k, hk, e, ek⟩ | ⟨b1, b2⟩
  · have b3 : ¬ mr_isRun r = 0 := by rw [b2]; decide
    obtain ⟨hA, hst, h0, h1⟩ := rem_all h hk
    rw [xr_signal, if_pos b1, mr_signal, if_neg b3, xx_signal, if_pos b1, mm_signal, if_neg b3, ek, hst]
    by_cases hc : τ 4 k = 0
    · simp only [if_pos hc]
      exact ⟨trivial, hA⟩
    · simp only [if_neg hc]
      by_cases hc4 : τ 4 k = 4
      · simp only [if_pos hc4]
        exact ⟨trivial, hA⟩
      · simp only [if_neg hc4]
        obtain ⟨c1, c2, c3, c4⟩ := h1 hc
        obtain ⟨E, n, hE40, hE, h8, h8l, ⟨a1, -⟩ | ⟨a1, a2, a3, a4, a5, a6⟩⟩ := c3
        · exact absurd a1 hc4
        · rw [h8]
          by_cases hfull : τ 11 k = 24
          · have hnl : ¬ τ 11 k < 24 := by rw [hfull]; decide
            simp only [if_pos hfull, if_neg hnl]
            exact ⟨trivial, hA⟩
          · have hl24 : τ 11 k < 24 := by
              rw [h8] at h8l
              exact rf_ne_lt h8l (by decide) hfull
            simp only [if_neg hfull, if_pos hl24]
            have hin : vp_in (xx_remember σ k 8 k) 24 := rf_le_in h8l (by decide) (by rw [h8]; exact hl24)
            have hinm : vp_in (τ 11 k) 24 := by rw [← h8]; exact hin
            have hlk : xx_remember σ k 0 1 = 1 := by
              rcases (hA.2.2.2.2.2.2 k hk).1 with ⟨q, -⟩ | ⟨-, q, -⟩
              · rw [c2] at q; exact absurd q (by decide)
              · exact q
            have hfo := put_FO (c := c) (v := v) hin
            have hgo := put_GO (c := c) (v := v) hinm
            have hz := put_Z (c := c) (v := v) hA.2.1 h8
            have h8' := put_8 (k := k) (c := c) (v := v) h8
            have hokp : xx_ok (xx_put (xx_remember σ k) k c v) k := ok_put (all_ok hA k hk) (by rw [h8]; exact hl24)
            have h8l' : rf_le (xx_put (xx_remember σ k) k c v 8 k) 24 := hokp.2.2.1
            rw [xx_signalT, mm_signalT]
            by_cases hc3 : τ 4 k = 3
            · simp only [if_pos hc3]
              rcases a6 with ⟨q, -⟩ | ⟨q, -⟩ | ⟨-, d1, d2, d3⟩
              · rw [hc3] at q; exact absurd q (by decide)
              · rw [hc3] at q; exact absurd q (by decide)
              · obtain ⟨w, hw1, hw2, hw3⟩ := a4
                have hpl : xx_goTo (rf_wr (xx_put (xx_remember σ k) k c v) 16 k 5) k (xx_remember σ k 15 k) = rf_wr (xx_put (xx_remember σ k) k c v) 16 k 5 := by
                  rw [goTo_in (σ := rf_wr (xx_put (xx_remember σ k) k c v) 16 k 5) (by rw [c4.2.1.2.1]; exact a2.1) (show xx_remember σ k 15 k < xx_remember σ k 0 0 by rw [c4.2.1.2.1, hA.1.1]; exact a2.2.1)]
                  exact rf_wr_self _ 15 k
                have hca : xx_carryOn (xx_put (xx_remember σ k) k c v) k = xx_loop 2600 (rf_wr (xx_put (xx_remember σ k) k c v) 16 k 5) k := by
                  unfold xx_carryOn
                  exact congrArg (fun m => xx_loop 2600 m k) hpl
                have hf : rv_Fin k (rf_wr (xx_put (xx_remember σ k) k c v) 16 k 5) (mm_put τ k c v) (xx_carryOn (xx_put (xx_remember σ k) k c v) k) (mm_goOn (mm_put τ k c v) k) := by
                  rw [hca]
                  unfold mm_goOn
                  exact lock k (2461 - 60 * E) (rf_wr (xx_put (xx_remember σ k) k c v) 16 k 5) (mm_put τ k c v) E w n 2600 3000 ⟨hA.1, hz, h8', h8l', hA.2.2.2.2.1, nt_of hN hA.2.2.2.2.2.1, c4.1, d2⟩ c4.2.1 (Or.inl ⟨a2, by simp [rf_wr_at]⟩) hE a3 hE40 hw2 (by omega) hw3 (a5.mono (fun s q => ⟨q.1, Or.inl ⟨a2, q.2⟩⟩) (fun _ q => q)) (by omega) (by omega) (by omega)
                have hall := all_fin (σ0 := rf_wr (xx_put (xx_remember σ k) k c v) 16 k 5) hA (hfo.wr (rv_O_s (by decide))) hgo c2 hlk (ok_carryOn hokp).2.2.2 hf
                exact ⟨hall.2, hall.1⟩
            · simp only [if_neg hc3]
              refine ⟨c4.2.2.1, all_of hA hfo hgo hz (fun _ => Or.inr ⟨c2, hlk, ⟨E, n, hE40, hE, h8', h8l', Or.inr ⟨a1, a2, a3, a4, a5.mono (fun _ q => q) (fun _ q => q), ?_⟩⟩, Or.inr c4⟩) (fun _ => ⟨⟨E, hE40, hE⟩, hokp.2.2.2, h8l', by rw [← h8']; exact h8l'⟩)⟩
              rcases a6 with q | q | ⟨q, -⟩
              · exact Or.inl q
              · exact Or.inr (Or.inl q)
              · exact absurd q hc3
  · rw [xr_signal, if_neg b1, mr_signal, if_pos b2, xx_signal, if_neg b1, mm_signal, if_pos b2]
    exact ⟨rfl, h⟩
/-! start -/
theorem first_ok {k : Nat} {σ τ : rf_Mem} {a : Int32} (hL : σ 0 0 = τ 0 0) (ha : σ 5 k = a) (r0 : τ 7 (k * 4) = a) (r1 : τ 7 (k * 4 + 1) = 0) (r2 : τ 7 (k * 4 + 2) = 0) (r3 : τ 7 (k * 4 + 3) = 0) (h5 : τ 5 k = 0) (h10 : τ 10 k = 0) (h6 : τ 6 k = 0) : rv_V k (xx_first σ k) τ ∧ rv_A k (xx_first σ k) τ ∧ rv_K k (rf_wr σ 13 k 1) (xx_first σ k) := by
  have hreg : ∀ i, i < 4 → xx_blank σ k 14 (k * 4 + i) = τ 7 (k * 4 + i) := by
    intro i hi
    rcases (show i = 0 ∨ i = 1 ∨ i = 2 ∨ i = 3 by omega) with rfl | rfl | rfl | rfl
    · simp [xx_blank, xx_zero, rf_wr_at, r0, ha]
    · simp [xx_blank, xx_zero, rf_wr_at, r1]
    · simp [xx_blank, xx_zero, rf_wr_at, r2]
    · simp [xx_blank, xx_zero, rf_wr_at, r3]
  have hb18 : xx_blank σ k 18 k = 0 := by simp [xx_blank, rf_wr_at]
  have hb19 : xx_blank σ k 19 k = 0 := by simp [xx_blank, rf_wr_at]
  have hb00 : xx_blank σ k 0 0 = σ 0 0 := rfl
  have hKb : rv_K k (rf_wr σ 13 k 1) (xx_blank σ k) := by
    unfold xx_blank xx_zero
    exact (((((((((rv_K.rf.wr (rv_m_r (by decide))).wr (rv_m_r (by decide))).wr (rv_m_r (by decide))).wr (rv_m_r (by decide))).wr (rv_m_r (x := 0) (by decide))).wr (rv_m_s (by decide))).wr (rv_m_s (by decide))).wr (rv_m_s (by decide))).wr (rv_m_s (by decide)))
  unfold xx_first
  generalize xx_blank σ k = β at hreg hb18 hb19 hb00 hKb
  refine ⟨?_, ?_, goTo_K (hKb.wr (rv_m_s (by decide)))⟩
  · by_cases hi : ¬ (0 : Int32) < 0 ∧ (0 : Int32) < β 0 0
    · rw [goTo_in (σ := rf_wr β 16 k 5) hi.1 hi.2]
      exact ⟨fun i hi => by simpa [rf_wr_at] using hreg i hi, by simp [rf_wr_at, h5], by simp [rf_wr_at, hb18, h10], by simp [rf_wr_at, hb19, h6]⟩
    · rw [goTo_out (σ := rf_wr β 16 k 5) hi]
      exact ⟨fun i hi => by simpa [xx_finish, rf_wr_at] using hreg i hi, by simp [xx_finish, rf_wr_at, h5], by simp [xx_finish, rf_wr_at, hb18, h10], by simp [xx_finish, rf_wr_at, hb19, h6]⟩
  · by_cases hi : ¬ (0 : Int32) < 0 ∧ (0 : Int32) < β 0 0
    · rw [goTo_in (σ := rf_wr β 16 k 5) hi.1 hi.2]
      exact Or.inl ⟨⟨by rw [h5]; decide, by rw [h5, ← hL, ← hb00]; exact hi.2, by rw [h6]; decide⟩, by simp [rf_wr_at]⟩
    · rw [goTo_out (σ := rf_wr β 16 k 5) hi]
      exact Or.inr ⟨fun q => hi ⟨by decide, by rw [hb00, hL, ← h5]; exact q.2.1⟩, by simp [xx_finish, rf_wr_at], by simp [xx_finish, rf_wr_at]⟩
theorem all_lock {N : Nat} {σ τ : rf_Mem} (h : rv_All N σ τ) : rv_All N (rf_wr σ 0 1 1) (rf_wr τ 0 1 1) := by
  obtain ⟨a1, a2, a3, a4, a5, a6, a7⟩ := h
  refine ⟨a1, a2, by simp [rf_wr_at], Or.inr (by simp [rf_wr_at]), a5, a6, fun k hk => ⟨(a7 k hk).1.ag ⟨rfl, fun _ => by simp [rf_wr_at], rfl, rfl, rfl, fun a i ho => ?_⟩ ⟨rfl, rfl, rfl, rfl, fun a i ho => ?_⟩, (a7 k hk).2⟩⟩
  · rw [rf_wr_ne]
    rintro rfl
    exact rv_n4 (by decide) ho
  · rw [rf_wr_ne]
    rintro rfl
    exact rv_p4 (by decide) ho
theorem op_start {N : Nat} (hN : N ≤ 100) {σ τ : rf_Mem} (h : rv_All N σ τ) (r a : Int32) : xr_start σ r a = mr_start τ r a ∧ rv_All N (xx_start σ r a) (mm_start τ r a) := by
  rcases bad_run r with ⟨b1, b2, k, hk, e, ek⟩ | ⟨b1, b2⟩
  · have b3 : ¬ mr_isRun r = 0 := by rw [b2]; decide
    rw [xr_start, if_pos b1, mr_start, if_neg b3, xx_start, if_pos b1, mm_start, if_neg b3, ek]
    rcases (h.2.2.2.2.2.2 k hk).1 with ⟨c1, c2, c3⟩ | ⟨c1, c2, c3, c4⟩
    · simp only [if_pos c1, if_pos c2]
      have hA := all_lock h
      have hF0 : rv_FO k (rf_wr σ 0 1 1) (xx_startI σ k a) := ((((rv_FO.rf.wr (rv_O_s (by decide))).wr (rv_O_s (by decide))).wr (rv_O_s (by decide))).wr (rv_O_s (by decide))).wr (rv_O_s (by decide))
      have hG0 : rv_GO k (rf_wr τ 0 1 1) (mm_startI τ k a) := by
        unfold mm_startI mm_zero
        exact (((((((((rv_GO.rf.wr (Or.inl ⟨rfl, by omega, by omega⟩)).wr (Or.inl ⟨rfl, by omega, by omega⟩)).wr (Or.inl ⟨rfl, by omega, by omega⟩)).wr (Or.inl ⟨rfl, by omega, by omega⟩)).wr (Or.inl ⟨rfl, by omega, by omega⟩)).wr (rv_P_s (by decide))).wr (rv_P_s (by decide))).wr (rv_P_s (by decide))).wr (rv_P_s (by decide))).wr (rv_P_s (by decide))
      have hmem : ∀ s : rf_Mem, s 0 0 = σ 0 0 → s 5 k = a → rv_V k (xx_first s k) (mm_startI τ k a) ∧ rv_A k (xx_first s k) (mm_startI τ k a) ∧ rv_K k (rf_wr s 13 k 1) (xx_first s k) := fun s s0 s5 =>
        first_ok (by rw [s0]; exact h.1.1) s5 (by simp [mm_startI, rf_wr_at]) (by simp [mm_startI, mm_zero, rf_wr_at]) (by simp [mm_startI, mm_zero, rf_wr_at]) (by simp [mm_startI, mm_zero, rf_wr_at]) (by simp [mm_startI, rf_wr_at]) (by simp [mm_startI, rf_wr_at]) (by simp [mm_startI, rf_wr_at])
      have h5 : xx_startI σ k a 5 k = a := by simp [xx_startI, rf_wr_at]
      obtain ⟨m1, m2, m3⟩ := hmem (xx_startI σ k a) rfl h5
      have hF1 : rv_FO k (rf_wr σ 0 1 1) (xx_first (xx_startI σ k a) k) := hF0.tr (rv_K13 m3)
      have hS1 : rv_S (xx_first (xx_startI σ k a) k) (mm_startI τ k a) := by
        unfold rv_S
        rw [hF1.eq 0 (by decide), hF1.eq 1 (by decide), hF1.eq 2 (by decide), hF1.eq 3 (by decide), hG0.eq 0 (by decide), hG0.eq 1 (by decide), hG0.eq 2 (by decide), hG0.eq 3 (by decide)]
        exact hA.1
      have e8 : xx_first (xx_startI σ k a) k 8 k = 0 := by rw [kept_at m3 (by decide)]; simp [xx_startI, rf_wr_at]
      have hf : rv_Fin k (xx_first (xx_startI σ k a) k) (mm_startI τ k a) (xx_begin (xx_startI σ k a) k) (mm_goOn (mm_startI τ k a) k) := by
        rw [begin_eq]
        unfold mm_goOn
        refine lock k 2461 (xx_first (xx_startI σ k a) k) (mm_startI τ k a) 0 0 0 2600 3000 ⟨hS1, ?_, ?_, ?_, ?_, ?_, ?_, ?_⟩ m1 m2 ?_ ?_ (by omega) ?_ (by omega) (by omega) ?_ (by omega) (by omega) (by omega)
        · unfold rv_Z
          rw [show xx_first (xx_startI σ k a) k 9 = xx_startI σ k a 9 from funext fun i => kept_at m3 (by decide), show xx_first (xx_startI σ k a) k 10 = xx_startI σ k a 10 from funext fun i => kept_at m3 (by decide), show xx_first (xx_startI σ k a) k 11 = xx_startI σ k a 11 from funext fun i => kept_at m3 (by decide)]
          exact h.2.1
        · rw [e8]; simp [mm_startI, rf_wr_at]
        · rw [e8]; exact ⟨0, by decide, rfl⟩
        · rw [hF1.eq 0 (by decide), hG0.eq 0 (by decide)]; exact hA.2.2.2.2.1
        · rw [hF1.eq 0 (by decide)]; exact nt_of hN hA.2.2.2.2.2.1
        · rw [m3 13 k (rv_na (by decide))]; simp [rf_wr_at]
        · rw [kept_at m3 (by decide)]; simp [xx_startI, rf_wr_at]
        · rw [kept_at m3 (by decide)]; simp only [xx_startI, rf_wr_at, and_self, ↓reduceIte]; rfl
        · simp only [mm_startI, rf_wr_at, and_self, ↓reduceIte]; rfl
        · simp only [mm_startI, rf_wr_at, and_self, ↓reduceIte]; rfl
        · intro s hH
          obtain ⟨n1, n2, n3⟩ := hmem s (hH.1.trans (by rw [kept_at m3 (by decide)]; rfl)) (hH.2.2.2.2.1.trans (by rw [kept_at m3 (by decide)]; exact h5))
          exact ⟨⟨n1, n2⟩, n3⟩
      have hall := all_fin hA hF1 hG0 (by rw [kept_at m3 (by decide)]; simp [xx_startI, rf_wr_at]) (by simp [rf_wr_at]) (ok_begin (ok_startI h.1.2.1)).2.2.2 hf
      exact ⟨hall.2, hall.1⟩
    · have d1 : ¬ σ 4 k = 0 := by rw [c1]; decide
      have d2 : ¬ τ 4 k = 0 := by rcases st_of c3 with q | q | q | q <;> rw [q] <;> decide
      simp only [if_neg d1, if_neg d2]
      exact ⟨trivial, h⟩
  · rw [xr_start, if_neg b1, mr_start, if_pos b2, xx_start, if_neg b1, mm_start, if_pos b2]
    exact ⟨rfl, h⟩
end
section
/-! forget, clear, emit, and the questions -/
theorem op_forget {N : Nat} {σ τ : rf_Mem} (h : rv_All N σ τ) (r : Int32) : xr_forget r = mr_forget r ∧ rv_All N (xx_forget σ r) τ := by
  rcases bad_run r with ⟨b1, b2, k, hk, e, ek⟩ | ⟨b1, b2⟩
  · have b3 : ¬ mr_isRun r = 0 := by rw [b2]; decide
    rw [xr_forget, if_pos b1, mr_forget, if_neg b3, xx_forget, if_pos b1, ek]
    have hFO : rv_FO k σ (xx_forgetT σ k) := by
      unfold xx_forgetT xx_zero
      exact (((((((rv_FO.rf.wr (rv_O_s (by decide))).wr (Or.inl ⟨rfl, by omega, by omega⟩)).wr (Or.inl ⟨rfl, by omega, by omega⟩)).wr (Or.inl ⟨rfl, by omega, by omega⟩)).wr (Or.inl ⟨rfl, by omega, by omega⟩)).wr (rv_O_s (by decide))).wr (rv_O_s (by decide))).wr (rv_O_s (by decide))
    have hke : ∀ a i, a < 13 → xx_forgetT σ k a i = σ a i := by
      intro a i ha
      unfold xx_forgetT xx_zero
      rw [rf_wr_ne _ _ _ (by omega), rf_wr_ne _ _ _ (by omega), rf_wr_ne _ _ _ (by omega), rf_wr_ne _ _ _ (by omega), rf_wr_ne _ _ _ (by omega), rf_wr_ne _ _ _ (by omega), rf_wr_ne _ _ _ (by omega), rf_wr_ne _ _ _ (by omega)]
    refine ⟨rfl, all_of h hFO rv_GO.rf h.2.1 (fun _ => ?_) (fun _ => (h.2.2.2.2.2.2 k hk).2)⟩
    rcases (h.2.2.2.2.2.2 k hk).1 with c | ⟨c1, c2, c3, c4⟩
    · exact Or.inl c
    · exact Or.inr ⟨c1, c2, c3.keep hke, Or.inl (by simp [xx_forgetT, xx_zero, rf_wr_at])⟩
  · rw [xr_forget, if_neg b1, mr_forget, if_pos b2, xx_forget, if_neg b1]
    exact ⟨rfl, h⟩
theorem op_clear {N : Nat} {σ τ : rf_Mem} (h : rv_All N σ τ) : rv_All N (xx_clear σ) (mm_clear τ) := by
  obtain ⟨a1, a2, a3, a4, a5, a6, a7⟩ := h
  refine ⟨⟨by simp [xx_clear, xx_clear1, mm_clear, rf_wr_at], ⟨0, by omega, by simp only [xx_clear, xx_clear1, rf_wr_at]; rfl⟩, a1.2.2⟩, a2, by simp [xx_clear, xx_clear1, mm_clear, rf_wr_at], Or.inl (by simp [xx_clear, xx_clear1, rf_wr_at]), by simp [xx_clear, xx_clear1, mm_clear, rf_wr_at], ⟨0, by omega, by simp only [xx_clear, xx_clear1, rf_wr_at]; rfl⟩, fun k hk => ?_⟩
  have z : ∃ j : Nat, j ≤ 40 ∧ (0 : Int32) = nI j := ⟨0, by omega, rfl⟩
  have z2 : ∃ j : Nat, j ≤ 24 ∧ (0 : Int32) = nI j := ⟨0, by omega, rfl⟩
  have e6 : xx_clear σ 6 k = 0 := by rcases (show k = 0 ∨ k = 1 ∨ k = 2 by omega) with rfl | rfl | rfl <;> simp [xx_clear, xx_clear1, rf_wr_at]
  have e8 : xx_clear σ 8 k = 0 := by rcases (show k = 0 ∨ k = 1 ∨ k = 2 by omega) with rfl | rfl | rfl <;> simp [xx_clear, xx_clear1, rf_wr_at]
  have e4 : xx_clear σ 4 k = 0 := by rcases (show k = 0 ∨ k = 1 ∨ k = 2 by omega) with rfl | rfl | rfl <;> simp [xx_clear, xx_clear1, rf_wr_at]
  have m4 : mm_clear τ 4 k = 0 := by rcases (show k = 0 ∨ k = 1 ∨ k = 2 by omega) with rfl | rfl | rfl <;> simp [mm_clear, rf_wr_at]
  refine ⟨Or.inl ⟨e4, m4, e8⟩, ?_, (a7 k hk).2.2.1, ?_, (a7 k hk).2.2.2.2⟩
  · rw [e6]; exact z
  · rw [e8]; exact z2
theorem op_emit {N : Nat} {σ τ : rf_Mem} (h : rv_All N σ τ) (o a b : Int32) : xr_emit σ o = mr_emit τ o ∧ rv_All N (xx_emit σ o a b) (mm_emit τ o a b) := by
  have h0 := h
  obtain ⟨a1, a2, a3, a4, a5, a6, a7⟩ := h
  rw [xr_emit, mr_emit, xx_emit, mm_emit]
  by_cases c1 : o < 0
  · simp only [if_pos c1]
    exact ⟨trivial, h0⟩
  · by_cases c2 : o ≤ 8
    · simp only [if_neg c1, if_pos c2]
      obtain ⟨L, hL, eL⟩ := a1.2.1
      have eLm : τ 0 0 = nI L := by rw [← a1.1]; exact eL
      by_cases c3 : τ 0 0 = 16
      · have c4 : ¬ σ 0 0 < 16 := by rw [a1.1, c3]; decide
        simp only [if_pos c3, if_neg c4]
        exact ⟨trivial, h0⟩
      · have hL16 : L < 16 := by
          have : ¬ L = 16 := fun q => c3 (by rw [eLm, q]; rfl)
          omega
        have c4 : σ 0 0 < 16 := by rw [eL]; exact nI_lt (b := 16) hL16 (by decide)
        simp only [if_neg c3, if_pos c4]
        by_cases c5 : σ 0 1 = 0
        · have c6 : τ 0 1 = 0 := by rw [← a3]; exact c5
          simp only [if_pos c5, if_pos c6]
          have hix : rf_ix (nI L) = L := nI_clamp (by omega)
          rw [eL, eLm, hix]
          obtain ⟨jo, hjo, ejo⟩ := nI_of2 (M := 8) (n := 8) rfl c1 c2
          refine ⟨by rw [nI_1, nI_pred], ⟨by simp [rf_wr_at], ⟨L + 1, by omega, by simp only [rf_wr_at, and_self, ↓reduceIte]; exact nI_1 L⟩, fun j hj => ?_⟩, a2, a3, a4, a5, a6, fun k hk => ⟨?_, (a7 k hk).2⟩⟩
          · by_cases hjL : j = L
            · subst hjL
              refine ⟨by simp [rf_wr_at], by simp [rf_wr_at], by simp [rf_wr_at], jo, hjo, by simp [rf_wr_at, ejo]⟩
            · obtain ⟨s1, s2, s3, s4⟩ := a1.2.2 j hj
              refine ⟨by simpa [rf_wr_at, hjL] using s1, by simpa [rf_wr_at, hjL] using s2, by simpa [rf_wr_at, hjL] using s3, by simpa [rf_wr_at, hjL] using s4⟩
          · rcases (a7 k hk).1 with q | ⟨-, q, -⟩
            · exact Or.inl q
            · rw [c5] at q; exact absurd q (by decide)
        · have c6 : ¬ τ 0 1 = 0 := by rw [← a3]; exact c5
          simp only [if_neg c5, if_neg c6]
          exact ⟨trivial, h0⟩
    · simp only [if_neg c1, if_neg c2]
      exact ⟨trivial, h0⟩
theorem op_state {N : Nat} {σ τ : rf_Mem} (h : rv_All N σ τ) (r : Int32) : xr_state σ r = mr_state τ r ∧ rv_All N (xx_state σ r) τ := by
  rcases bad_run r with ⟨b1, b2, k, hk, e, ek⟩ | ⟨b1, b2⟩
  · have b3 : ¬ mr_isRun r = 0 := by rw [b2]; decide
    obtain ⟨hA, hst, h0, h1⟩ := rem_all h hk
    rw [xr_state, if_pos b1, mr_state, if_neg b3, xx_state, if_pos b1, ek]
    exact ⟨hst, hA⟩
  · rw [xr_state, if_neg b1, mr_state, if_pos b2, xx_state, if_neg b1]
    exact ⟨rfl, h⟩
theorem op_register {N : Nat} {σ τ : rf_Mem} (h : rv_All N σ τ) (r a : Int32) : xr_register σ r a = mr_register τ r a ∧ rv_All N (xx_register σ r) τ := by
  rcases bad_run r with ⟨b1, b2, k, hk, e, ek⟩ | ⟨b1, b2⟩
  · have b3 : ¬ mr_isRun r = 0 := by rw [b2]; decide
    obtain ⟨hA, hst, h0, h1⟩ := rem_all h hk
    rw [xr_register, if_pos b1, mr_register, if_neg b3, xx_register, if_pos b1, ek]
    by_cases hc : τ 4 k = 0
    · obtain ⟨c1, c2⟩ := h0 hc
      simp only [if_pos hc, if_pos c2]
      exact ⟨trivial, h⟩
    · obtain ⟨c1, c2, c3, c4⟩ := h1 hc
      have c5 : ¬ σ 4 k = 0 := by rw [c1]; decide
      simp only [if_neg hc, if_neg c5]
      exact ⟨c4.2.1.1 _ (rf_q_of a).1, hA⟩
  · rw [xr_register, if_neg b1, mr_register, if_pos b2, xx_register, if_neg b1]
    exact ⟨rfl, h⟩
/-- where a run stands that waits for an answer -/
theorem calling {N k : Nat} {σ τ : rf_Mem} (h : rv_All N σ τ) (hk : k < 3) (hc : τ 4 k = 1) : vp_in (xx_remember σ k 15 k) 16 ∧ vp_in (τ 5 k) 16 ∧ mm_se τ k = xx_se (xx_remember σ k) k := by
  obtain ⟨hA, hst, h0, h1⟩ := rem_all h hk
  obtain ⟨c1, c2, c3, c4⟩ := h1 (by rw [hc]; decide)
  obtain ⟨E, n, -, -, -, -, ⟨a1, -⟩ | ⟨a1, a2, -⟩⟩ := c3
  · rw [hc] at a1; exact absurd a1 (by decide)
  · obtain ⟨q1, -, q3, -, -⟩ := rv_at hA.1 c4.2.1 a2
    exact ⟨q1, by rw [← c4.2.1.2.1]; exact q1, q3⟩
theorem op_activity {N : Nat} {σ τ : rf_Mem} (h : rv_All N σ τ) (r : Int32) : xr_activity σ r = mr_activity τ r ∧ rv_All N (xx_state σ r) τ := by
  refine ⟨?_, (op_state h r).2⟩
  rcases bad_run r with ⟨b1, b2, k, hk, e, ek⟩ | ⟨b1, b2⟩
  · have b3 : ¬ mr_isRun r = 0 := by rw [b2]; decide
    obtain ⟨hA, hst, h0, h1⟩ := rem_all h hk
    rw [xr_activity, if_pos b1, mr_activity, if_neg b3, ek, hst]
    by_cases hc : τ 4 k = 1
    · rw [if_pos hc, if_pos hc]
      exact (calling h hk hc).2.2.symm
    · rw [if_neg hc, if_neg hc]
  · rw [xr_activity, if_neg b1, mr_activity, if_pos b2]
theorem op_result {N : Nat} {σ τ : rf_Mem} (h : rv_All N σ τ) (r : Int32) : xr_result σ r = mr_result τ r ∧ rv_All N (xx_state σ r) τ := by
  refine ⟨?_, (op_state h r).2⟩
  rcases bad_run r with ⟨b1, b2, k, hk, e, ek⟩ | ⟨b1, b2⟩
  · have b3 : ¬ mr_isRun r = 0 := by rw [b2]; decide
    obtain ⟨hA, hst, h0, h1⟩ := rem_all h hk
    rw [xr_result, if_pos b1, mr_result, if_neg b3, ek, hst]
    by_cases hc : τ 4 k = 4
    · rw [if_pos hc, if_pos hc]
      exact (h1 (by rw [hc]; decide)).2.2.2.2.2.2 hc
    · rw [if_neg hc, if_neg hc]
  · rw [xr_result, if_neg b1, mr_result, if_pos b2]
theorem op_untaken {N : Nat} {σ τ : rf_Mem} (h : rv_All N σ τ) (r : Int32) : xr_untaken σ r = mr_untaken τ r := by
  rcases bad_run r with ⟨b1, b2, k, hk, e, ek⟩ | ⟨b1, b2⟩
  · have b3 : ¬ mr_isRun r = 0 := by rw [b2]; decide
    rw [xr_untaken, if_pos b1, mr_untaken, if_neg b3, ek, mr_cnt]
    rcases (h.2.2.2.2.2.2 k hk).1 with ⟨c1, c2, c3⟩ | ⟨c1, c2, c3, c4⟩
    · rw [if_pos c2, c3]
      rfl
    · have d2 : ¬ τ 4 k = 0 := by rcases st_of c3 with q | q | q | q <;> rw [q] <;> decide
      obtain ⟨E, n, -, -, h8, -⟩ := c3
      rw [if_neg d2, h.2.1.2.2, h8]
  · rw [xr_untaken, if_neg b1, mr_untaken, if_pos b2]
theorem op_new : rv_All 0 rf_zz rf_zz := by
  refine ⟨⟨rfl, ⟨0, by omega, rfl⟩, fun j _ => ⟨rfl, (show (0 : Int32) &&& 3 = 0 by decide), rfl, 0, by omega, rfl⟩⟩, ⟨rfl, rfl, rfl⟩, rfl, Or.inl rfl, rfl, ⟨0, by omega, rfl⟩, fun k _ => ⟨Or.inl ⟨rfl, rfl, rfl⟩, ⟨0, by omega, rfl⟩, ⟨0, by omega, rfl⟩, ⟨0, by omega, rfl⟩, ⟨0, by omega, rfl⟩⟩⟩
end
section
/-! THE CLAIM OUT OF ONE WALK OF THE LAW'S BODY. Your part is whole_start (and what it stands on); all else here is the same for every law, but numbers. -/
def R_law : String := "ReplayFlowLaw"
def lw_P (b : Addr) (xs : List Int32) (args : Array Value) (s : State) : Prop := args = #[.ref b] ∧ s.IntsAt b xs ∧ xs.length ≤ 256 ∧ (Jvm.Cond.and given_1 narrow_1).before args s = true
def lw_Q (_ : Array Value) (s : State) (o : Outcome) (t : State) : Prop := o = .returned (some (.int 1)) ∧ Framed s o t [] 600000 7290000
def lw_Z (below : List Frame) (a : Array Value) (s : State) : State → Prop := fun t => ∃ o, t.status = .running ∧ Ended t below o ∧ lw_Q a s o t
/-- the law's own end, with 1 on the stack, nothing written that was there before, its room as the claim has it -/
theorem lw_ret {p : Program} {l : Launch} {e : Env} {s : State} {m : MethodId} {below : List Frame} {meth : Method} {c : Code} {b : Nat} (hx : p.tables.exec = Jvm.exec) (hb : c.code = code) (hr : meth.sig.returnType = ret) (hlocks : meth.locks = false) {pc : Nat} {H : Heap} {ls : Array Slot} (hdg : decode code pc = .ok (.ireturn, 1)) : W p l e room_1 s m #[Value.ref b] below meth c H [] 600000 7290000 (lw_Z below #[Value.ref b] s) (F0 m pc ls [.int 1]) := by
  intro T hT X
  obtain ⟨fs, hret, hrun, hended, hW, hframe⟩ := X.leave (v := some (.int 1)) (hlocks := hlocks) (fun h => by rw [hr] at h; cases h)
  have hmeth' : T.vm.method? m = some meth := X.method'
  refine ⟨T.setFrames fs, ?_, .returned (some (.int 1)), hrun, hended, rfl, ⟨_, rfl⟩, hW, hframe⟩
  jvm_step X.here [X.here.top, hx, hb, hdg, hmeth', hr, ret, narrow_b1]
  (try refine ⟨rfl, ?_⟩); (try refine ⟨rfl, ?_⟩)
  first | (intro acts; rw [hret _ acts rfl rfl rfl]) | rw [hret _ _ rfl rfl rfl]
  exact Steps.refl _
/-- what holds at the law's entry: the machine, the code, the tables' words (any of lw_tbl by 'hts w (by decide +kernel)'), the script of L ints xs at the cell b, what the Statement gives of the start (any of its parts by flat_of_before) -/
def lw_At (p : Program) (s : State) (m : MethodId) (meth : Method) (c : Code) (b L : Nat) (xs : Nat → Int32) : Prop :=
  p.tables.exec = Jvm.exec ∧ c.code = code ∧ meth.sig.returnType = ret ∧ c.maxLocals = 4 ∧ s.vm.findClass R_law = some m.cls ∧ (∀ w ∈ lw_tbl, w.before #[Value.ref b] s = true) ∧ va_X b L xs s s.heap ∧ b < s.heap.size ∧ meth.locks = false ∧ (Jvm.Cond.and given_1 narrow_1).before #[Value.ref b] s = true
end
section
theorem lxk_emit {p : Program} {l : Launch} {e : Env} {R : Room} {s : State} {m : MethodId} {args : Array Value} {below : List Frame} {meth : Method} {c : Code} {H : Heap} {locs : List Loc} {cells slots : Nat} {Q : State → Prop} {cc : ByteArray} {pc : Nat} {ls : Array Slot} {rest : List Value} {D : va_G} {g : Nat → Nat} {ca : Nat → ClassId} {σ : rf_Mem} {A : Nat → Prop} {nL : Nat} (S0 : CallFix p m c cc nL s args lw_all R_law) (hg : rf_g xS g) (hA : ∀ q, rf_A xS g q → A q) (hw : rf_w D vwCl xS g ca σ A s H locs) {o a b : Int32} (hL : rf_le (σ 0 0) 16) (hR : 0 + 1 ≤ R.frames ∧ 8 + (5 + 11) + 0 ≤ R.locals) (hls : ls.size = nL) (hst : (rest.map fun v => v.category).sum ≤ 8) (hdg : decode cc pc = .ok (.invokevirtual 13, 3)) (hf : cells ≤ R.cells ∧ slots ≤ R.slots)
    (kk : ∀ (H1 : Heap) (locs1 : List Loc), rf_w D vwCl xS g ca (xx_emit σ o a b) A s H1 locs1 → H.size ≤ H1.size → (∀ q : Nat, q < H.size → ¬ rf_A xS g q → H1[q]? = H[q]?) → W p l e R s m args below meth c H1 locs1 cells slots Q (F0 m (pc + 3) ls (.int (xr_emit σ o) :: rest))) : W p l e R s m args below meth c H locs cells slots Q (F0 m pc ls (.int b :: .int a :: .int o :: .ref (g 0) :: rest)) :=
  rf_calli S0 (xm_emit l D ca hg σ o a b hL) (cwV 3 S0.2.2.2.2 (lw_V q100 q101 q102 q21 q103) rfl rfl rfl (by decide +kernel) hR) hw hA rfl rfl hls hst hdg hf rfl kk
theorem lxk_start {p : Program} {l : Launch} {e : Env} {R : Room} {s : State} {m : MethodId} {args : Array Value} {below : List Frame} {meth : Method} {c : Code} {H : Heap} {locs : List Loc} {cells slots : Nat} {Q : State → Prop} {cc : ByteArray} {pc : Nat} {ls : Array Slot} {rest : List Value} {D : va_G} {g : Nat → Nat} {ca : Nat → ClassId} {σ : rf_Mem} {A : Nat → Prop} {nL : Nat} (S0 : CallFix p m c cc nL s args lw_all R_law) (hg : rf_g xS g) (hA : ∀ q, rf_A xS g q → A q) (hw : rf_w D vwCl xS g ca σ A s H locs) {r a : Int32} (hL : rf_le (σ 0 0) 16) (hR : 6 + 1 ≤ R.frames ∧ 8 + (3 + 11) + 134 ≤ R.locals) (hls : ls.size = nL) (hst : (rest.map fun v => v.category).sum ≤ 8) (hdg : decode cc pc = .ok (.invokevirtual 18, 3)) (hf : cells ≤ R.cells ∧ slots ≤ R.slots)
    (kk : ∀ (H1 : Heap) (locs1 : List Loc), rf_w D vwCl xS g ca (xx_start σ r a) A s H1 locs1 → H.size ≤ H1.size → (∀ q : Nat, q < H.size → ¬ rf_A xS g q → H1[q]? = H[q]?) → W p l e R s m args below meth c H1 locs1 cells slots Q (F0 m (pc + 3) ls (.int (xr_start σ r a) :: rest))) : W p l e R s m args below meth c H locs cells slots Q (F0 m pc ls (.int a :: .int r :: .ref (g 0) :: rest)) :=
  rf_calli S0 (xm_start l D ca hg σ r a hL) (cwV 2 S0.2.2.2.2 (lw_V q104 q105 q106 q21 q107) rfl rfl rfl (by decide +kernel) hR) hw hA rfl rfl hls hst hdg hf rfl kk
theorem lxk_answer {p : Program} {l : Launch} {e : Env} {R : Room} {s : State} {m : MethodId} {args : Array Value} {below : List Frame} {meth : Method} {c : Code} {H : Heap} {locs : List Loc} {cells slots : Nat} {Q : State → Prop} {cc : ByteArray} {pc : Nat} {ls : Array Slot} {rest : List Value} {D : va_G} {g : Nat → Nat} {ca : Nat → ClassId} {σ : rf_Mem} {A : Nat → Prop} {nL : Nat} (S0 : CallFix p m c cc nL s args lw_all R_law) (hg : rf_g xS g) (hA : ∀ q, rf_A xS g q → A q) (hw : rf_w D vwCl xS g ca σ A s H locs) {r v : Int32} (hO : ∀ k, k < 3 → xx_ok σ k) (hR : 8 + 1 ≤ R.frames ∧ 8 + (4 + 11) + 176 ≤ R.locals) (hls : ls.size = nL) (hst : (rest.map fun v => v.category).sum ≤ 8) (hdg : decode cc pc = .ok (.invokevirtual 23, 3)) (hf : cells ≤ R.cells ∧ slots ≤ R.slots)
    (kk : ∀ (H1 : Heap) (locs1 : List Loc), rf_w D vwCl xS g ca (xx_answer σ r v) A s H1 locs1 → H.size ≤ H1.size → (∀ q : Nat, q < H.size → ¬ rf_A xS g q → H1[q]? = H[q]?) → W p l e R s m args below meth c H1 locs1 cells slots Q (F0 m (pc + 3) ls (.int (xr_answer σ r v) :: rest))) : W p l e R s m args below meth c H locs cells slots Q (F0 m pc ls (.int v :: .int r :: .ref (g 0) :: rest)) :=
  rf_calli S0 (xm_answer l D ca hg σ r v hO) (cwV 2 S0.2.2.2.2 (lw_V q151 q152 q153 q21 q154) rfl rfl rfl (by decide +kernel) hR) hw hA rfl rfl hls hst hdg hf rfl kk
theorem lxk_signal {p : Program} {l : Launch} {e : Env} {R : Room} {s : State} {m : MethodId} {args : Array Value} {below : List Frame} {meth : Method} {c : Code} {H : Heap} {locs : List Loc} {cells slots : Nat} {Q : State → Prop} {cc : ByteArray} {pc : Nat} {ls : Array Slot} {rest : List Value} {D : va_G} {g : Nat → Nat} {ca : Nat → ClassId} {σ : rf_Mem} {A : Nat → Prop} {nL : Nat} (S0 : CallFix p m c cc nL s args lw_all R_law) (hg : rf_g xS g) (hA : ∀ q, rf_A xS g q → A q) (hw : rf_w D vwCl xS g ca σ A s H locs) {r ch v : Int32} (hO : ∀ k, k < 3 → xx_ok σ k) (hR : 8 + 1 ≤ R.frames ∧ 8 + (6 + 11) + 176 ≤ R.locals) (hls : ls.size = nL) (hst : (rest.map fun v => v.category).sum ≤ 8) (hdg : decode cc pc = .ok (.invokevirtual 27, 3)) (hf : cells ≤ R.cells ∧ slots ≤ R.slots)
    (kk : ∀ (H1 : Heap) (locs1 : List Loc), rf_w D vwCl xS g ca (xx_signal σ r ch v) A s H1 locs1 → H.size ≤ H1.size → (∀ q : Nat, q < H.size → ¬ rf_A xS g q → H1[q]? = H[q]?) → W p l e R s m args below meth c H1 locs1 cells slots Q (F0 m (pc + 3) ls (.int (xr_signal σ r ch v) :: rest))) : W p l e R s m args below meth c H locs cells slots Q (F0 m pc ls (.int v :: .int ch :: .int r :: .ref (g 0) :: rest)) :=
  rf_calli S0 (xm_signal l D ca hg σ r ch v hO) (cwV 3 S0.2.2.2.2 (lw_V q163 q164 q165 q21 q166) rfl rfl rfl (by decide +kernel) hR) hw hA rfl rfl hls hst hdg hf rfl kk
theorem lxk_pass {p : Program} {l : Launch} {e : Env} {R : Room} {s : State} {m : MethodId} {args : Array Value} {below : List Frame} {meth : Method} {c : Code} {H : Heap} {locs : List Loc} {cells slots : Nat} {Q : State → Prop} {cc : ByteArray} {pc : Nat} {ls : Array Slot} {rest : List Value} {D : va_G} {g : Nat → Nat} {ca : Nat → ClassId} {σ : rf_Mem} {A : Nat → Prop} {nL : Nat} (S0 : CallFix p m c cc nL s args lw_all R_law) (hg : rf_g xS g) (hA : ∀ q, rf_A xS g q → A q) (hw : rf_w D vwCl xS g ca σ A s H locs) {n : Int32} (hO : ¬ n < 0 → n ≤ 1000 → ∀ j, j < 3 → xx_ok (xx_passN (xx_now σ n) j) j) (hR : 8 + 1 ≤ R.frames ∧ 8 + (5 + 11) + 176 ≤ R.locals) (hls : ls.size = nL) (hst : (rest.map fun v => v.category).sum ≤ 8) (hdg : decode cc pc = .ok (.invokevirtual 31, 3)) (hf : cells ≤ R.cells ∧ slots ≤ R.slots)
    (kk : ∀ (H1 : Heap) (locs1 : List Loc), rf_w D vwCl xS g ca (xx_pass σ n) A s H1 locs1 → H.size ≤ H1.size → (∀ q : Nat, q < H.size → ¬ rf_A xS g q → H1[q]? = H[q]?) → W p l e R s m args below meth c H1 locs1 cells slots Q (F0 m (pc + 3) ls (.int (xr_pass σ n) :: rest))) : W p l e R s m args below meth c H locs cells slots Q (F0 m pc ls (.int n :: .ref (g 0) :: rest)) :=
  rf_calli S0 (xm_pass l D ca hg σ n hO) (cwV 1 S0.2.2.2.2 (lw_V q167 q168 q169 q21 q170) rfl rfl rfl (by decide +kernel) hR) hw hA rfl rfl hls hst hdg hf rfl kk
theorem lxk_forget {p : Program} {l : Launch} {e : Env} {R : Room} {s : State} {m : MethodId} {args : Array Value} {below : List Frame} {meth : Method} {c : Code} {H : Heap} {locs : List Loc} {cells slots : Nat} {Q : State → Prop} {cc : ByteArray} {pc : Nat} {ls : Array Slot} {rest : List Value} {D : va_G} {g : Nat → Nat} {ca : Nat → ClassId} {σ : rf_Mem} {A : Nat → Prop} {nL : Nat} (S0 : CallFix p m c cc nL s args lw_all R_law) (hg : rf_g xS g) (hA : ∀ q, rf_A xS g q → A q) (hw : rf_w D vwCl xS g ca σ A s H locs) {r : Int32}  (hR : 1 + 1 ≤ R.frames ∧ 8 + (3 + 11) + 20 ≤ R.locals) (hls : ls.size = nL) (hst : (rest.map fun v => v.category).sum ≤ 8) (hdg : decode cc pc = .ok (.invokevirtual 36, 3)) (hf : cells ≤ R.cells ∧ slots ≤ R.slots)
    (kk : ∀ (H1 : Heap) (locs1 : List Loc), rf_w D vwCl xS g ca (xx_forget σ r) A s H1 locs1 → H.size ≤ H1.size → (∀ q : Nat, q < H.size → ¬ rf_A xS g q → H1[q]? = H[q]?) → W p l e R s m args below meth c H1 locs1 cells slots Q (F0 m (pc + 3) ls (.int (xr_forget r) :: rest))) : W p l e R s m args below meth c H locs cells slots Q (F0 m pc ls (.int r :: .ref (g 0) :: rest)) :=
  rf_calli S0 (xm_forget l D ca hg σ r ) (cwV 1 S0.2.2.2.2 (lw_V q171 q172 q173 q21 q174) rfl rfl rfl (by decide +kernel) hR) hw hA rfl rfl hls hst hdg hf rfl kk
theorem lxk_clear {p : Program} {l : Launch} {e : Env} {R : Room} {s : State} {m : MethodId} {args : Array Value} {below : List Frame} {meth : Method} {c : Code} {H : Heap} {locs : List Loc} {cells slots : Nat} {Q : State → Prop} {cc : ByteArray} {pc : Nat} {ls : Array Slot} {rest : List Value} {D : va_G} {g : Nat → Nat} {ca : Nat → ClassId} {σ : rf_Mem} {A : Nat → Prop} {nL : Nat} (S0 : CallFix p m c cc nL s args lw_all R_law) (hg : rf_g xS g) (hA : ∀ q, rf_A xS g q → A q) (hw : rf_w D vwCl xS g ca σ A s H locs)   (hR : 0 + 1 ≤ R.frames ∧ 8 + (2 + 11) + 0 ≤ R.locals) (hls : ls.size = nL) (hst : (rest.map fun v => v.category).sum ≤ 8) (hdg : decode cc pc = .ok (.invokevirtual 40, 3)) (hf : cells ≤ R.cells ∧ slots ≤ R.slots)
    (kk : ∀ (H1 : Heap) (locs1 : List Loc), rf_w D vwCl xS g ca (xx_clear σ) A s H1 locs1 → H.size ≤ H1.size → (∀ q : Nat, q < H.size → ¬ rf_A xS g q → H1[q]? = H[q]?) → W p l e R s m args below meth c H1 locs1 cells slots Q (F0 m (pc + 3) ls (rest))) : W p l e R s m args below meth c H locs cells slots Q (F0 m pc ls (.ref (g 0) :: rest)) :=
  rf_callv S0 (xm_clear l D ca hg σ  ) (cwV 0 S0.2.2.2.2 (lw_V q175 q176 q177 q21 q178) rfl rfl rfl (by decide +kernel) hR) hw hA rfl rfl hls hst hdg hf rfl kk
theorem lxk_state {p : Program} {l : Launch} {e : Env} {R : Room} {s : State} {m : MethodId} {args : Array Value} {below : List Frame} {meth : Method} {c : Code} {H : Heap} {locs : List Loc} {cells slots : Nat} {Q : State → Prop} {cc : ByteArray} {pc : Nat} {ls : Array Slot} {rest : List Value} {D : va_G} {g : Nat → Nat} {ca : Nat → ClassId} {σ : rf_Mem} {A : Nat → Prop} {nL : Nat} (S0 : CallFix p m c cc nL s args lw_all R_law) (hg : rf_g xS g) (hA : ∀ q, rf_A xS g q → A q) (hw : rf_w D vwCl xS g ca σ A s H locs) {r : Int32} (hO : ∀ k, k < 3 → xx_ok σ k) (hR : 8 + 1 ≤ R.frames ∧ 8 + (2 + 11) + 176 ≤ R.locals) (hls : ls.size = nL) (hst : (rest.map fun v => v.category).sum ≤ 8) (hdg : decode cc pc = .ok (.invokevirtual 44, 3)) (hf : cells ≤ R.cells ∧ slots ≤ R.slots)
    (kk : ∀ (H1 : Heap) (locs1 : List Loc), rf_w D vwCl xS g ca (xx_state σ r) A s H1 locs1 → H.size ≤ H1.size → (∀ q : Nat, q < H.size → ¬ rf_A xS g q → H1[q]? = H[q]?) → W p l e R s m args below meth c H1 locs1 cells slots Q (F0 m (pc + 3) ls (.int (xr_state σ r) :: rest))) : W p l e R s m args below meth c H locs cells slots Q (F0 m pc ls (.int r :: .ref (g 0) :: rest)) :=
  rf_calli S0 (xm_state l D ca hg σ r hO) (cwV 1 S0.2.2.2.2 (lw_V q179 q180 q181 q21 q182) rfl rfl rfl (by decide +kernel) hR) hw hA rfl rfl hls hst hdg hf rfl kk
theorem lxk_register {p : Program} {l : Launch} {e : Env} {R : Room} {s : State} {m : MethodId} {args : Array Value} {below : List Frame} {meth : Method} {c : Code} {H : Heap} {locs : List Loc} {cells slots : Nat} {Q : State → Prop} {cc : ByteArray} {pc : Nat} {ls : Array Slot} {rest : List Value} {D : va_G} {g : Nat → Nat} {ca : Nat → ClassId} {σ : rf_Mem} {A : Nat → Prop} {nL : Nat} (S0 : CallFix p m c cc nL s args lw_all R_law) (hg : rf_g xS g) (hA : ∀ q, rf_A xS g q → A q) (hw : rf_w D vwCl xS g ca σ A s H locs) {r a : Int32} (hO : ∀ k, k < 3 → xx_ok σ k) (hR : 7 + 1 ≤ R.frames ∧ 8 + (3 + 11) + 155 ≤ R.locals) (hls : ls.size = nL) (hst : (rest.map fun v => v.category).sum ≤ 8) (hdg : decode cc pc = .ok (.invokevirtual 48, 3)) (hf : cells ≤ R.cells ∧ slots ≤ R.slots)
    (kk : ∀ (H1 : Heap) (locs1 : List Loc), rf_w D vwCl xS g ca (xx_register σ r) A s H1 locs1 → H.size ≤ H1.size → (∀ q : Nat, q < H.size → ¬ rf_A xS g q → H1[q]? = H[q]?) → W p l e R s m args below meth c H1 locs1 cells slots Q (F0 m (pc + 3) ls (.int (xr_register σ r a) :: rest))) : W p l e R s m args below meth c H locs cells slots Q (F0 m pc ls (.int a :: .int r :: .ref (g 0) :: rest)) :=
  rf_calli S0 (xm_register l D ca hg σ r a hO) (cwV 2 S0.2.2.2.2 (lw_V q183 q184 q185 q21 q186) rfl rfl rfl (by decide +kernel) hR) hw hA rfl rfl hls hst hdg hf rfl kk
theorem lxk_activity {p : Program} {l : Launch} {e : Env} {R : Room} {s : State} {m : MethodId} {args : Array Value} {below : List Frame} {meth : Method} {c : Code} {H : Heap} {locs : List Loc} {cells slots : Nat} {Q : State → Prop} {cc : ByteArray} {pc : Nat} {ls : Array Slot} {rest : List Value} {D : va_G} {g : Nat → Nat} {ca : Nat → ClassId} {σ : rf_Mem} {A : Nat → Prop} {nL : Nat} (S0 : CallFix p m c cc nL s args lw_all R_law) (hg : rf_g xS g) (hA : ∀ q, rf_A xS g q → A q) (hw : rf_w D vwCl xS g ca σ A s H locs) {r : Int32} (hO : ∀ k, k < 3 → xx_ok σ k) (hp : ∀ k, k < 3 → xr_stateOf σ k = 1 → vp_in (xx_remember σ k 15 k) 16) (hR : 8 + 1 ≤ R.frames ∧ 8 + (3 + 11) + 176 ≤ R.locals) (hls : ls.size = nL) (hst : (rest.map fun v => v.category).sum ≤ 8) (hdg : decode cc pc = .ok (.invokevirtual 52, 3)) (hf : cells ≤ R.cells ∧ slots ≤ R.slots)
    (kk : ∀ (H1 : Heap) (locs1 : List Loc), rf_w D vwCl xS g ca (xx_state σ r) A s H1 locs1 → H.size ≤ H1.size → (∀ q : Nat, q < H.size → ¬ rf_A xS g q → H1[q]? = H[q]?) → W p l e R s m args below meth c H1 locs1 cells slots Q (F0 m (pc + 3) ls (.int (xr_activity σ r) :: rest))) : W p l e R s m args below meth c H locs cells slots Q (F0 m pc ls (.int r :: .ref (g 0) :: rest)) :=
  rf_calli S0 (xm_activity l D ca hg σ r hO hp) (cwV 1 S0.2.2.2.2 (lw_V q187 q188 q189 q21 q190) rfl rfl rfl (by decide +kernel) hR) hw hA rfl rfl hls hst hdg hf rfl kk
theorem lxk_result {p : Program} {l : Launch} {e : Env} {R : Room} {s : State} {m : MethodId} {args : Array Value} {below : List Frame} {meth : Method} {c : Code} {H : Heap} {locs : List Loc} {cells slots : Nat} {Q : State → Prop} {cc : ByteArray} {pc : Nat} {ls : Array Slot} {rest : List Value} {D : va_G} {g : Nat → Nat} {ca : Nat → ClassId} {σ : rf_Mem} {A : Nat → Prop} {nL : Nat} (S0 : CallFix p m c cc nL s args lw_all R_law) (hg : rf_g xS g) (hA : ∀ q, rf_A xS g q → A q) (hw : rf_w D vwCl xS g ca σ A s H locs) {r : Int32} (hO : ∀ k, k < 3 → xx_ok σ k) (hR : 8 + 1 ≤ R.frames ∧ 8 + (3 + 11) + 176 ≤ R.locals) (hls : ls.size = nL) (hst : (rest.map fun v => v.category).sum ≤ 8) (hdg : decode cc pc = .ok (.invokevirtual 56, 3)) (hf : cells ≤ R.cells ∧ slots ≤ R.slots)
    (kk : ∀ (H1 : Heap) (locs1 : List Loc), rf_w D vwCl xS g ca (xx_state σ r) A s H1 locs1 → H.size ≤ H1.size → (∀ q : Nat, q < H.size → ¬ rf_A xS g q → H1[q]? = H[q]?) → W p l e R s m args below meth c H1 locs1 cells slots Q (F0 m (pc + 3) ls (.int (xr_result σ r) :: rest))) : W p l e R s m args below meth c H locs cells slots Q (F0 m pc ls (.int r :: .ref (g 0) :: rest)) :=
  rf_calli S0 (xm_result l D ca hg σ r hO) (cwV 1 S0.2.2.2.2 (lw_V q191 q192 q193 q21 q194) rfl rfl rfl (by decide +kernel) hR) hw hA rfl rfl hls hst hdg hf rfl kk
theorem lxk_untaken {p : Program} {l : Launch} {e : Env} {R : Room} {s : State} {m : MethodId} {args : Array Value} {below : List Frame} {meth : Method} {c : Code} {H : Heap} {locs : List Loc} {cells slots : Nat} {Q : State → Prop} {cc : ByteArray} {pc : Nat} {ls : Array Slot} {rest : List Value} {D : va_G} {g : Nat → Nat} {ca : Nat → ClassId} {σ : rf_Mem} {A : Nat → Prop} {nL : Nat} (S0 : CallFix p m c cc nL s args lw_all R_law) (hg : rf_g xS g) (hA : ∀ q, rf_A xS g q → A q) (hw : rf_w D vwCl xS g ca σ A s H locs) {r : Int32} (hO : ∀ k, k < 3 → xx_ok σ k) (hR : 1 + 1 ≤ R.frames ∧ 8 + (4 + 11) + 20 ≤ R.locals) (hls : ls.size = nL) (hst : (rest.map fun v => v.category).sum ≤ 8) (hdg : decode cc pc = .ok (.invokevirtual 60, 3)) (hf : cells ≤ R.cells ∧ slots ≤ R.slots)
    (kk : ∀ (H1 : Heap) (locs1 : List Loc), rf_w D vwCl xS g ca (σ) A s H1 locs1 → H.size ≤ H1.size → (∀ q : Nat, q < H.size → ¬ rf_A xS g q → H1[q]? = H[q]?) → W p l e R s m args below meth c H1 locs1 cells slots Q (F0 m (pc + 3) ls (.int (xr_untaken σ r) :: rest))) : W p l e R s m args below meth c H locs cells slots Q (F0 m pc ls (.int r :: .ref (g 0) :: rest)) :=
  rf_calli S0 (xm_untaken l D ca hg σ r hO) (cwV 1 S0.2.2.2.2 (lw_V q195 q196 q197 q21 q198) rfl rfl rfl (by decide +kernel) hR) hw hA rfl rfl hls hst hdg hf rfl kk
theorem lxk_time {p : Program} {l : Launch} {e : Env} {R : Room} {s : State} {m : MethodId} {args : Array Value} {below : List Frame} {meth : Method} {c : Code} {H : Heap} {locs : List Loc} {cells slots : Nat} {Q : State → Prop} {cc : ByteArray} {pc : Nat} {ls : Array Slot} {rest : List Value} {D : va_G} {g : Nat → Nat} {ca : Nat → ClassId} {σ : rf_Mem} {A : Nat → Prop} {nL : Nat} (S0 : CallFix p m c cc nL s args lw_all R_law) (hg : rf_g xS g) (hA : ∀ q, rf_A xS g q → A q) (hw : rf_w D vwCl xS g ca σ A s H locs)   (hR : 0 + 1 ≤ R.frames ∧ 8 + (1 + 11) + 0 ≤ R.locals) (hls : ls.size = nL) (hst : (rest.map fun v => v.category).sum ≤ 8) (hdg : decode cc pc = .ok (.invokevirtual 64, 3)) (hf : cells ≤ R.cells ∧ slots ≤ R.slots)
    (kk : ∀ (H1 : Heap) (locs1 : List Loc), rf_w D vwCl xS g ca (σ) A s H1 locs1 → H.size ≤ H1.size → (∀ q : Nat, q < H.size → ¬ rf_A xS g q → H1[q]? = H[q]?) → W p l e R s m args below meth c H1 locs1 cells slots Q (F0 m (pc + 3) ls (.int (σ 0 2) :: rest))) : W p l e R s m args below meth c H locs cells slots Q (F0 m pc ls (.ref (g 0) :: rest)) :=
  rf_calli S0 (xm_time l D ca hg σ  ) (cwV 0 S0.2.2.2.2 (lw_V q199 q200 q201 q21 q202) rfl rfl rfl (by decide +kernel) hR) hw hA rfl rfl hls hst hdg hf rfl kk
theorem lmk_emit {p : Program} {l : Launch} {e : Env} {R : Room} {s : State} {m : MethodId} {args : Array Value} {below : List Frame} {meth : Method} {c : Code} {H : Heap} {locs : List Loc} {cells slots : Nat} {Q : State → Prop} {cc : ByteArray} {pc : Nat} {ls : Array Slot} {rest : List Value} {D : va_G} {g : Nat → Nat} {ca : Nat → ClassId} {σ : rf_Mem} {A : Nat → Prop} {nL : Nat} (S0 : CallFix p m c cc nL s args lw_all R_law) (hg : rf_g mS g) (hA : ∀ q, rf_A mS g q → A q) (hw : rf_w D vwCl mS g ca σ A s H locs) {o a b : Int32} (hL : rf_le (σ 0 0) 16) (hR : 0 + 1 ≤ R.frames ∧ 8 + (4 + 11) + 0 ≤ R.locals) (hls : ls.size = nL) (hst : (rest.map fun v => v.category).sum ≤ 8) (hdg : decode cc pc = .ok (.invokevirtual 17, 3)) (hf : cells ≤ R.cells ∧ slots ≤ R.slots)
    (kk : ∀ (H1 : Heap) (locs1 : List Loc), rf_w D vwCl mS g ca (mm_emit σ o a b) A s H1 locs1 → H.size ≤ H1.size → (∀ q : Nat, q < H.size → ¬ rf_A mS g q → H1[q]? = H[q]?) → W p l e R s m args below meth c H1 locs1 cells slots Q (F0 m (pc + 3) ls (.int (mr_emit σ o) :: rest))) : W p l e R s m args below meth c H locs cells slots Q (F0 m pc ls (.int b :: .int a :: .int o :: .ref (g 0) :: rest)) :=
  rf_calli S0 (mt_emit l D ca hg σ o a b hL) (cwV 3 S0.2.2.2.2 (lw_V q261 q262 q263 q22 q264) rfl rfl rfl (by decide +kernel) hR) hw hA rfl rfl hls hst hdg hf rfl kk
theorem lmk_start {p : Program} {l : Launch} {e : Env} {R : Room} {s : State} {m : MethodId} {args : Array Value} {below : List Frame} {meth : Method} {c : Code} {H : Heap} {locs : List Loc} {cells slots : Nat} {Q : State → Prop} {cc : ByteArray} {pc : Nat} {ls : Array Slot} {rest : List Value} {D : va_G} {g : Nat → Nat} {ca : Nat → ClassId} {σ : rf_Mem} {A : Nat → Prop} {nL : Nat} (S0 : CallFix p m c cc nL s args lw_all R_law) (hg : rf_g mS g) (hA : ∀ q, rf_A mS g q → A q) (hw : rf_w D vwCl mS g ca σ A s H locs) {r a : Int32} (hO : ∀ k, k < 3 → mm_ok σ k) (hR : 3 + 1 ≤ R.frames ∧ 8 + (4 + 11) + 71 ≤ R.locals) (hls : ls.size = nL) (hst : (rest.map fun v => v.category).sum ≤ 8) (hdg : decode cc pc = .ok (.invokevirtual 22, 3)) (hf : cells ≤ R.cells ∧ slots ≤ R.slots)
    (kk : ∀ (H1 : Heap) (locs1 : List Loc), rf_w D vwCl mS g ca (mm_start σ r a) A s H1 locs1 → H.size ≤ H1.size → (∀ q : Nat, q < H.size → ¬ rf_A mS g q → H1[q]? = H[q]?) → W p l e R s m args below meth c H1 locs1 cells slots Q (F0 m (pc + 3) ls (.int (mr_start σ r a) :: rest))) : W p l e R s m args below meth c H locs cells slots Q (F0 m pc ls (.int a :: .int r :: .ref (g 0) :: rest)) :=
  rf_calli S0 (mt_start l D ca hg σ r a hO) (cwV 2 S0.2.2.2.2 (lw_V q265 q266 q267 q22 q268) rfl rfl rfl (by decide +kernel) hR) hw hA rfl rfl hls hst hdg hf rfl kk
theorem lmk_answer {p : Program} {l : Launch} {e : Env} {R : Room} {s : State} {m : MethodId} {args : Array Value} {below : List Frame} {meth : Method} {c : Code} {H : Heap} {locs : List Loc} {cells slots : Nat} {Q : State → Prop} {cc : ByteArray} {pc : Nat} {ls : Array Slot} {rest : List Value} {D : va_G} {g : Nat → Nat} {ca : Nat → ClassId} {σ : rf_Mem} {A : Nat → Prop} {nL : Nat} (S0 : CallFix p m c cc nL s args lw_all R_law) (hg : rf_g mS g) (hA : ∀ q, rf_A mS g q → A q) (hw : rf_w D vwCl mS g ca σ A s H locs) {r v : Int32} (hO : ∀ k, k < 3 → mm_ok σ k) (hp : ∀ k, k < 3 → σ 4 k = 1 → vp_in (σ 5 k) 16) (hR : 3 + 1 ≤ R.frames ∧ 8 + (3 + 11) + 71 ≤ R.locals) (hls : ls.size = nL) (hst : (rest.map fun v => v.category).sum ≤ 8) (hdg : decode cc pc = .ok (.invokevirtual 26, 3)) (hf : cells ≤ R.cells ∧ slots ≤ R.slots)
    (kk : ∀ (H1 : Heap) (locs1 : List Loc), rf_w D vwCl mS g ca (mm_answer σ r v) A s H1 locs1 → H.size ≤ H1.size → (∀ q : Nat, q < H.size → ¬ rf_A mS g q → H1[q]? = H[q]?) → W p l e R s m args below meth c H1 locs1 cells slots Q (F0 m (pc + 3) ls (.int (mr_answer σ r v) :: rest))) : W p l e R s m args below meth c H locs cells slots Q (F0 m pc ls (.int v :: .int r :: .ref (g 0) :: rest)) :=
  rf_calli S0 (mt_answer l D ca hg σ r v hO hp) (cwV 2 S0.2.2.2.2 (lw_V q301 q302 q303 q22 q304) rfl rfl rfl (by decide +kernel) hR) hw hA rfl rfl hls hst hdg hf rfl kk
theorem lmk_signal {p : Program} {l : Launch} {e : Env} {R : Room} {s : State} {m : MethodId} {args : Array Value} {below : List Frame} {meth : Method} {c : Code} {H : Heap} {locs : List Loc} {cells slots : Nat} {Q : State → Prop} {cc : ByteArray} {pc : Nat} {ls : Array Slot} {rest : List Value} {D : va_G} {g : Nat → Nat} {ca : Nat → ClassId} {σ : rf_Mem} {A : Nat → Prop} {nL : Nat} (S0 : CallFix p m c cc nL s args lw_all R_law) (hg : rf_g mS g) (hA : ∀ q, rf_A mS g q → A q) (hw : rf_w D vwCl mS g ca σ A s H locs) {r ch v : Int32} (hO : ∀ k, k < 3 → mm_ok σ k) (hR : 3 + 1 ≤ R.frames ∧ 8 + (5 + 11) + 71 ≤ R.locals) (hls : ls.size = nL) (hst : (rest.map fun v => v.category).sum ≤ 8) (hdg : decode cc pc = .ok (.invokevirtual 30, 3)) (hf : cells ≤ R.cells ∧ slots ≤ R.slots)
    (kk : ∀ (H1 : Heap) (locs1 : List Loc), rf_w D vwCl mS g ca (mm_signal σ r ch v) A s H1 locs1 → H.size ≤ H1.size → (∀ q : Nat, q < H.size → ¬ rf_A mS g q → H1[q]? = H[q]?) → W p l e R s m args below meth c H1 locs1 cells slots Q (F0 m (pc + 3) ls (.int (mr_signal σ r ch v) :: rest))) : W p l e R s m args below meth c H locs cells slots Q (F0 m pc ls (.int v :: .int ch :: .int r :: .ref (g 0) :: rest)) :=
  rf_calli S0 (mt_signal l D ca hg σ r ch v hO) (cwV 3 S0.2.2.2.2 (lw_V q305 q306 q307 q22 q308) rfl rfl rfl (by decide +kernel) hR) hw hA rfl rfl hls hst hdg hf rfl kk
theorem lmk_pass {p : Program} {l : Launch} {e : Env} {R : Room} {s : State} {m : MethodId} {args : Array Value} {below : List Frame} {meth : Method} {c : Code} {H : Heap} {locs : List Loc} {cells slots : Nat} {Q : State → Prop} {cc : ByteArray} {pc : Nat} {ls : Array Slot} {rest : List Value} {D : va_G} {g : Nat → Nat} {ca : Nat → ClassId} {σ : rf_Mem} {A : Nat → Prop} {nL : Nat} (S0 : CallFix p m c cc nL s args lw_all R_law) (hg : rf_g mS g) (hA : ∀ q, rf_A mS g q → A q) (hw : rf_w D vwCl mS g ca σ A s H locs) {n : Int32} (hO : ¬ n < 0 → n ≤ 1000 → ∀ j, j < 3 → mm_ok (mm_passN (mm_now σ n) j) j) (hR : 3 + 1 ≤ R.frames ∧ 8 + (4 + 11) + 71 ≤ R.locals) (hls : ls.size = nL) (hst : (rest.map fun v => v.category).sum ≤ 8) (hdg : decode cc pc = .ok (.invokevirtual 35, 3)) (hf : cells ≤ R.cells ∧ slots ≤ R.slots)
    (kk : ∀ (H1 : Heap) (locs1 : List Loc), rf_w D vwCl mS g ca (mm_pass σ n) A s H1 locs1 → H.size ≤ H1.size → (∀ q : Nat, q < H.size → ¬ rf_A mS g q → H1[q]? = H[q]?) → W p l e R s m args below meth c H1 locs1 cells slots Q (F0 m (pc + 3) ls (.int (mr_pass σ n) :: rest))) : W p l e R s m args below meth c H locs cells slots Q (F0 m pc ls (.int n :: .ref (g 0) :: rest)) :=
  rf_calli S0 (mt_pass l D ca hg σ n hO) (cwV 1 S0.2.2.2.2 (lw_V q309 q310 q311 q22 q312) rfl rfl rfl (by decide +kernel) hR) hw hA rfl rfl hls hst hdg hf rfl kk
theorem lmk_forget {p : Program} {l : Launch} {e : Env} {R : Room} {s : State} {m : MethodId} {args : Array Value} {below : List Frame} {meth : Method} {c : Code} {H : Heap} {locs : List Loc} {cells slots : Nat} {Q : State → Prop} {cc : ByteArray} {pc : Nat} {ls : Array Slot} {rest : List Value} {D : va_G} {g : Nat → Nat} {ca : Nat → ClassId} {σ : rf_Mem} {A : Nat → Prop} {nL : Nat} (S0 : CallFix p m c cc nL s args lw_all R_law) (hg : rf_g mS g) (hA : ∀ q, rf_A mS g q → A q) (hw : rf_w D vwCl mS g ca σ A s H locs) {r : Int32}  (hR : 1 + 1 ≤ R.frames ∧ 8 + (2 + 11) + 21 ≤ R.locals) (hls : ls.size = nL) (hst : (rest.map fun v => v.category).sum ≤ 8) (hdg : decode cc pc = .ok (.invokevirtual 39, 3)) (hf : cells ≤ R.cells ∧ slots ≤ R.slots)
    (kk : ∀ (H1 : Heap) (locs1 : List Loc), rf_w D vwCl mS g ca (σ) A s H1 locs1 → H.size ≤ H1.size → (∀ q : Nat, q < H.size → ¬ rf_A mS g q → H1[q]? = H[q]?) → W p l e R s m args below meth c H1 locs1 cells slots Q (F0 m (pc + 3) ls (.int (mr_forget r) :: rest))) : W p l e R s m args below meth c H locs cells slots Q (F0 m pc ls (.int r :: .ref (g 0) :: rest)) :=
  rf_calli S0 (mt_forget l D ca hg σ r ) (cwV 1 S0.2.2.2.2 (lw_V q313 q314 q315 q22 q316) rfl rfl rfl (by decide +kernel) hR) hw hA rfl rfl hls hst hdg hf rfl kk
theorem lmk_clear {p : Program} {l : Launch} {e : Env} {R : Room} {s : State} {m : MethodId} {args : Array Value} {below : List Frame} {meth : Method} {c : Code} {H : Heap} {locs : List Loc} {cells slots : Nat} {Q : State → Prop} {cc : ByteArray} {pc : Nat} {ls : Array Slot} {rest : List Value} {D : va_G} {g : Nat → Nat} {ca : Nat → ClassId} {σ : rf_Mem} {A : Nat → Prop} {nL : Nat} (S0 : CallFix p m c cc nL s args lw_all R_law) (hg : rf_g mS g) (hA : ∀ q, rf_A mS g q → A q) (hw : rf_w D vwCl mS g ca σ A s H locs)   (hR : 0 + 1 ≤ R.frames ∧ 8 + (2 + 11) + 0 ≤ R.locals) (hls : ls.size = nL) (hst : (rest.map fun v => v.category).sum ≤ 8) (hdg : decode cc pc = .ok (.invokevirtual 43, 3)) (hf : cells ≤ R.cells ∧ slots ≤ R.slots)
    (kk : ∀ (H1 : Heap) (locs1 : List Loc), rf_w D vwCl mS g ca (mm_clear σ) A s H1 locs1 → H.size ≤ H1.size → (∀ q : Nat, q < H.size → ¬ rf_A mS g q → H1[q]? = H[q]?) → W p l e R s m args below meth c H1 locs1 cells slots Q (F0 m (pc + 3) ls (rest))) : W p l e R s m args below meth c H locs cells slots Q (F0 m pc ls (.ref (g 0) :: rest)) :=
  rf_callv S0 (mt_clear l D ca hg σ  ) (cwV 0 S0.2.2.2.2 (lw_V q317 q318 q319 q22 q320) rfl rfl rfl (by decide +kernel) hR) hw hA rfl rfl hls hst hdg hf rfl kk
theorem lmk_state {p : Program} {l : Launch} {e : Env} {R : Room} {s : State} {m : MethodId} {args : Array Value} {below : List Frame} {meth : Method} {c : Code} {H : Heap} {locs : List Loc} {cells slots : Nat} {Q : State → Prop} {cc : ByteArray} {pc : Nat} {ls : Array Slot} {rest : List Value} {D : va_G} {g : Nat → Nat} {ca : Nat → ClassId} {σ : rf_Mem} {A : Nat → Prop} {nL : Nat} (S0 : CallFix p m c cc nL s args lw_all R_law) (hg : rf_g mS g) (hA : ∀ q, rf_A mS g q → A q) (hw : rf_w D vwCl mS g ca σ A s H locs) {r : Int32}  (hR : 1 + 1 ≤ R.frames ∧ 8 + (2 + 11) + 21 ≤ R.locals) (hls : ls.size = nL) (hst : (rest.map fun v => v.category).sum ≤ 8) (hdg : decode cc pc = .ok (.invokevirtual 47, 3)) (hf : cells ≤ R.cells ∧ slots ≤ R.slots)
    (kk : ∀ (H1 : Heap) (locs1 : List Loc), rf_w D vwCl mS g ca (σ) A s H1 locs1 → H.size ≤ H1.size → (∀ q : Nat, q < H.size → ¬ rf_A mS g q → H1[q]? = H[q]?) → W p l e R s m args below meth c H1 locs1 cells slots Q (F0 m (pc + 3) ls (.int (mr_state σ r) :: rest))) : W p l e R s m args below meth c H locs cells slots Q (F0 m pc ls (.int r :: .ref (g 0) :: rest)) :=
  rf_calli S0 (mt_state l D ca hg σ r ) (cwV 1 S0.2.2.2.2 (lw_V q321 q322 q323 q22 q324) rfl rfl rfl (by decide +kernel) hR) hw hA rfl rfl hls hst hdg hf rfl kk
theorem lmk_register {p : Program} {l : Launch} {e : Env} {R : Room} {s : State} {m : MethodId} {args : Array Value} {below : List Frame} {meth : Method} {c : Code} {H : Heap} {locs : List Loc} {cells slots : Nat} {Q : State → Prop} {cc : ByteArray} {pc : Nat} {ls : Array Slot} {rest : List Value} {D : va_G} {g : Nat → Nat} {ca : Nat → ClassId} {σ : rf_Mem} {A : Nat → Prop} {nL : Nat} (S0 : CallFix p m c cc nL s args lw_all R_law) (hg : rf_g mS g) (hA : ∀ q, rf_A mS g q → A q) (hw : rf_w D vwCl mS g ca σ A s H locs) {r a : Int32}  (hR : 1 + 1 ≤ R.frames ∧ 8 + (3 + 11) + 21 ≤ R.locals) (hls : ls.size = nL) (hst : (rest.map fun v => v.category).sum ≤ 8) (hdg : decode cc pc = .ok (.invokevirtual 51, 3)) (hf : cells ≤ R.cells ∧ slots ≤ R.slots)
    (kk : ∀ (H1 : Heap) (locs1 : List Loc), rf_w D vwCl mS g ca (σ) A s H1 locs1 → H.size ≤ H1.size → (∀ q : Nat, q < H.size → ¬ rf_A mS g q → H1[q]? = H[q]?) → W p l e R s m args below meth c H1 locs1 cells slots Q (F0 m (pc + 3) ls (.int (mr_register σ r a) :: rest))) : W p l e R s m args below meth c H locs cells slots Q (F0 m pc ls (.int a :: .int r :: .ref (g 0) :: rest)) :=
  rf_calli S0 (mt_register l D ca hg σ r a ) (cwV 2 S0.2.2.2.2 (lw_V q325 q326 q327 q22 q328) rfl rfl rfl (by decide +kernel) hR) hw hA rfl rfl hls hst hdg hf rfl kk
theorem lmk_activity {p : Program} {l : Launch} {e : Env} {R : Room} {s : State} {m : MethodId} {args : Array Value} {below : List Frame} {meth : Method} {c : Code} {H : Heap} {locs : List Loc} {cells slots : Nat} {Q : State → Prop} {cc : ByteArray} {pc : Nat} {ls : Array Slot} {rest : List Value} {D : va_G} {g : Nat → Nat} {ca : Nat → ClassId} {σ : rf_Mem} {A : Nat → Prop} {nL : Nat} (S0 : CallFix p m c cc nL s args lw_all R_law) (hg : rf_g mS g) (hA : ∀ q, rf_A mS g q → A q) (hw : rf_w D vwCl mS g ca σ A s H locs) {r : Int32} (hp : ∀ k, k < 3 → σ 4 k = 1 → vp_in (σ 5 k) 16) (hR : 1 + 1 ≤ R.frames ∧ 8 + (2 + 11) + 21 ≤ R.locals) (hls : ls.size = nL) (hst : (rest.map fun v => v.category).sum ≤ 8) (hdg : decode cc pc = .ok (.invokevirtual 55, 3)) (hf : cells ≤ R.cells ∧ slots ≤ R.slots)
    (kk : ∀ (H1 : Heap) (locs1 : List Loc), rf_w D vwCl mS g ca (σ) A s H1 locs1 → H.size ≤ H1.size → (∀ q : Nat, q < H.size → ¬ rf_A mS g q → H1[q]? = H[q]?) → W p l e R s m args below meth c H1 locs1 cells slots Q (F0 m (pc + 3) ls (.int (mr_activity σ r) :: rest))) : W p l e R s m args below meth c H locs cells slots Q (F0 m pc ls (.int r :: .ref (g 0) :: rest)) :=
  rf_calli S0 (mt_activity l D ca hg σ r hp) (cwV 1 S0.2.2.2.2 (lw_V q329 q330 q331 q22 q332) rfl rfl rfl (by decide +kernel) hR) hw hA rfl rfl hls hst hdg hf rfl kk
theorem lmk_result {p : Program} {l : Launch} {e : Env} {R : Room} {s : State} {m : MethodId} {args : Array Value} {below : List Frame} {meth : Method} {c : Code} {H : Heap} {locs : List Loc} {cells slots : Nat} {Q : State → Prop} {cc : ByteArray} {pc : Nat} {ls : Array Slot} {rest : List Value} {D : va_G} {g : Nat → Nat} {ca : Nat → ClassId} {σ : rf_Mem} {A : Nat → Prop} {nL : Nat} (S0 : CallFix p m c cc nL s args lw_all R_law) (hg : rf_g mS g) (hA : ∀ q, rf_A mS g q → A q) (hw : rf_w D vwCl mS g ca σ A s H locs) {r : Int32}  (hR : 1 + 1 ≤ R.frames ∧ 8 + (2 + 11) + 21 ≤ R.locals) (hls : ls.size = nL) (hst : (rest.map fun v => v.category).sum ≤ 8) (hdg : decode cc pc = .ok (.invokevirtual 59, 3)) (hf : cells ≤ R.cells ∧ slots ≤ R.slots)
    (kk : ∀ (H1 : Heap) (locs1 : List Loc), rf_w D vwCl mS g ca (σ) A s H1 locs1 → H.size ≤ H1.size → (∀ q : Nat, q < H.size → ¬ rf_A mS g q → H1[q]? = H[q]?) → W p l e R s m args below meth c H1 locs1 cells slots Q (F0 m (pc + 3) ls (.int (mr_result σ r) :: rest))) : W p l e R s m args below meth c H locs cells slots Q (F0 m pc ls (.int r :: .ref (g 0) :: rest)) :=
  rf_calli S0 (mt_result l D ca hg σ r ) (cwV 1 S0.2.2.2.2 (lw_V q333 q334 q335 q22 q336) rfl rfl rfl (by decide +kernel) hR) hw hA rfl rfl hls hst hdg hf rfl kk
theorem lmk_untaken {p : Program} {l : Launch} {e : Env} {R : Room} {s : State} {m : MethodId} {args : Array Value} {below : List Frame} {meth : Method} {c : Code} {H : Heap} {locs : List Loc} {cells slots : Nat} {Q : State → Prop} {cc : ByteArray} {pc : Nat} {ls : Array Slot} {rest : List Value} {D : va_G} {g : Nat → Nat} {ca : Nat → ClassId} {σ : rf_Mem} {A : Nat → Prop} {nL : Nat} (S0 : CallFix p m c cc nL s args lw_all R_law) (hg : rf_g mS g) (hA : ∀ q, rf_A mS g q → A q) (hw : rf_w D vwCl mS g ca σ A s H locs) {r : Int32} (hO : ∀ k, k < 3 → rf_le (σ 11 k) 24) (hR : 1 + 1 ≤ R.frames ∧ 8 + (4 + 11) + 21 ≤ R.locals) (hls : ls.size = nL) (hst : (rest.map fun v => v.category).sum ≤ 8) (hdg : decode cc pc = .ok (.invokevirtual 63, 3)) (hf : cells ≤ R.cells ∧ slots ≤ R.slots)
    (kk : ∀ (H1 : Heap) (locs1 : List Loc), rf_w D vwCl mS g ca (σ) A s H1 locs1 → H.size ≤ H1.size → (∀ q : Nat, q < H.size → ¬ rf_A mS g q → H1[q]? = H[q]?) → W p l e R s m args below meth c H1 locs1 cells slots Q (F0 m (pc + 3) ls (.int (mr_untaken σ r) :: rest))) : W p l e R s m args below meth c H locs cells slots Q (F0 m pc ls (.int r :: .ref (g 0) :: rest)) :=
  rf_calli S0 (mt_untaken l D ca hg σ r hO) (cwV 1 S0.2.2.2.2 (lw_V q337 q338 q339 q22 q340) rfl rfl rfl (by decide +kernel) hR) hw hA rfl rfl hls hst hdg hf rfl kk
theorem lmk_time {p : Program} {l : Launch} {e : Env} {R : Room} {s : State} {m : MethodId} {args : Array Value} {below : List Frame} {meth : Method} {c : Code} {H : Heap} {locs : List Loc} {cells slots : Nat} {Q : State → Prop} {cc : ByteArray} {pc : Nat} {ls : Array Slot} {rest : List Value} {D : va_G} {g : Nat → Nat} {ca : Nat → ClassId} {σ : rf_Mem} {A : Nat → Prop} {nL : Nat} (S0 : CallFix p m c cc nL s args lw_all R_law) (hg : rf_g mS g) (hA : ∀ q, rf_A mS g q → A q) (hw : rf_w D vwCl mS g ca σ A s H locs)   (hR : 0 + 1 ≤ R.frames ∧ 8 + (1 + 11) + 0 ≤ R.locals) (hls : ls.size = nL) (hst : (rest.map fun v => v.category).sum ≤ 8) (hdg : decode cc pc = .ok (.invokevirtual 68, 3)) (hf : cells ≤ R.cells ∧ slots ≤ R.slots)
    (kk : ∀ (H1 : Heap) (locs1 : List Loc), rf_w D vwCl mS g ca (σ) A s H1 locs1 → H.size ≤ H1.size → (∀ q : Nat, q < H.size → ¬ rf_A mS g q → H1[q]? = H[q]?) → W p l e R s m args below meth c H1 locs1 cells slots Q (F0 m (pc + 3) ls (.int (σ 0 2) :: rest))) : W p l e R s m args below meth c H locs cells slots Q (F0 m pc ls (.ref (g 0) :: rest)) :=
  rf_calli S0 (mt_time l D ca hg σ  ) (cwV 0 S0.2.2.2.2 (lw_V q341 q342 q343 q22 q344) rfl rfl rfl (by decide +kernel) hR) hw hA rfl rfl hls hst hdg hf rfl kk
end
section
theorem rf_more {N L : Nat} (h : ¬ nI L - 4 < nI (4 * N)) (hL : L < 2 ^ 30) (hN : 4 * N < 2 ^ 30) : 4 * N + 4 ≤ L := by
  rw [Int32.lt_iff_toInt_lt, show (4 : Int32) = nI 4 from rfl, pk_sub_toInt hL (by decide), nI_toInt (by omega)] at h
  omega
theorem x_dflt_ok : ∀ j, j < 22 → defaultValue (tyX0 j) = vp_V x_dflt j := fun j hj => match j, hj with
  | 0, _ => rfl
  | 1, _ => rfl
  | 2, _ => rfl
  | 3, _ => rfl
  | 4, _ => rfl
  | 5, _ => rfl
  | 6, _ => rfl
  | 7, _ => rfl
  | 8, _ => rfl
  | 9, _ => rfl
  | 10, _ => rfl
  | 11, _ => rfl
  | 12, _ => rfl
  | 13, _ => rfl
  | 14, _ => rfl
  | 15, _ => rfl
  | 16, _ => rfl
  | 17, _ => rfl
  | 18, _ => rfl
  | 19, _ => rfl
  | 20, _ => rfl
  | 21, _ => rfl
  | n + 22, h => absurd h (by omega)
theorem m_dflt_ok : ∀ j, j < 17 → defaultValue (tyX1 j) = vp_V m_dflt j := fun j hj => match j, hj with
  | 0, _ => rfl
  | 1, _ => rfl
  | 2, _ => rfl
  | 3, _ => rfl
  | 4, _ => rfl
  | 5, _ => rfl
  | 6, _ => rfl
  | 7, _ => rfl
  | 8, _ => rfl
  | 9, _ => rfl
  | 10, _ => rfl
  | 11, _ => rfl
  | 12, _ => rfl
  | 13, _ => rfl
  | 14, _ => rfl
  | 15, _ => rfl
  | 16, _ => rfl
  | n + 17, h => absurd h (by omega)

/-- both classes, known at the claim's start -/
theorem rf_classes {s : State} {b : Addr} (ht0 : ∀ w ∈ lw_tbl, w.before #[Value.ref b] s = true) : ∃ D : va_G, va_K D vwCl [] s := by
  obtain ⟨c0_, iS0, hKn0⟩ := u_known (C := RX0) (T := TX0) (N := 22) (n := 22) ht0 (fun w h => lw_all_tbl (in_X0 w h)) (ht0 _ (lw_all_tbl q24))
  obtain ⟨c1_, iS1, hKn1⟩ := u_known (C := RX1) (T := TX1) (N := 17) (n := 17) ht0 (fun w h => lw_all_tbl (in_X1 w h)) (ht0 _ (lw_all_tbl q204))
  refine ⟨(fun k => if k = 0 then c0_ else c1_, fun k => if k = 0 then iS0 else iS1), fun k q hq => ?_, fun k q hq => by simp at hq⟩
  match k, hq with
  | 0, hq => cases hq; exact hKn0
  | 1, hq => cases hq; exact hKn1
  | k + 2, hq => simp [vwCl] at hq
/-- the other object stays as it is -/
theorem rf_other {D : va_G} {cl : List vw_C} {S0 S1 : rf_Sh} {g0 g1 : Nat → Nat} {ca0 ca1 : Nat → ClassId} {σ τ : rf_Mem} {A : Nat → Prop} {s : State} {H H1 : Heap} {locs locs1 : List Loc} (hw1 : rf_w D cl S1 g1 ca1 τ A s H locs) (hw0 : rf_w D cl S0 g0 ca0 σ A s H1 locs1) (hk : ∀ q : Nat, q < H.size → ¬ rf_A S0 g0 q → H1[q]? = H[q]?) (hd : ∀ j, j ≤ S1.1 → ¬ rf_A S0 g0 (g1 j)) : rf_w D cl S1 g1 ca1 τ A s H1 locs1 :=
  ⟨hw1.1, va_P.kept hw1.2.1 (fun k q hq => hk q.1 ((hw1.2.1 k q hq).lt) (by rw [(rf_ow_at hq).2]; exact hd k (rf_ow_at hq).1)), hw0.2.2⟩
theorem rf_appL {D : va_G} {cl : List vw_C} {w1 w2 : va_W} {H : Heap} (h : va_P D cl (w1 ++ w2) H) : va_P D cl w1 H := fun k q hq => h k q (by rw [List.getElem?_append_left (List.getElem?_eq_some_iff.mp hq).1]; exact hq)
theorem rf_appR {D : va_G} {cl : List vw_C} {w1 : va_W} {x : Nat × va_E} {H : Heap} (h : va_P D cl (w1 ++ [x]) H) : va_P D cl [x] H := by
  intro k q hq
  have hk : k < 1 := (List.getElem?_eq_some_iff.mp hq).1
  obtain rfl : k = 0 := by omega
  exact h w1.length q (by rw [List.getElem?_append_right (Nat.le_refl _), Nat.sub_self]; exact hq)
theorem rf_appD {A : Nat → Prop} {w1 : va_W} {x : Nat × va_E} (h : va_D A (w1 ++ [x])) : va_D A [x] ∧ ∀ (k : Nat) (q : Nat × va_E), w1[k]? = some q → q.1 ≠ x.1 := by
  have hx : (w1 ++ [x])[w1.length]? = some x := by rw [List.getElem?_append_right (Nat.le_refl _), Nat.sub_self]; rfl
  refine ⟨⟨fun i j p q hi hj _ => ?_, fun k q hk => ?_⟩, fun k q hk he => ?_⟩
  · have h1 : i < 1 := (List.getElem?_eq_some_iff.mp hi).1
    have h2 : j < 1 := (List.getElem?_eq_some_iff.mp hj).1
    omega
  · have h1 : k < 1 := (List.getElem?_eq_some_iff.mp hk).1
    obtain rfl : k = 0 := by omega
    cases hk
    exact h.2 _ _ hx
  · have hl : k < w1.length := (List.getElem?_eq_some_iff.mp hk).1
    have := h.1 k w1.length q x (by rw [List.getElem?_append_left hl]; exact hk) hx he
    omega

set_option maxHeartbeats 8000000 in
set_option maxRecDepth 100000 in
/-- the law's loop at its head: N calls are done -/
theorem law_loop {p : Program} {l : Launch} {e : Env} {s : State} {m : MethodId} {below : List Frame} {meth : Method} {c : Code} {b L : Nat} {xs : Nat → Int32} {D : va_G} {g0 g1 : Nat → Nat} {ca0 ca1 : Nat → ClassId} (hL : L ≤ 256) (hx : p.tables.exec = Jvm.exec) (hb : c.code = cL_law) (hr : meth.sig.returnType = ret) (hlk : meth.locks = false) (hml : c.maxLocals = 4) (hown : s.vm.findClass R_law = some m.cls) (hts : ∀ w ∈ lw_all, w.before #[Value.ref b] s = true) (hX : va_X b L xs s s.heap) (hbl : b < s.heap.size)
  (hg0 : rf_g xS g0) (hg1 : rf_g mS g1) (hA0 : ∀ q, rf_A xS g0 q → s.heap.size ≤ q) (hA1 : ∀ q, rf_A mS g1 q → s.heap.size ≤ q) (hd0 : ∀ j, j ≤ mS.1 → ¬ rf_A xS g0 (g1 j)) (hd1 : ∀ j, j ≤ xS.1 → ¬ rf_A mS g1 (g0 j)) :
    ∀ (n N : Nat) (σ τ : rf_Mem) (H : Heap) (locs : List Loc) (ls : Array Slot), N + n = 65 → rv_All N σ τ → rf_w D vwCl xS g0 ca0 σ (fun q => s.heap.size ≤ q) s H locs → rf_w D vwCl mS g1 ca1 τ (fun q => s.heap.size ≤ q) s H locs → lv_has ls 4 [(3, .int (nI (4 * N))), (0, .ref b), (1, .ref (g0 0)), (2, .ref (g1 0))] → W p l e room_1 s m #[Value.ref b] below meth c H locs 600000 7290000 (lw_Z below #[Value.ref b] s) (F0 m 18 ls []) := by
  have hbA : ¬ s.heap.size ≤ b := Nat.not_le.mpr hbl
  intro n
  induction n with
  | zero =>
    intro N σ τ H locs ls hn h hw0 hw1 hl
    refine lv_iload_n hx hb dL_law_18 rfl (lv_at hl 0 rfl) ?_
    refine lv_aload_n hx hb dL_law_19 rfl (lv_at hl 1 rfl) ?_
    refine va_slen hx hb hX hbl hbA hw0.2.2 dL_law_20 ?_
    refine lv_iconst (v := 4) hx hb dL_law_21 (by decide) ?_
    refine lv_isub hx hb dL_law_22 ?_
    refine lv_icmp_gt (tgt := 453) hx hb dL_law_23 (by decide) (fun c_23 => ?_) (fun c_23 => ?_)
    · refine lv_iconst (v := 1) hx hb dL_law_453 (by decide) ?_
      refine va_forget (fun q hq => hw0.2.2.2.2 q hq) ?_
      exact lw_ret hx hb hr hlk dL_law_454
    · have hN4 : 4 * N + 4 ≤ L := rf_more c_23 (by omega) (by omega)
      exact absurd hN4 (by omega)
  | succ n ih =>
    intro N σ τ H locs ls hn h hw0 hw1 hl
    have K447 : ∀ (σ2 τ2 : rf_Mem) (H : Heap) (locs : List Loc) (ls : Array Slot), rv_All (N + 1) σ2 τ2 → rf_w D vwCl xS g0 ca0 σ2 (fun q => s.heap.size ≤ q) s H locs → rf_w D vwCl mS g1 ca1 τ2 (fun q => s.heap.size ≤ q) s H locs → lv_has ls 4 [(3, .int (nI (4 * N))), (0, .ref b), (1, .ref (g0 0)), (2, .ref (g1 0))] → W p l e room_1 s m #[Value.ref b] below meth c H locs 600000 7290000 (lw_Z below #[Value.ref b] s) (F0 m 447 ls []) := by
      intro σ2 τ2 H locs ls h2 hw0 hw1 hl
      refine lv_iinc (v := nI (4 * (N + 1))) (lv' := [(3, .int _), (0, .ref _), (1, .ref _), (2, .ref _)]) hx hb dL_law_447 hl (k := 0) rfl (nI_add (4 * N) 4) (by decide) rfl (fun ls hl => ?_)
      refine lv_goto (tgt := 18) hx hb dL_law_450 (by decide) ?_
      exact ih (N + 1) σ2 τ2 _ _ _ (by omega) h2 hw0 hw1 hl
    refine lv_iload_n hx hb dL_law_18 rfl (lv_at hl 0 rfl) ?_
    refine lv_aload_n hx hb dL_law_19 rfl (lv_at hl 1 rfl) ?_
    refine va_slen hx hb hX hbl hbA hw0.2.2 dL_law_20 ?_
    refine lv_iconst (v := 4) hx hb dL_law_21 (by decide) ?_
    refine lv_isub hx hb dL_law_22 ?_
    refine lv_icmp_gt (tgt := 453) hx hb dL_law_23 (by decide) (fun c_23 => ?_) (fun c_23 => ?_)
    · refine lv_iconst (v := 1) hx hb dL_law_453 (by decide) ?_
      refine va_forget (fun q hq => hw0.2.2.2.2 q hq) ?_
      exact lw_ret hx hb hr hlk dL_law_454
    · have hN4 : 4 * N + 4 ≤ L := rf_more c_23 (by omega) (by omega)
      have hin0 : vp_in (nI (4 * N)) L := vp_in_nI (by omega) (by omega)
      have hin1 : vp_in (nI (4 * N) + 1) L := by rw [nI_1]; exact vp_in_nI (by omega) (by omega)
      have hin2 : vp_in (nI (4 * N) + 2) L := by rw [show nI (4 * N) + 2 = nI (4 * N + 2) from nI_add _ 2]; exact vp_in_nI (by omega) (by omega)
      have hin3 : vp_in (nI (4 * N) + 3) L := by rw [show nI (4 * N) + 3 = nI (4 * N + 3) from nI_add _ 3]; exact vp_in_nI (by omega) (by omega)
      refine lv_aload_n hx hb dL_law_26 rfl (lv_at hl 1 rfl) ?_
      refine lv_iload_n hx hb dL_law_27 rfl (lv_at hl 0 rfl) ?_
      refine va_sld hx hb hX hbl hbA hw0.2.2 hin0 dL_law_28 ?_
      refine lv_bipush (v := 15) hx hb dL_law_29 (by decide) ?_
      refine lv_iand hx hb dL_law_31 ?_
      obtain ⟨j, hj, ej⟩ := pk_andE (xs (nI (4 * N)).toNatClampNeg) (m := 15) 4 rfl
      rw [ej]
      rcases (show j = 0 ∨ j = 1 ∨ j = 2 ∨ j = 3 ∨ j = 4 ∨ j = 5 ∨ j = 6 ∨ j = 7 ∨ j = 8 ∨ j = 9 ∨ j = 10 ∨ j = 11 ∨ j = 12 ∨ 13 ≤ j by omega) with rfl | rfl | rfl | rfl | rfl | rfl | rfl | rfl | rfl | rfl | rfl | rfl | rfl | hj13
      · refine lv_tableIn (tgt := 100) (off := 68) hx hb dL_law_32 (by decide) (by decide) (by rfl) (by decide) ?_
        refine lv_aload_n hx hb dL_law_100 rfl (lv_at hl 2 rfl) ?_
        refine lv_aload_n hx hb dL_law_101 rfl (lv_at hl 1 rfl) ?_
        refine lv_iload_n hx hb dL_law_102 rfl (lv_at hl 0 rfl) ?_
        refine lv_iconst (v := 1) hx hb dL_law_103 (by decide) ?_
        refine lv_iadd hx hb dL_law_104 ?_
        refine va_sld hx hb hX hbl hbA hw0.2.2 hin1 dL_law_105 ?_
        refine lv_aload_n hx hb dL_law_106 rfl (lv_at hl 1 rfl) ?_
        refine lv_iload_n hx hb dL_law_107 rfl (lv_at hl 0 rfl) ?_
        refine lv_iconst (v := 2) hx hb dL_law_108 (by decide) ?_
        refine lv_iadd hx hb dL_law_109 ?_
        refine va_sld hx hb hX hbl hbA hw0.2.2 hin2 dL_law_110 ?_
        refine lv_aload_n hx hb dL_law_111 rfl (lv_at hl 1 rfl) ?_
        refine lv_iload_n hx hb dL_law_112 rfl (lv_at hl 0 rfl) ?_
        refine lv_iconst (v := 3) hx hb dL_law_113 (by decide) ?_
        refine lv_iadd hx hb dL_law_114 ?_
        refine va_sld hx hb hX hbl hbA hw0.2.2 hin3 dL_law_115 ?_
        refine lxk_emit ⟨hx, hb, hml, hown, hts⟩ hg0 hA0 hw0 h.1.2.1 ⟨Nat.le_of_ble_eq_true rfl, Nat.le_of_ble_eq_true rfl⟩ hl.1 (Nat.le_of_ble_eq_true rfl) dL_law_116 ⟨Nat.le_of_ble_eq_true rfl, Nat.le_of_ble_eq_true rfl⟩ (fun H locs hw0 hz hk => ?_)
        have hw1 := rf_other hw1 hw0 hk hd0
        refine lv_aload_n hx hb dL_law_119 rfl (lv_at hl 3 rfl) ?_
        refine lv_aload_n hx hb dL_law_120 rfl (lv_at hl 1 rfl) ?_
        refine lv_iload_n hx hb dL_law_121 rfl (lv_at hl 0 rfl) ?_
        refine lv_iconst (v := 1) hx hb dL_law_122 (by decide) ?_
        refine lv_iadd hx hb dL_law_123 ?_
        refine va_sld hx hb hX hbl hbA hw0.2.2 hin1 dL_law_124 ?_
        refine lv_aload_n hx hb dL_law_125 rfl (lv_at hl 1 rfl) ?_
        refine lv_iload_n hx hb dL_law_126 rfl (lv_at hl 0 rfl) ?_
        refine lv_iconst (v := 2) hx hb dL_law_127 (by decide) ?_
        refine lv_iadd hx hb dL_law_128 ?_
        refine va_sld hx hb hX hbl hbA hw0.2.2 hin2 dL_law_129 ?_
        refine lv_aload_n hx hb dL_law_130 rfl (lv_at hl 1 rfl) ?_
        refine lv_iload_n hx hb dL_law_131 rfl (lv_at hl 0 rfl) ?_
        refine lv_iconst (v := 3) hx hb dL_law_132 (by decide) ?_
        refine lv_iadd hx hb dL_law_133 ?_
        refine va_sld hx hb hX hbl hbA hw0.2.2 hin3 dL_law_134 ?_
        refine lmk_emit ⟨hx, hb, hml, hown, hts⟩ hg1 hA1 hw1 (by rw [← h.1.1]; exact h.1.2.1) ⟨Nat.le_of_ble_eq_true rfl, Nat.le_of_ble_eq_true rfl⟩ hl.1 (Nat.le_of_ble_eq_true rfl) dL_law_135 ⟨Nat.le_of_ble_eq_true rfl, Nat.le_of_ble_eq_true rfl⟩ (fun H locs hw1 hz hk => ?_)
        have hw0 := rf_other hw0 hw1 hk hd1
        refine lv_icmp_eq (tgt := 447) hx hb dL_law_138 (by decide) (fun c_ => ?_) (fun c_ => ?_)
        · exact K447 _ _ _ _ _ (all_up (op_emit h _ _ _).2) hw0 hw1 hl
        · exact absurd (op_emit h _ 0 0).1 c_
      · refine lv_tableIn (tgt := 143) (off := 111) hx hb dL_law_32 (by decide) (by decide) (by rfl) (by decide) ?_
        refine lv_aload_n hx hb dL_law_143 rfl (lv_at hl 2 rfl) ?_
        refine lv_aload_n hx hb dL_law_144 rfl (lv_at hl 1 rfl) ?_
        refine lv_iload_n hx hb dL_law_145 rfl (lv_at hl 0 rfl) ?_
        refine lv_iconst (v := 1) hx hb dL_law_146 (by decide) ?_
        refine lv_iadd hx hb dL_law_147 ?_
        refine va_sld hx hb hX hbl hbA hw0.2.2 hin1 dL_law_148 ?_
        refine lv_aload_n hx hb dL_law_149 rfl (lv_at hl 1 rfl) ?_
        refine lv_iload_n hx hb dL_law_150 rfl (lv_at hl 0 rfl) ?_
        refine lv_iconst (v := 2) hx hb dL_law_151 (by decide) ?_
        refine lv_iadd hx hb dL_law_152 ?_
        refine va_sld hx hb hX hbl hbA hw0.2.2 hin2 dL_law_153 ?_
        refine lxk_start ⟨hx, hb, hml, hown, hts⟩ hg0 hA0 hw0 h.1.2.1 ⟨Nat.le_of_ble_eq_true rfl, Nat.le_of_ble_eq_true rfl⟩ hl.1 (Nat.le_of_ble_eq_true rfl) dL_law_154 ⟨Nat.le_of_ble_eq_true rfl, Nat.le_of_ble_eq_true rfl⟩ (fun H locs hw0 hz hk => ?_)
        have hw1 := rf_other hw1 hw0 hk hd0
        refine lv_aload_n hx hb dL_law_157 rfl (lv_at hl 3 rfl) ?_
        refine lv_aload_n hx hb dL_law_158 rfl (lv_at hl 1 rfl) ?_
        refine lv_iload_n hx hb dL_law_159 rfl (lv_at hl 0 rfl) ?_
        refine lv_iconst (v := 1) hx hb dL_law_160 (by decide) ?_
        refine lv_iadd hx hb dL_law_161 ?_
        refine va_sld hx hb hX hbl hbA hw0.2.2 hin1 dL_law_162 ?_
        refine lv_aload_n hx hb dL_law_163 rfl (lv_at hl 1 rfl) ?_
        refine lv_iload_n hx hb dL_law_164 rfl (lv_at hl 0 rfl) ?_
        refine lv_iconst (v := 2) hx hb dL_law_165 (by decide) ?_
        refine lv_iadd hx hb dL_law_166 ?_
        refine va_sld hx hb hX hbl hbA hw0.2.2 hin2 dL_law_167 ?_
        refine lmk_start ⟨hx, hb, hml, hown, hts⟩ hg1 hA1 hw1 (all_mok h) ⟨Nat.le_of_ble_eq_true rfl, Nat.le_of_ble_eq_true rfl⟩ hl.1 (Nat.le_of_ble_eq_true rfl) dL_law_168 ⟨Nat.le_of_ble_eq_true rfl, Nat.le_of_ble_eq_true rfl⟩ (fun H locs hw1 hz hk => ?_)
        have hw0 := rf_other hw0 hw1 hk hd1
        refine lv_icmp_eq (tgt := 447) hx hb dL_law_171 (by decide) (fun c_ => ?_) (fun c_ => ?_)
        · exact K447 _ _ _ _ _ (all_up (op_start (by omega) h _ _).2) hw0 hw1 hl
        · exact absurd (op_start (by omega) h _ _).1 c_
      · refine lv_tableIn (tgt := 176) (off := 144) hx hb dL_law_32 (by decide) (by decide) (by rfl) (by decide) ?_
        refine lv_aload_n hx hb dL_law_176 rfl (lv_at hl 2 rfl) ?_
        refine lv_aload_n hx hb dL_law_177 rfl (lv_at hl 1 rfl) ?_
        refine lv_iload_n hx hb dL_law_178 rfl (lv_at hl 0 rfl) ?_
        refine lv_iconst (v := 1) hx hb dL_law_179 (by decide) ?_
        refine lv_iadd hx hb dL_law_180 ?_
        refine va_sld hx hb hX hbl hbA hw0.2.2 hin1 dL_law_181 ?_
        refine lv_aload_n hx hb dL_law_182 rfl (lv_at hl 1 rfl) ?_
        refine lv_iload_n hx hb dL_law_183 rfl (lv_at hl 0 rfl) ?_
        refine lv_iconst (v := 2) hx hb dL_law_184 (by decide) ?_
        refine lv_iadd hx hb dL_law_185 ?_
        refine va_sld hx hb hX hbl hbA hw0.2.2 hin2 dL_law_186 ?_
        refine lxk_answer ⟨hx, hb, hml, hown, hts⟩ hg0 hA0 hw0 (all_ok h) ⟨Nat.le_of_ble_eq_true rfl, Nat.le_of_ble_eq_true rfl⟩ hl.1 (Nat.le_of_ble_eq_true rfl) dL_law_187 ⟨Nat.le_of_ble_eq_true rfl, Nat.le_of_ble_eq_true rfl⟩ (fun H locs hw0 hz hk => ?_)
        have hw1 := rf_other hw1 hw0 hk hd0
        refine lv_aload_n hx hb dL_law_190 rfl (lv_at hl 3 rfl) ?_
        refine lv_aload_n hx hb dL_law_191 rfl (lv_at hl 1 rfl) ?_
        refine lv_iload_n hx hb dL_law_192 rfl (lv_at hl 0 rfl) ?_
        refine lv_iconst (v := 1) hx hb dL_law_193 (by decide) ?_
        refine lv_iadd hx hb dL_law_194 ?_
        refine va_sld hx hb hX hbl hbA hw0.2.2 hin1 dL_law_195 ?_
        refine lv_aload_n hx hb dL_law_196 rfl (lv_at hl 1 rfl) ?_
        refine lv_iload_n hx hb dL_law_197 rfl (lv_at hl 0 rfl) ?_
        refine lv_iconst (v := 2) hx hb dL_law_198 (by decide) ?_
        refine lv_iadd hx hb dL_law_199 ?_
        refine va_sld hx hb hX hbl hbA hw0.2.2 hin2 dL_law_200 ?_
        refine lmk_answer ⟨hx, hb, hml, hown, hts⟩ hg1 hA1 hw1 (all_mok h) (fun k hk q => (calling h hk q).2.1) ⟨Nat.le_of_ble_eq_true rfl, Nat.le_of_ble_eq_true rfl⟩ hl.1 (Nat.le_of_ble_eq_true rfl) dL_law_201 ⟨Nat.le_of_ble_eq_true rfl, Nat.le_of_ble_eq_true rfl⟩ (fun H locs hw1 hz hk => ?_)
        have hw0 := rf_other hw0 hw1 hk hd1
        refine lv_icmp_eq (tgt := 447) hx hb dL_law_204 (by decide) (fun c_ => ?_) (fun c_ => ?_)
        · exact K447 _ _ _ _ _ (all_up (op_answer (by omega) h _ _).2) hw0 hw1 hl
        · exact absurd (op_answer (by omega) h _ _).1 c_
      · refine lv_tableIn (tgt := 209) (off := 177) hx hb dL_law_32 (by decide) (by decide) (by rfl) (by decide) ?_
        refine lv_aload_n hx hb dL_law_209 rfl (lv_at hl 2 rfl) ?_
        refine lv_aload_n hx hb dL_law_210 rfl (lv_at hl 1 rfl) ?_
        refine lv_iload_n hx hb dL_law_211 rfl (lv_at hl 0 rfl) ?_
        refine lv_iconst (v := 1) hx hb dL_law_212 (by decide) ?_
        refine lv_iadd hx hb dL_law_213 ?_
        refine va_sld hx hb hX hbl hbA hw0.2.2 hin1 dL_law_214 ?_
        refine lv_aload_n hx hb dL_law_215 rfl (lv_at hl 1 rfl) ?_
        refine lv_iload_n hx hb dL_law_216 rfl (lv_at hl 0 rfl) ?_
        refine lv_iconst (v := 2) hx hb dL_law_217 (by decide) ?_
        refine lv_iadd hx hb dL_law_218 ?_
        refine va_sld hx hb hX hbl hbA hw0.2.2 hin2 dL_law_219 ?_
        refine lv_aload_n hx hb dL_law_220 rfl (lv_at hl 1 rfl) ?_
        refine lv_iload_n hx hb dL_law_221 rfl (lv_at hl 0 rfl) ?_
        refine lv_iconst (v := 3) hx hb dL_law_222 (by decide) ?_
        refine lv_iadd hx hb dL_law_223 ?_
        refine va_sld hx hb hX hbl hbA hw0.2.2 hin3 dL_law_224 ?_
        refine lxk_signal ⟨hx, hb, hml, hown, hts⟩ hg0 hA0 hw0 (all_ok h) ⟨Nat.le_of_ble_eq_true rfl, Nat.le_of_ble_eq_true rfl⟩ hl.1 (Nat.le_of_ble_eq_true rfl) dL_law_225 ⟨Nat.le_of_ble_eq_true rfl, Nat.le_of_ble_eq_true rfl⟩ (fun H locs hw0 hz hk => ?_)
        have hw1 := rf_other hw1 hw0 hk hd0
        refine lv_aload_n hx hb dL_law_228 rfl (lv_at hl 3 rfl) ?_
        refine lv_aload_n hx hb dL_law_229 rfl (lv_at hl 1 rfl) ?_
        refine lv_iload_n hx hb dL_law_230 rfl (lv_at hl 0 rfl) ?_
        refine lv_iconst (v := 1) hx hb dL_law_231 (by decide) ?_
        refine lv_iadd hx hb dL_law_232 ?_
        refine va_sld hx hb hX hbl hbA hw0.2.2 hin1 dL_law_233 ?_
        refine lv_aload_n hx hb dL_law_234 rfl (lv_at hl 1 rfl) ?_
        refine lv_iload_n hx hb dL_law_235 rfl (lv_at hl 0 rfl) ?_
        refine lv_iconst (v := 2) hx hb dL_law_236 (by decide) ?_
        refine lv_iadd hx hb dL_law_237 ?_
        refine va_sld hx hb hX hbl hbA hw0.2.2 hin2 dL_law_238 ?_
        refine lv_aload_n hx hb dL_law_239 rfl (lv_at hl 1 rfl) ?_
        refine lv_iload_n hx hb dL_law_240 rfl (lv_at hl 0 rfl) ?_
        refine lv_iconst (v := 3) hx hb dL_law_241 (by decide) ?_
        refine lv_iadd hx hb dL_law_242 ?_
        refine va_sld hx hb hX hbl hbA hw0.2.2 hin3 dL_law_243 ?_
        refine lmk_signal ⟨hx, hb, hml, hown, hts⟩ hg1 hA1 hw1 (all_mok h) ⟨Nat.le_of_ble_eq_true rfl, Nat.le_of_ble_eq_true rfl⟩ hl.1 (Nat.le_of_ble_eq_true rfl) dL_law_244 ⟨Nat.le_of_ble_eq_true rfl, Nat.le_of_ble_eq_true rfl⟩ (fun H locs hw1 hz hk => ?_)
        have hw0 := rf_other hw0 hw1 hk hd1
        refine lv_icmp_eq (tgt := 447) hx hb dL_law_247 (by decide) (fun c_ => ?_) (fun c_ => ?_)
        · exact K447 _ _ _ _ _ (all_up (op_signal (by omega) h _ _ _).2) hw0 hw1 hl
        · exact absurd (op_signal (by omega) h _ _ _).1 c_
      · refine lv_tableIn (tgt := 252) (off := 220) hx hb dL_law_32 (by decide) (by decide) (by rfl) (by decide) ?_
        refine lv_aload_n hx hb dL_law_252 rfl (lv_at hl 2 rfl) ?_
        refine lv_aload_n hx hb dL_law_253 rfl (lv_at hl 1 rfl) ?_
        refine lv_iload_n hx hb dL_law_254 rfl (lv_at hl 0 rfl) ?_
        refine lv_iconst (v := 1) hx hb dL_law_255 (by decide) ?_
        refine lv_iadd hx hb dL_law_256 ?_
        refine va_sld hx hb hX hbl hbA hw0.2.2 hin1 dL_law_257 ?_
        refine lxk_pass ⟨hx, hb, hml, hown, hts⟩ hg0 hA0 hw0 (fun n0 n1 j hj => all_ok (op_passN (by omega) (all_now (by omega) h n0 n1) j (by omega)).2 j hj) ⟨Nat.le_of_ble_eq_true rfl, Nat.le_of_ble_eq_true rfl⟩ hl.1 (Nat.le_of_ble_eq_true rfl) dL_law_258 ⟨Nat.le_of_ble_eq_true rfl, Nat.le_of_ble_eq_true rfl⟩ (fun H locs hw0 hz hk => ?_)
        have hw1 := rf_other hw1 hw0 hk hd0
        refine lv_aload_n hx hb dL_law_261 rfl (lv_at hl 3 rfl) ?_
        refine lv_aload_n hx hb dL_law_262 rfl (lv_at hl 1 rfl) ?_
        refine lv_iload_n hx hb dL_law_263 rfl (lv_at hl 0 rfl) ?_
        refine lv_iconst (v := 1) hx hb dL_law_264 (by decide) ?_
        refine lv_iadd hx hb dL_law_265 ?_
        refine va_sld hx hb hX hbl hbA hw0.2.2 hin1 dL_law_266 ?_
        refine lmk_pass ⟨hx, hb, hml, hown, hts⟩ hg1 hA1 hw1 (fun n0 n1 j hj => all_mok (op_passN (by omega) (all_now (by omega) h n0 n1) j (by omega)).2 j hj) ⟨Nat.le_of_ble_eq_true rfl, Nat.le_of_ble_eq_true rfl⟩ hl.1 (Nat.le_of_ble_eq_true rfl) dL_law_267 ⟨Nat.le_of_ble_eq_true rfl, Nat.le_of_ble_eq_true rfl⟩ (fun H locs hw1 hz hk => ?_)
        have hw0 := rf_other hw0 hw1 hk hd1
        refine lv_icmp_eq (tgt := 447) hx hb dL_law_270 (by decide) (fun c_ => ?_) (fun c_ => ?_)
        · exact K447 _ _ _ _ _ (op_pass (by omega) h _).2 hw0 hw1 hl
        · exact absurd (op_pass (by omega) h _).1 c_
      · refine lv_tableIn (tgt := 275) (off := 243) hx hb dL_law_32 (by decide) (by decide) (by rfl) (by decide) ?_
        refine lv_aload_n hx hb dL_law_275 rfl (lv_at hl 2 rfl) ?_
        refine lv_aload_n hx hb dL_law_276 rfl (lv_at hl 1 rfl) ?_
        refine lv_iload_n hx hb dL_law_277 rfl (lv_at hl 0 rfl) ?_
        refine lv_iconst (v := 1) hx hb dL_law_278 (by decide) ?_
        refine lv_iadd hx hb dL_law_279 ?_
        refine va_sld hx hb hX hbl hbA hw0.2.2 hin1 dL_law_280 ?_
        refine lxk_forget ⟨hx, hb, hml, hown, hts⟩ hg0 hA0 hw0  ⟨Nat.le_of_ble_eq_true rfl, Nat.le_of_ble_eq_true rfl⟩ hl.1 (Nat.le_of_ble_eq_true rfl) dL_law_281 ⟨Nat.le_of_ble_eq_true rfl, Nat.le_of_ble_eq_true rfl⟩ (fun H locs hw0 hz hk => ?_)
        have hw1 := rf_other hw1 hw0 hk hd0
        refine lv_aload_n hx hb dL_law_284 rfl (lv_at hl 3 rfl) ?_
        refine lv_aload_n hx hb dL_law_285 rfl (lv_at hl 1 rfl) ?_
        refine lv_iload_n hx hb dL_law_286 rfl (lv_at hl 0 rfl) ?_
        refine lv_iconst (v := 1) hx hb dL_law_287 (by decide) ?_
        refine lv_iadd hx hb dL_law_288 ?_
        refine va_sld hx hb hX hbl hbA hw0.2.2 hin1 dL_law_289 ?_
        refine lmk_forget ⟨hx, hb, hml, hown, hts⟩ hg1 hA1 hw1  ⟨Nat.le_of_ble_eq_true rfl, Nat.le_of_ble_eq_true rfl⟩ hl.1 (Nat.le_of_ble_eq_true rfl) dL_law_290 ⟨Nat.le_of_ble_eq_true rfl, Nat.le_of_ble_eq_true rfl⟩ (fun H locs hw1 hz hk => ?_)
        have hw0 := rf_other hw0 hw1 hk hd1
        refine lv_icmp_eq (tgt := 447) hx hb dL_law_293 (by decide) (fun c_ => ?_) (fun c_ => ?_)
        · exact K447 _ _ _ _ _ (all_up (op_forget h _).2) hw0 hw1 hl
        · exact absurd (op_forget h _).1 c_
      · refine lv_tableIn (tgt := 298) (off := 266) hx hb dL_law_32 (by decide) (by decide) (by rfl) (by decide) ?_
        refine lv_aload_n hx hb dL_law_298 rfl (lv_at hl 2 rfl) ?_
        refine lxk_clear ⟨hx, hb, hml, hown, hts⟩ hg0 hA0 hw0  ⟨Nat.le_of_ble_eq_true rfl, Nat.le_of_ble_eq_true rfl⟩ hl.1 (Nat.le_of_ble_eq_true rfl) dL_law_299 ⟨Nat.le_of_ble_eq_true rfl, Nat.le_of_ble_eq_true rfl⟩ (fun H locs hw0 hz hk => ?_)
        have hw1 := rf_other hw1 hw0 hk hd0
        refine lv_aload_n hx hb dL_law_302 rfl (lv_at hl 3 rfl) ?_
        refine lmk_clear ⟨hx, hb, hml, hown, hts⟩ hg1 hA1 hw1  ⟨Nat.le_of_ble_eq_true rfl, Nat.le_of_ble_eq_true rfl⟩ hl.1 (Nat.le_of_ble_eq_true rfl) dL_law_303 ⟨Nat.le_of_ble_eq_true rfl, Nat.le_of_ble_eq_true rfl⟩ (fun H locs hw1 hz hk => ?_)
        have hw0 := rf_other hw0 hw1 hk hd1
        refine lv_goto (tgt := 447) hx hb dL_law_306 (by decide) ?_
        exact K447 _ _ _ _ _ (all_up (op_clear h)) hw0 hw1 hl
      · refine lv_tableIn (tgt := 309) (off := 277) hx hb dL_law_32 (by decide) (by decide) (by rfl) (by decide) ?_
        refine lv_aload_n hx hb dL_law_309 rfl (lv_at hl 2 rfl) ?_
        refine lv_aload_n hx hb dL_law_310 rfl (lv_at hl 1 rfl) ?_
        refine lv_iload_n hx hb dL_law_311 rfl (lv_at hl 0 rfl) ?_
        refine lv_iconst (v := 1) hx hb dL_law_312 (by decide) ?_
        refine lv_iadd hx hb dL_law_313 ?_
        refine va_sld hx hb hX hbl hbA hw0.2.2 hin1 dL_law_314 ?_
        refine lxk_state ⟨hx, hb, hml, hown, hts⟩ hg0 hA0 hw0 (all_ok h) ⟨Nat.le_of_ble_eq_true rfl, Nat.le_of_ble_eq_true rfl⟩ hl.1 (Nat.le_of_ble_eq_true rfl) dL_law_315 ⟨Nat.le_of_ble_eq_true rfl, Nat.le_of_ble_eq_true rfl⟩ (fun H locs hw0 hz hk => ?_)
        have hw1 := rf_other hw1 hw0 hk hd0
        refine lv_aload_n hx hb dL_law_318 rfl (lv_at hl 3 rfl) ?_
        refine lv_aload_n hx hb dL_law_319 rfl (lv_at hl 1 rfl) ?_
        refine lv_iload_n hx hb dL_law_320 rfl (lv_at hl 0 rfl) ?_
        refine lv_iconst (v := 1) hx hb dL_law_321 (by decide) ?_
        refine lv_iadd hx hb dL_law_322 ?_
        refine va_sld hx hb hX hbl hbA hw0.2.2 hin1 dL_law_323 ?_
        refine lmk_state ⟨hx, hb, hml, hown, hts⟩ hg1 hA1 hw1  ⟨Nat.le_of_ble_eq_true rfl, Nat.le_of_ble_eq_true rfl⟩ hl.1 (Nat.le_of_ble_eq_true rfl) dL_law_324 ⟨Nat.le_of_ble_eq_true rfl, Nat.le_of_ble_eq_true rfl⟩ (fun H locs hw1 hz hk => ?_)
        have hw0 := rf_other hw0 hw1 hk hd1
        refine lv_icmp_eq (tgt := 447) hx hb dL_law_327 (by decide) (fun c_ => ?_) (fun c_ => ?_)
        · exact K447 _ _ _ _ _ (all_up (op_state h _).2) hw0 hw1 hl
        · exact absurd (op_state h _).1 c_
      · refine lv_tableIn (tgt := 332) (off := 300) hx hb dL_law_32 (by decide) (by decide) (by rfl) (by decide) ?_
        refine lv_aload_n hx hb dL_law_332 rfl (lv_at hl 2 rfl) ?_
        refine lv_aload_n hx hb dL_law_333 rfl (lv_at hl 1 rfl) ?_
        refine lv_iload_n hx hb dL_law_334 rfl (lv_at hl 0 rfl) ?_
        refine lv_iconst (v := 1) hx hb dL_law_335 (by decide) ?_
        refine lv_iadd hx hb dL_law_336 ?_
        refine va_sld hx hb hX hbl hbA hw0.2.2 hin1 dL_law_337 ?_
        refine lv_aload_n hx hb dL_law_338 rfl (lv_at hl 1 rfl) ?_
        refine lv_iload_n hx hb dL_law_339 rfl (lv_at hl 0 rfl) ?_
        refine lv_iconst (v := 2) hx hb dL_law_340 (by decide) ?_
        refine lv_iadd hx hb dL_law_341 ?_
        refine va_sld hx hb hX hbl hbA hw0.2.2 hin2 dL_law_342 ?_
        refine lxk_register ⟨hx, hb, hml, hown, hts⟩ hg0 hA0 hw0 (all_ok h) ⟨Nat.le_of_ble_eq_true rfl, Nat.le_of_ble_eq_true rfl⟩ hl.1 (Nat.le_of_ble_eq_true rfl) dL_law_343 ⟨Nat.le_of_ble_eq_true rfl, Nat.le_of_ble_eq_true rfl⟩ (fun H locs hw0 hz hk => ?_)
        have hw1 := rf_other hw1 hw0 hk hd0
        refine lv_aload_n hx hb dL_law_346 rfl (lv_at hl 3 rfl) ?_
        refine lv_aload_n hx hb dL_law_347 rfl (lv_at hl 1 rfl) ?_
        refine lv_iload_n hx hb dL_law_348 rfl (lv_at hl 0 rfl) ?_
        refine lv_iconst (v := 1) hx hb dL_law_349 (by decide) ?_
        refine lv_iadd hx hb dL_law_350 ?_
        refine va_sld hx hb hX hbl hbA hw0.2.2 hin1 dL_law_351 ?_
        refine lv_aload_n hx hb dL_law_352 rfl (lv_at hl 1 rfl) ?_
        refine lv_iload_n hx hb dL_law_353 rfl (lv_at hl 0 rfl) ?_
        refine lv_iconst (v := 2) hx hb dL_law_354 (by decide) ?_
        refine lv_iadd hx hb dL_law_355 ?_
        refine va_sld hx hb hX hbl hbA hw0.2.2 hin2 dL_law_356 ?_
        refine lmk_register ⟨hx, hb, hml, hown, hts⟩ hg1 hA1 hw1  ⟨Nat.le_of_ble_eq_true rfl, Nat.le_of_ble_eq_true rfl⟩ hl.1 (Nat.le_of_ble_eq_true rfl) dL_law_357 ⟨Nat.le_of_ble_eq_true rfl, Nat.le_of_ble_eq_true rfl⟩ (fun H locs hw1 hz hk => ?_)
        have hw0 := rf_other hw0 hw1 hk hd1
        refine lv_icmp_eq (tgt := 447) hx hb dL_law_360 (by decide) (fun c_ => ?_) (fun c_ => ?_)
        · exact K447 _ _ _ _ _ (all_up (op_register h _ 0).2) hw0 hw1 hl
        · exact absurd (op_register h _ _).1 c_
      · refine lv_tableIn (tgt := 365) (off := 333) hx hb dL_law_32 (by decide) (by decide) (by rfl) (by decide) ?_
        refine lv_aload_n hx hb dL_law_365 rfl (lv_at hl 2 rfl) ?_
        refine lv_aload_n hx hb dL_law_366 rfl (lv_at hl 1 rfl) ?_
        refine lv_iload_n hx hb dL_law_367 rfl (lv_at hl 0 rfl) ?_
        refine lv_iconst (v := 1) hx hb dL_law_368 (by decide) ?_
        refine lv_iadd hx hb dL_law_369 ?_
        refine va_sld hx hb hX hbl hbA hw0.2.2 hin1 dL_law_370 ?_
        refine lxk_activity ⟨hx, hb, hml, hown, hts⟩ hg0 hA0 hw0 (all_ok h) (fun k hk q => (calling h hk ((rem_all h hk).2.1.symm.trans q)).1) ⟨Nat.le_of_ble_eq_true rfl, Nat.le_of_ble_eq_true rfl⟩ hl.1 (Nat.le_of_ble_eq_true rfl) dL_law_371 ⟨Nat.le_of_ble_eq_true rfl, Nat.le_of_ble_eq_true rfl⟩ (fun H locs hw0 hz hk => ?_)
        have hw1 := rf_other hw1 hw0 hk hd0
        refine lv_aload_n hx hb dL_law_374 rfl (lv_at hl 3 rfl) ?_
        refine lv_aload_n hx hb dL_law_375 rfl (lv_at hl 1 rfl) ?_
        refine lv_iload_n hx hb dL_law_376 rfl (lv_at hl 0 rfl) ?_
        refine lv_iconst (v := 1) hx hb dL_law_377 (by decide) ?_
        refine lv_iadd hx hb dL_law_378 ?_
        refine va_sld hx hb hX hbl hbA hw0.2.2 hin1 dL_law_379 ?_
        refine lmk_activity ⟨hx, hb, hml, hown, hts⟩ hg1 hA1 hw1 (fun k hk q => (calling h hk q).2.1) ⟨Nat.le_of_ble_eq_true rfl, Nat.le_of_ble_eq_true rfl⟩ hl.1 (Nat.le_of_ble_eq_true rfl) dL_law_380 ⟨Nat.le_of_ble_eq_true rfl, Nat.le_of_ble_eq_true rfl⟩ (fun H locs hw1 hz hk => ?_)
        have hw0 := rf_other hw0 hw1 hk hd1
        refine lv_icmp_eq (tgt := 447) hx hb dL_law_383 (by decide) (fun c_ => ?_) (fun c_ => ?_)
        · exact K447 _ _ _ _ _ (all_up (op_activity h _).2) hw0 hw1 hl
        · exact absurd (op_activity h _).1 c_
      · refine lv_tableIn (tgt := 388) (off := 356) hx hb dL_law_32 (by decide) (by decide) (by rfl) (by decide) ?_
        refine lv_aload_n hx hb dL_law_388 rfl (lv_at hl 2 rfl) ?_
        refine lv_aload_n hx hb dL_law_389 rfl (lv_at hl 1 rfl) ?_
        refine lv_iload_n hx hb dL_law_390 rfl (lv_at hl 0 rfl) ?_
        refine lv_iconst (v := 1) hx hb dL_law_391 (by decide) ?_
        refine lv_iadd hx hb dL_law_392 ?_
        refine va_sld hx hb hX hbl hbA hw0.2.2 hin1 dL_law_393 ?_
        refine lxk_result ⟨hx, hb, hml, hown, hts⟩ hg0 hA0 hw0 (all_ok h) ⟨Nat.le_of_ble_eq_true rfl, Nat.le_of_ble_eq_true rfl⟩ hl.1 (Nat.le_of_ble_eq_true rfl) dL_law_394 ⟨Nat.le_of_ble_eq_true rfl, Nat.le_of_ble_eq_true rfl⟩ (fun H locs hw0 hz hk => ?_)
        have hw1 := rf_other hw1 hw0 hk hd0
        refine lv_aload_n hx hb dL_law_397 rfl (lv_at hl 3 rfl) ?_
        refine lv_aload_n hx hb dL_law_398 rfl (lv_at hl 1 rfl) ?_
        refine lv_iload_n hx hb dL_law_399 rfl (lv_at hl 0 rfl) ?_
        refine lv_iconst (v := 1) hx hb dL_law_400 (by decide) ?_
        refine lv_iadd hx hb dL_law_401 ?_
        refine va_sld hx hb hX hbl hbA hw0.2.2 hin1 dL_law_402 ?_
        refine lmk_result ⟨hx, hb, hml, hown, hts⟩ hg1 hA1 hw1  ⟨Nat.le_of_ble_eq_true rfl, Nat.le_of_ble_eq_true rfl⟩ hl.1 (Nat.le_of_ble_eq_true rfl) dL_law_403 ⟨Nat.le_of_ble_eq_true rfl, Nat.le_of_ble_eq_true rfl⟩ (fun H locs hw1 hz hk => ?_)
        have hw0 := rf_other hw0 hw1 hk hd1
        refine lv_icmp_eq (tgt := 447) hx hb dL_law_406 (by decide) (fun c_ => ?_) (fun c_ => ?_)
        · exact K447 _ _ _ _ _ (all_up (op_result h _).2) hw0 hw1 hl
        · exact absurd (op_result h _).1 c_
      · refine lv_tableIn (tgt := 411) (off := 379) hx hb dL_law_32 (by decide) (by decide) (by rfl) (by decide) ?_
        refine lv_aload_n hx hb dL_law_411 rfl (lv_at hl 2 rfl) ?_
        refine lv_aload_n hx hb dL_law_412 rfl (lv_at hl 1 rfl) ?_
        refine lv_iload_n hx hb dL_law_413 rfl (lv_at hl 0 rfl) ?_
        refine lv_iconst (v := 1) hx hb dL_law_414 (by decide) ?_
        refine lv_iadd hx hb dL_law_415 ?_
        refine va_sld hx hb hX hbl hbA hw0.2.2 hin1 dL_law_416 ?_
        refine lxk_untaken ⟨hx, hb, hml, hown, hts⟩ hg0 hA0 hw0 (all_ok h) ⟨Nat.le_of_ble_eq_true rfl, Nat.le_of_ble_eq_true rfl⟩ hl.1 (Nat.le_of_ble_eq_true rfl) dL_law_417 ⟨Nat.le_of_ble_eq_true rfl, Nat.le_of_ble_eq_true rfl⟩ (fun H locs hw0 hz hk => ?_)
        have hw1 := rf_other hw1 hw0 hk hd0
        refine lv_aload_n hx hb dL_law_420 rfl (lv_at hl 3 rfl) ?_
        refine lv_aload_n hx hb dL_law_421 rfl (lv_at hl 1 rfl) ?_
        refine lv_iload_n hx hb dL_law_422 rfl (lv_at hl 0 rfl) ?_
        refine lv_iconst (v := 1) hx hb dL_law_423 (by decide) ?_
        refine lv_iadd hx hb dL_law_424 ?_
        refine va_sld hx hb hX hbl hbA hw0.2.2 hin1 dL_law_425 ?_
        refine lmk_untaken ⟨hx, hb, hml, hown, hts⟩ hg1 hA1 hw1 (fun k hk => (all_mok h k hk).2.1) ⟨Nat.le_of_ble_eq_true rfl, Nat.le_of_ble_eq_true rfl⟩ hl.1 (Nat.le_of_ble_eq_true rfl) dL_law_426 ⟨Nat.le_of_ble_eq_true rfl, Nat.le_of_ble_eq_true rfl⟩ (fun H locs hw1 hz hk => ?_)
        have hw0 := rf_other hw0 hw1 hk hd1
        refine lv_icmp_eq (tgt := 447) hx hb dL_law_429 (by decide) (fun c_ => ?_) (fun c_ => ?_)
        · exact K447 _ _ _ _ _ (all_up h) hw0 hw1 hl
        · exact absurd (op_untaken h _) c_
      · refine lv_tableIn (tgt := 434) (off := 402) hx hb dL_law_32 (by decide) (by decide) (by rfl) (by decide) ?_
        refine lv_aload_n hx hb dL_law_434 rfl (lv_at hl 2 rfl) ?_
        refine lxk_time ⟨hx, hb, hml, hown, hts⟩ hg0 hA0 hw0  ⟨Nat.le_of_ble_eq_true rfl, Nat.le_of_ble_eq_true rfl⟩ hl.1 (Nat.le_of_ble_eq_true rfl) dL_law_435 ⟨Nat.le_of_ble_eq_true rfl, Nat.le_of_ble_eq_true rfl⟩ (fun H locs hw0 hz hk => ?_)
        have hw1 := rf_other hw1 hw0 hk hd0
        refine lv_aload_n hx hb dL_law_438 rfl (lv_at hl 3 rfl) ?_
        refine lmk_time ⟨hx, hb, hml, hown, hts⟩ hg1 hA1 hw1  ⟨Nat.le_of_ble_eq_true rfl, Nat.le_of_ble_eq_true rfl⟩ hl.1 (Nat.le_of_ble_eq_true rfl) dL_law_439 ⟨Nat.le_of_ble_eq_true rfl, Nat.le_of_ble_eq_true rfl⟩ (fun H locs hw1 hz hk => ?_)
        have hw0 := rf_other hw0 hw1 hk hd1
        refine lv_icmp_eq (tgt := 447) hx hb dL_law_442 (by decide) (fun c_ => ?_) (fun c_ => ?_)
        · exact K447 _ _ _ _ _ (all_up h) hw0 hw1 hl
        · exact absurd h.2.2.2.2.1 c_
      · refine lv_tableOut (tgt := 447) hx hb dL_law_32 (Or.inr (by rw [nI_toInt (by omega)]; omega)) (by decide) ?_
        exact K447 _ _ _ _ _ (all_up h) hw0 hw1 hl
end
section
set_option maxHeartbeats 8000000 in
set_option maxRecDepth 100000 in
theorem whole_start {p : Program} {e : Env} {s : State} {m : MethodId} {below : List Frame} {meth : Method} {c : Code} (l : Launch) {b L : Nat} {xs : Nat → Int32} (hL : L ≤ 256) (C0 : lw_At p s m meth c b L xs) : W p l e room_1 s m #[Value.ref b] below meth c s.heap [] 0 0 (lw_Z below #[Value.ref b] s) (entryFrame m ([Value.ref b] : List Value).toArray 4) := by
  obtain ⟨hx, hb, hr, hml, hown, hts0, hX, hbl, hlk, hgv⟩ := C0
  have hts : ∀ w ∈ lw_all, w.before #[Value.ref b] s = true := fun w h => hts0 w (lw_all_tbl h)
  obtain ⟨D, hK⟩ := rf_classes hts0
  have hA : ∀ q : Nat, s.heap.size ≤ q → s.heap.size ≤ q := fun _ h => h
  have hS : va_S (fun q => s.heap.size ≤ q) s.heap s.heap [] := va_S.rf
  have hP : va_P D vwCl [] s.heap := fun k q h => by simp at h
  have hD : va_D (fun q => s.heap.size ≤ q) [] := ⟨fun i j p q h => by simp at h, fun k q h => by simp at h⟩
  have hl := lv_entry ([.ref b]) (n := 4) (Nat.le_of_ble_eq_true rfl)
  rw [lg_entry_eq]
  generalize (lg_sl ([.ref b]) ++ List.replicate (4 - (lg_sl ([.ref b])).length) Slot.unset).toArray = ls at hl ⊢
  have hl : lv_has ls 4 [(0, .ref b)] := hl
  refine va_new (ci := 0) (fs := x_dflt) (C := RX0) (T := TX0) (N := 22) hx hb hts in_X0 tyX0 tyX0_ok hown (hts _ q23) (hts _ q24) (hts _ q21) hK hP hD hS hA rfl x_dflt_ok (Nat.le_of_ble_eq_true rfl) (Nat.le_of_ble_eq_true rfl) dL_law_0 (fun q0 H hP hD hS => ?_)
  have hPc : va_P D vwCl [(q0, .inr (0, x_dflt))] H := hP
  have hDc : va_D (fun q => s.heap.size ≤ q) [(q0, .inr (0, x_dflt))] := hD
  refine W.widen (k := 1) (n := 22) (Nat.le_refl _) (Nat.le_refl _) ?_
  refine lv_dup hx hb dL_law_3 rfl ?_
  have hFc := va_free (wc := [(q0, .inr (0, x_dflt))]) hDc hS hA [0] rfl
  refine va_callv (va_runI (As := []) (rest := [.ref q0]) ⟨hx, hb, hml, hown, hts⟩ (xm_init l D q0 H.size) (cwI 0 hts (lw_meth q27) rfl rfl rfl (hts _ q21) (hts _ q25) (hts _ q26) rfl (by decide +kernel) ⟨Nat.le_of_ble_eq_true rfl, Nat.le_of_ble_eq_true rfl⟩) ⟨fun a U g mk q => by obtain ⟨z, z1, zP, zK, zD⟩ := q; exact ⟨z, z1, zP, va_K.moved (u := U) (U := U.calling g mk a) (Vm.Alike.refl U.vm) zK, zD⟩, fun U hU hW => ⟨rfl, by rw [hU], by rw [hU]; exact hPc, va_K.moved hW.alike hK, hDc.weaken (fun _ _ _ _ => trivial)⟩⟩ rfl rfl hl.1 rfl (lv_room (Nat.le_of_ble_eq_true rfl)) dL_law_4 ⟨Nat.le_of_ble_eq_true rfl, Nat.le_of_ble_eq_true rfl⟩) hS (fun q _ h => hFc q h) hFc (fun u t H1 locs ht hvm _ hB hz1 hk1 hS => ?_)
  obtain ⟨g0, ca0⟩ := u
  obtain ⟨⟨hK0, hP0⟩, hg0, h00, hZ0⟩ := hB
  have hK0 : va_K D vwCl (rf_ty xS ca0) s := va_K.moved hvm.symm hK0
  have hP0 : va_P D vwCl (rf_ow xS g0 ca0 rf_zz) t.heap := hP0
  rw [ht] at hP0
  have hg0 : rf_g xS g0 := hg0
  have h00 : g0 0 = q0 := h00
  have hA0 : ∀ q, rf_A xS g0 q → s.heap.size ≤ q := fun q hq => by obtain ⟨j, hj, ej⟩ := hq; rw [ej]; exact hFc _ (hZ0 j hj)
  subst h00
  generalize H1 = H at hP0 hS ⊢
  refine W.widen (k := 20) (n := 451) (Nat.le_refl _) (Nat.le_refl _) ?_
  refine lv_astore_n (lv' := [(1, .ref (g0 0)), (0, .ref b)]) hx hb dL_law_7 rfl hl (by decide) rfl (fun ls hl => ?_)
  refine va_new (ci := 1) (fs := m_dflt) (C := RX1) (T := TX1) (N := 17) hx hb hts in_X1 tyX1 tyX1_ok hown (hts _ q203) (hts _ q204) (hts _ q22) hK hP0 (rf_D hg0 hA0) hS hA rfl m_dflt_ok (Nat.le_of_ble_eq_true rfl) (Nat.le_of_ble_eq_true rfl) dL_law_8 (fun q1 H hP hD hS => ?_)
  have hP0 := rf_appL hP
  have hPc := rf_appR hP
  obtain ⟨hDc, hne⟩ := rf_appD hD
  have hlt : ∀ j, j ≤ xS.1 → g0 j < H.size ∧ g0 j ≠ q1 := by
    intro j hj
    obtain ⟨ee, he⟩ : ∃ ee, (rf_ow xS g0 ca0 rf_zz)[j]? = some (g0 j, ee) := by
      cases j with
      | zero => exact ⟨_, rf_ow_0⟩
      | succ i => exact ⟨_, rf_ow_s hj⟩
    exact ⟨(hP0 j _ he).lt, hne j _ he⟩
  refine W.widen (k := 21) (n := 468) (Nat.le_refl _) (Nat.le_refl _) ?_
  refine lv_dup hx hb dL_law_11 rfl ?_
  have hFc := va_free (wc := [(q1, .inr (1, m_dflt))]) hDc hS hA [0] rfl
  refine va_callv (va_runI (As := []) (rest := [.ref q1]) ⟨hx, hb, hml, hown, hts⟩ (mt_init l D q1 H.size) (cwI 0 hts (lw_meth q207) rfl rfl rfl (hts _ q22) (hts _ q205) (hts _ q206) rfl (by decide +kernel) ⟨Nat.le_of_ble_eq_true rfl, Nat.le_of_ble_eq_true rfl⟩) ⟨fun a U g mk q => by obtain ⟨z, z1, zP, zK, zD⟩ := q; exact ⟨z, z1, zP, va_K.moved (u := U) (U := U.calling g mk a) (Vm.Alike.refl U.vm) zK, zD⟩, fun U hU hW => ⟨rfl, by rw [hU], by rw [hU]; exact hPc, va_K.moved hW.alike hK, hDc.weaken (fun _ _ _ _ => trivial)⟩⟩ rfl rfl hl.1 rfl (lv_room (Nat.le_of_ble_eq_true rfl)) dL_law_12 ⟨Nat.le_of_ble_eq_true rfl, Nat.le_of_ble_eq_true rfl⟩) hS (fun q _ h => hFc q h) hFc (fun u t H1 locs ht hvm _ hB hz1 hk1 hS => ?_)
  obtain ⟨g1, ca1⟩ := u
  obtain ⟨⟨hK1, hP1⟩, hg1, h10, hZ1⟩ := hB
  have hK1 : va_K D vwCl (rf_ty mS ca1) s := va_K.moved hvm.symm hK1
  have hP1 : va_P D vwCl (rf_ow mS g1 ca1 rf_zz) t.heap := hP1
  rw [ht] at hP1
  have hg1 : rf_g mS g1 := hg1
  have h10 : g1 0 = q1 := h10
  have hB1 : ∀ j, j ≤ mS.1 → va_A [(q1, .inr (1, m_dflt))] H.size (g1 j) := hZ1
  have hnA : ∀ j, j ≤ xS.1 → ¬ va_A [(q1, .inr (1, m_dflt))] H.size (g0 j) := by
    rintro j hj (⟨k, ee, hk⟩ | hk)
    · have h1 : k < 1 := (List.getElem?_eq_some_iff.mp hk).1
      obtain rfl : k = 0 := by omega
      cases hk
      exact (hlt j hj).2 rfl
    · exact absurd (hlt j hj).1 (Nat.not_lt.mpr hk)
  have hd0 : ∀ j, j ≤ mS.1 → ¬ rf_A xS g0 (g1 j) := by
    rintro j hj ⟨i, hi, ei⟩
    exact hnA i hi (by rw [← ei]; exact hB1 j hj)
  have hd1 : ∀ j, j ≤ xS.1 → ¬ rf_A mS g1 (g0 j) := by
    rintro j hj ⟨i, hi, ei⟩
    exact hnA j hj (by rw [ei]; exact hB1 i hi)
  have hA1 : ∀ q, rf_A mS g1 q → s.heap.size ≤ q := fun q hq => by obtain ⟨j, hj, ej⟩ := hq; rw [ej]; exact hFc _ (hB1 j hj)
  have hP0 : va_P D vwCl (rf_ow xS g0 ca0 rf_zz) H1 := va_P.kept hP0 (fun k q hq => hk1 q.1 ((hP0 k q hq).lt) (by rw [(rf_ow_at hq).2]; exact hnA k (rf_ow_at hq).1))
  subst h10
  refine lv_astore_n (lv' := [(2, .ref (g1 0)), (1, .ref (g0 0)), (0, .ref b)]) hx hb dL_law_15 rfl hl (by decide) rfl (fun ls hl => ?_)
  refine lv_iconst (v := 0) hx hb dL_law_16 (by decide) ?_
  refine lv_istore_n (lv' := [(3, .int 0), (2, .ref (g1 0)), (1, .ref (g0 0)), (0, .ref b)]) hx hb dL_law_17 rfl hl (by decide) rfl (fun ls hl => ?_)
  refine W.widen (k := 600000) (n := 7290000) (Nat.le_of_ble_eq_true rfl) (Nat.le_of_ble_eq_true rfl) ?_
  exact law_loop hL hx hb hr hlk hml hown hts hX hbl hg0 hg1 hA0 hA1 hd0 hd1 65 0 rf_zz rf_zz _ _ _ (by omega) op_new ⟨hK0, hP0, hS⟩ ⟨hK1, hP1, hS⟩ (lv_sub hl [0, 3, 2, 1] rfl)
end
section
set_option maxHeartbeats 4000000 in
theorem lw_walk (l : Launch) (b : Addr) (xs : List Int32) : MetFree l x (headSpec (Jvm.Cond.code x code maxLocals ret :: tables_1) room_1) (lw_P b xs) (fun _ _ _ _ _ => True) lw_Q := by
  refine MetFree.of_bodyS (code := code) (maxLocals := maxLocals) (ret := ret) (by decide) ?_ ?_
  · intro args s m h hn
    obtain ⟨meth, c, h1, h2, h3, h4, h5, h6, -, -⟩ := Cond.code_spec hn (atoms_spec (ws := Jvm.Cond.code x code maxLocals ret :: tables_1) h _ List.mem_cons_self)
    exact ⟨meth, c, h1, h2, h3, h4, h5, h6⟩
  · intro p e s m args below meth c s₁ B hml0 hP _
    obtain ⟨rfl, hx, hbd, hgv⟩ := hP
    obtain ⟨scr, harrAt, hlist, hof, hsmall⟩ := hx
    obtain ⟨hcb, hkn, -, -⟩ := State.arrayAt?_spec harrAt
    have hown : s.vm.findClass R_law = some m.cls := findClass_of_methodNamed B.named
    have hts0 : ∀ c ∈ (Jvm.Cond.code x code maxLocals ret :: tables_1), c.before #[Value.ref b] s = true := atoms_spec (ws := Jvm.Cond.code x code maxLocals ret :: tables_1) B.pre
    have hts : ∀ w ∈ lw_tbl, w.before #[Value.ref b] s = true := k2_hts_sels lw_privs (fun w hw => hts0 w (List.mem_cons_of_mem _ hw)) lw_privs_ok
    have hml : c.maxLocals = 4 := B.maxLocals_eq (hts0 _ List.mem_cons_self)
    have X₀ : Stand p l e room_1 s m #[Value.ref b] below meth c s₁ [] 0 0 := Stand.of_body B
    have hh0 : s₁.heap = s.heap := by rw [B.state]; rfl
    have hsz : scr.slots.size = xs.length := by rw [← Array.length_toList, hlist, List.length_map]
    have hval : ∀ j : Nat, j < xs.length → scr.slots[j]? = some (.int (xs.getD j 0)) := fun j hj => by
      rw [← Array.getElem?_toList, hlist]
      simp [hj]
    have hbl : b < s.heap.size := (Array.getElem?_eq_some_iff.mp hcb).1
    have hX : va_X b xs.length (fun j => xs.getD j 0) s s.heap := ⟨scr, hcb, hof, hkn, hsz, hval⟩
    have K : W p l e room_1 s m #[Value.ref b] below meth c s₁.heap [] 0 0 (lw_Z below #[Value.ref b] s) (entryFrame m ([Value.ref b] : List Value).toArray 4) := by
      rw [hh0]
      exact whole_start l hbd ⟨B.exec, B.bytes, B.returns, hml, hown, hts, hX, hbl, B.notSynchronized, hgv⟩
    obtain ⟨t, a1, o, b1, b2, b3⟩ := K s₁ rfl X₀
    exact ⟨t, o, a1, b1, b2, b3⟩
theorem lw_pre_spec {args : Array Value} {s : State} (h : (Jvm.Cond.and given_1 narrow_1).before args s = true) (hr : rest_1_c.before args s = true) : ∃ (b : Addr) (xs : List Int32), lw_P b xs args s := by
  have hs := flat_of_before _ h
  have hq := flat_of_before _ hr
  have hc : (Cond.count 1).before args s = true := hs _ (by decide +kernel)
  have harr : (Cond.arrayOf (.arg 0) .int).before args s = true := hs _ (by decide +kernel)
  have hle : (Cond.le (.length (.arg 0)) (.int 256)).before args s = true := hs _ (by decide +kernel)
  have hlen : (Cond.isInt (.length (.arg 0))).before args s = true := hq _ (by decide +kernel)
  have hall : (Cond.all (.arg 0) (.isInt (.elem (.arg 0) (.index 0)))).before args s = true := hq _ (by decide +kernel)
  obtain ⟨b, xs, hb, hx⟩ := State.ints_of_pre rfl harr hlen hall
  have hsm : xs.length < 2 ^ 31 := hx.choose_spec.2.2.2
  have hev : (Term.length (.arg 0)).eval args s none [] s = some (.int xs.length.toInt32) := hx.length_eval hb
  have hv := Cond.le_ints hev (show (Term.int 256).eval args s none [] s = some (.int 256) from rfl)
  have hd : xs.length.toInt32 ≤ 256 := by
    simpa [Cond.before, Cond.holds, hv] using hle
  have hN : xs.length ≤ 256 := (Int32.ofNat_le_ofNat hsm (by decide)).mp (show Int32.ofNat xs.length ≤ Int32.ofNat 256 from hd)
  exact ⟨b, xs, Cond.one_arg hc (show args[0]? = some (.ref b) from hb), hx, hN, h⟩
theorem lw_comes (l : Launch) : Comes l x (Jvm.Cond.code x code maxLocals ret :: tables_1) room_1 (fun tb e args s => Calls_1 tb e args s ∧ rest_1 tb e args s ∧ Pre_1 tb e args s)
    (fun _ _ args s o t => lw_Q args s o t) := by
  intro p e ha hc hk s m args below hf hfit hheap happ hpre
  obtain ⟨b, xs, hP⟩ := lw_pre_spec hpre.2.2 hpre.2.1
  obtain ⟨k, o, h1, h2, h3, hQ⟩ := lw_walk l b xs p e ha hc hk s m args below hf ((Spec.applies_iff_loose hf).mp happ).1 hP trivial
  exact ⟨k, o, h1, h2, h3, hQ⟩
theorem lw_frame {s t : State} {o : Outcome} {args : Array Value} (h : Framed s o t [] 600000 7290000) :
    Framed s o t (fieldLocs frame_1_writes args s ++ arrayLocs frame_1_arrays args s ++ staticLocs frame_1_statics s) 600000 7290000 := h
theorem lw_limb (L : Cond) (hL : ∀ (args : Array Value) (s t : State), L.after args s (.returned (some (.int 1))) t = true) :
    ArmFor flags0 classFile x code maxLocals ret World_1 tables_1 room_1 Calls_1 rest_1 Pre_1
      (fun tb e a s o t => postC L tb e a s o t ∧ Framed s o t (fieldLocs frame_1_writes a s ++ arrayLocs frame_1_arrays a s ++ staticLocs frame_1_statics s) 600000 7290000) := by
  intro l _ _ _ p e ha hc hk s m args below hf hfit hheap happ hpre
  obtain ⟨k, o, h1, h2, h3, rfl, hF⟩ := lw_comes l p e ha hc hk s m args below hf hfit hheap happ hpre
  exact ⟨k, _, h1, h2, h3, hL args s _, lw_frame hF⟩
theorem i_vc : Claimed_1_1 ∧ Claimed_1_2 := ⟨lw_limb limb_1_1 (fun args s t => by simp [limb_1_1, Cond.after, Cond.holds, Cond.value]), lw_limb limb_1_2 (fun args s t => Cond.after_iff.mpr (by
  first | (rw [show limb_1_2 = Cond.eq .result (.int 1) from rfl, Cond.eq_ints (x := 1) (y := 1) rfl rfl]; simp; done) | (simp [limb_1_2, Cond.value, Term.eval]; done)))⟩
end
