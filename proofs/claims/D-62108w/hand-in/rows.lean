section
-- ===== PART A: goes FIRST, ahead of the names: the tables' words, and 'selects' of the private methods out of them =====
/-- a private method of a class that the tables say can be made, by its rows of tables_1 -/
def lw_okq (q : MethodName × Nat) : Prop := (q.1.cls ≠ "java/lang/invoke/MethodHandle" ∧ q.1.cls ≠ "java/lang/invoke/VarHandle") ∧ Cond.instantiable q.1.cls q.2 ∈ tables_1 ∧ Cond.privateMethod q.1 ∈ tables_1 ∧ Cond.instanceMethod q.1 ∈ tables_1
set_option maxRecDepth 100000
theorem lw_t1 {w : Cond} (h : w ∈ tables_1_1) : w ∈ tables_1 := List.mem_append_left _ h
theorem lw_t2 {w : Cond} (h : w ∈ tables_1_2) : w ∈ tables_1 := List.mem_append_right _ h
theorem lw_p0 : lw_okq (⟨"TraceDebugger", "execute", "()V"⟩, 18) := ⟨⟨by decide +kernel, by decide +kernel⟩, lw_t1 (List.mem_of_getElem? (i := 4) rfl), lw_t1 (List.mem_of_getElem? (i := 12) rfl), lw_t1 (List.mem_of_getElem? (i := 13) rfl)⟩
theorem lw_p1 : lw_okq (⟨"TraceDebugger", "noteTime", "(II)V"⟩, 18) := ⟨⟨by decide +kernel, by decide +kernel⟩, lw_t1 (List.mem_of_getElem? (i := 4) rfl), lw_t1 (List.mem_of_getElem? (i := 16) rfl), lw_t1 (List.mem_of_getElem? (i := 17) rfl)⟩
theorem lw_p2 : lw_okq (⟨"TraceDebugger", "perform", "(I)I"⟩, 18) := ⟨⟨by decide +kernel, by decide +kernel⟩, lw_t1 (List.mem_of_getElem? (i := 4) rfl), lw_t1 (List.mem_of_getElem? (i := 20) rfl), lw_t1 (List.mem_of_getElem? (i := 21) rfl)⟩
theorem lw_p3 : lw_okq (⟨"TraceDebugger", "store", "(II)V"⟩, 18) := ⟨⟨by decide +kernel, by decide +kernel⟩, lw_t1 (List.mem_of_getElem? (i := 4) rfl), lw_t1 (List.mem_of_getElem? (i := 24) rfl), lw_t1 (List.mem_of_getElem? (i := 25) rfl)⟩
theorem lw_p4 : lw_okq (⟨"TraceDebugger", "compute", "(IIII)V"⟩, 18) := ⟨⟨by decide +kernel, by decide +kernel⟩, lw_t1 (List.mem_of_getElem? (i := 4) rfl), lw_t1 (List.mem_of_getElem? (i := 28) rfl), lw_t1 (List.mem_of_getElem? (i := 29) rfl)⟩
theorem lw_p5 : lw_okq (⟨"TraceDebugger", "travel", "(I)V"⟩, 18) := ⟨⟨by decide +kernel, by decide +kernel⟩, lw_t1 (List.mem_of_getElem? (i := 4) rfl), lw_t1 (List.mem_of_getElem? (i := 32) rfl), lw_t1 (List.mem_of_getElem? (i := 33) rfl)⟩
theorem lw_p6 : lw_okq (⟨"TraceDebugger", "gap", "(II)I"⟩, 18) := ⟨⟨by decide +kernel, by decide +kernel⟩, lw_t1 (List.mem_of_getElem? (i := 4) rfl), lw_t1 (List.mem_of_getElem? (i := 36) rfl), lw_t1 (List.mem_of_getElem? (i := 37) rfl)⟩
theorem lw_p7 : lw_okq (⟨"TraceDebugger", "load", "(I)V"⟩, 18) := ⟨⟨by decide +kernel, by decide +kernel⟩, lw_t1 (List.mem_of_getElem? (i := 4) rfl), lw_t1 (List.mem_of_getElem? (i := 40) rfl), lw_t1 (List.mem_of_getElem? (i := 41) rfl)⟩
theorem lw_p8 : lw_okq (⟨"TraceDebugger", "undo", "()V"⟩, 18) := ⟨⟨by decide +kernel, by decide +kernel⟩, lw_t1 (List.mem_of_getElem? (i := 4) rfl), lw_t1 (List.mem_of_getElem? (i := 44) rfl), lw_t1 (List.mem_of_getElem? (i := 45) rfl)⟩
theorem lw_p9 : lw_okq (⟨"TraceDebugger", "redo", "()V"⟩, 18) := ⟨⟨by decide +kernel, by decide +kernel⟩, lw_t1 (List.mem_of_getElem? (i := 4) rfl), lw_t1 (List.mem_of_getElem? (i := 48) rfl), lw_t1 (List.mem_of_getElem? (i := 49) rfl)⟩
theorem lw_p10 : lw_okq (⟨"TraceDebugger", "fits", "(IIII)Z"⟩, 18) := ⟨⟨by decide +kernel, by decide +kernel⟩, lw_t1 (List.mem_of_getElem? (i := 4) rfl), lw_t1 (List.mem_of_getElem? (i := 114) rfl), lw_t1 (List.mem_of_getElem? (i := 115) rfl)⟩
theorem lw_p11 : lw_okq (⟨"TraceDebugger", "isVariable", "(I)Z"⟩, 18) := ⟨⟨by decide +kernel, by decide +kernel⟩, lw_t1 (List.mem_of_getElem? (i := 4) rfl), lw_t1 (List.mem_of_getElem? (i := 118) rfl), lw_t1 (List.mem_of_getElem? (i := 119) rfl)⟩
theorem lw_p12 : lw_okq (⟨"TraceDebugger", "writeUpTo", "(I)I"⟩, 18) := ⟨⟨by decide +kernel, by decide +kernel⟩, lw_t1 (List.mem_of_getElem? (i := 4) rfl), lw_t1 (List.mem_of_getElem? (i := 150) rfl), lw_t1 (List.mem_of_getElem? (i := 151) rfl)⟩
theorem lw_p13 : lw_okq (⟨"TraceDebuggerModel", "fits", "(IIII)Z"⟩, 13) := ⟨⟨by decide +kernel, by decide +kernel⟩, lw_t1 (List.mem_of_getElem? (i := 166) rfl), lw_t1 (List.mem_of_getElem? (i := 216) rfl), lw_t1 (List.mem_of_getElem? (i := 217) rfl)⟩
theorem lw_p14 : lw_okq (⟨"TraceDebuggerModel", "isPlace", "(I)Z"⟩, 13) := ⟨⟨by decide +kernel, by decide +kernel⟩, lw_t1 (List.mem_of_getElem? (i := 166) rfl), lw_t1 (List.mem_of_getElem? (i := 220) rfl), lw_t1 (List.mem_of_getElem? (i := 221) rfl)⟩
theorem lw_p15 : lw_okq (⟨"TraceDebuggerModel", "isVariable", "(I)Z"⟩, 13) := ⟨⟨by decide +kernel, by decide +kernel⟩, lw_t1 (List.mem_of_getElem? (i := 166) rfl), lw_t1 (List.mem_of_getElem? (i := 224) rfl), lw_t1 (List.mem_of_getElem? (i := 225) rfl)⟩
def lw_privs_1 : List (MethodName × Nat) := [(⟨"TraceDebugger", "execute", "()V"⟩, 18), (⟨"TraceDebugger", "noteTime", "(II)V"⟩, 18), (⟨"TraceDebugger", "perform", "(I)I"⟩, 18), (⟨"TraceDebugger", "store", "(II)V"⟩, 18), (⟨"TraceDebugger", "compute", "(IIII)V"⟩, 18), (⟨"TraceDebugger", "travel", "(I)V"⟩, 18), (⟨"TraceDebugger", "gap", "(II)I"⟩, 18), (⟨"TraceDebugger", "load", "(I)V"⟩, 18), (⟨"TraceDebugger", "undo", "()V"⟩, 18), (⟨"TraceDebugger", "redo", "()V"⟩, 18), (⟨"TraceDebugger", "fits", "(IIII)Z"⟩, 18), (⟨"TraceDebugger", "isVariable", "(I)Z"⟩, 18), (⟨"TraceDebugger", "writeUpTo", "(I)I"⟩, 18), (⟨"TraceDebuggerModel", "fits", "(IIII)Z"⟩, 13), (⟨"TraceDebuggerModel", "isPlace", "(I)Z"⟩, 13), (⟨"TraceDebuggerModel", "isVariable", "(I)Z"⟩, 13)]
theorem lw_r1 : ∀ q ∈ lw_privs_1, lw_okq q := List.forall_mem_cons.mpr ⟨lw_p0, List.forall_mem_cons.mpr ⟨lw_p1, List.forall_mem_cons.mpr ⟨lw_p2, List.forall_mem_cons.mpr ⟨lw_p3, List.forall_mem_cons.mpr ⟨lw_p4, List.forall_mem_cons.mpr ⟨lw_p5, List.forall_mem_cons.mpr ⟨lw_p6, List.forall_mem_cons.mpr ⟨lw_p7, List.forall_mem_cons.mpr ⟨lw_p8, List.forall_mem_cons.mpr ⟨lw_p9, List.forall_mem_cons.mpr ⟨lw_p10, List.forall_mem_cons.mpr ⟨lw_p11, List.forall_mem_cons.mpr ⟨lw_p12, List.forall_mem_cons.mpr ⟨lw_p13, List.forall_mem_cons.mpr ⟨lw_p14, List.forall_mem_cons.mpr ⟨lw_p15, fun _ h => absurd h List.not_mem_nil⟩⟩⟩⟩⟩⟩⟩⟩⟩⟩⟩⟩⟩⟩⟩⟩
theorem lw_p16 : lw_okq (⟨"TraceDebuggerModel", "begin", "()V"⟩, 13) := ⟨⟨by decide +kernel, by decide +kernel⟩, lw_t1 (List.mem_of_getElem? (i := 166) rfl), lw_t1 (List.mem_of_getElem? (i := 236) rfl), lw_t1 (List.mem_of_getElem? (i := 237) rfl)⟩
theorem lw_p17 : lw_okq (⟨"TraceDebuggerModel", "ended", "()Z"⟩, 13) := ⟨⟨by decide +kernel, by decide +kernel⟩, lw_t1 (List.mem_of_getElem? (i := 166) rfl), lw_t2 (List.mem_of_getElem? (i := 0) rfl), lw_t2 (List.mem_of_getElem? (i := 1) rfl)⟩
theorem lw_p18 : lw_okq (⟨"TraceDebuggerModel", "step", "()V"⟩, 13) := ⟨⟨by decide +kernel, by decide +kernel⟩, lw_t1 (List.mem_of_getElem? (i := 166) rfl), lw_t2 (List.mem_of_getElem? (i := 4) rfl), lw_t2 (List.mem_of_getElem? (i := 5) rfl)⟩
theorem lw_p19 : lw_okq (⟨"TraceDebuggerModel", "setVariable", "(II)V"⟩, 13) := ⟨⟨by decide +kernel, by decide +kernel⟩, lw_t1 (List.mem_of_getElem? (i := 166) rfl), lw_t2 (List.mem_of_getElem? (i := 8) rfl), lw_t2 (List.mem_of_getElem? (i := 9) rfl)⟩
theorem lw_p20 : lw_okq (⟨"TraceDebuggerModel", "state", "(I)V"⟩, 13) := ⟨⟨by decide +kernel, by decide +kernel⟩, lw_t1 (List.mem_of_getElem? (i := 166) rfl), lw_t2 (List.mem_of_getElem? (i := 17) rfl), lw_t2 (List.mem_of_getElem? (i := 18) rfl)⟩
def lw_privs_2 : List (MethodName × Nat) := [(⟨"TraceDebuggerModel", "begin", "()V"⟩, 13), (⟨"TraceDebuggerModel", "ended", "()Z"⟩, 13), (⟨"TraceDebuggerModel", "step", "()V"⟩, 13), (⟨"TraceDebuggerModel", "setVariable", "(II)V"⟩, 13), (⟨"TraceDebuggerModel", "state", "(I)V"⟩, 13)]
theorem lw_r2 : ∀ q ∈ lw_privs_2, lw_okq q := List.forall_mem_cons.mpr ⟨lw_p16, List.forall_mem_cons.mpr ⟨lw_p17, List.forall_mem_cons.mpr ⟨lw_p18, List.forall_mem_cons.mpr ⟨lw_p19, List.forall_mem_cons.mpr ⟨lw_p20, fun _ h => absurd h List.not_mem_nil⟩⟩⟩⟩⟩
def lw_privs : List (MethodName × Nat) := lw_privs_1 ++ (lw_privs_2)
def lw_tbl : List Cond := k2_sels lw_privs ++ tables_1
theorem lw_privs_ok : ∀ q ∈ lw_privs, lw_okq q := by
  show ∀ q ∈ lw_privs_1 ++ (lw_privs_2), lw_okq q
  exact List.forall_mem_append.mpr ⟨lw_r1, lw_r2⟩
-- ===== ONE list of words for every method: the tables' words that hold all through a run =====
def lw_all : List Cond := lw_tbl.filter goodWord
/-- a word of the tables by its place: claim/WORDS.tsv -/
theorem lw_w {w : Cond} (i : Nat) (h : lw_tbl[i]? = some w) (g : goodWord w = true) : w ∈ lw_all := List.mem_filter.mpr ⟨List.mem_of_getElem? h, g⟩
theorem lw_all_tbl {w : Cond} (h : w ∈ lw_all) : w ∈ lw_tbl := (List.mem_filter.mp h).1
theorem lw_self : GoodIn lw_all lw_all := fun w h => ⟨h, good_of_word (List.mem_filter.mp h).2⟩
/-- a class's field words, by their places -/
theorem lw_in (ws : List Cond) (ps : List Nat) (hp : ws = ps.filterMap (fun i => lw_tbl[i]?)) (hg : ws.all goodWord = true) : ∀ w ∈ ws, w ∈ lw_all := by
  intro w h
  have h1 := List.all_eq_true.mp hg w h
  rw [hp] at h
  obtain ⟨i, -, hi⟩ := List.mem_filterMap.mp h
  exact lw_w i hi h1
/-- the words of a contract for the method y with code b, L locals, answer r -/
abbrev ws_ (y : MethodName) (b : ByteArray) (L : Nat) (r : Option FieldType) : List Cond := Cond.code y b L r :: lw_all
theorem lw_meth {y : MethodName} {b : ByteArray} {L : Nat} {r : Option FieldType} (h : Cond.code y b L r ∈ lw_all) : GoodIn lw_all (ws_ y b L r) := by
  intro w hw
  rcases List.mem_cons.mp hw with e | e
  · rw [e]
    exact lw_self _ h
  · exact lw_self _ e
theorem lw_app {a c : List Cond} (ha : ∀ w ∈ a, w ∈ lw_all) (hc : GoodIn lw_all c) : GoodIn lw_all (a ++ c) := by
  intro w hw
  rcases List.mem_append.mp hw with e | e
  · exact lw_self w (ha w e)
  · exact hc w e
/-- what a call through an object asks: cwV n hts (lw_V ..) -/
theorem lw_V {own : String} {idx : Nat} {C : String} {y : MethodName} {b : ByteArray} {L : Nat} {r : Option FieldType} (h1 : Cond.methodLink own idx y ∈ lw_all) (h2 : Cond.instanceMethod y ∈ lw_all) (h3 : Cond.selects C y y ∈ lw_all) (h4 : Cond.initialized C ∈ lw_all) (h5 : Cond.code y b L r ∈ lw_all) : GoodIn lw_all (wsV own idx C y (ws_ y b L r)) := by
  refine lw_app ?_ (lw_meth h5)
  intro w hw
  simp only [List.mem_cons, List.not_mem_nil, or_false] at hw
  rcases hw with e | e | e | e
  · rw [e]; exact h1
  · rw [e]; exact h2
  · rw [e]; exact h3
  · rw [e]; exact h4
/-- what a static call asks: va_cwS n hts (lw_S ..) -/
theorem lw_S {own : String} {idx : Nat} {y : MethodName} {b : ByteArray} {L : Nat} {r : Option FieldType} (h1 : Cond.methodLink own idx y ∈ lw_all) (h2 : Cond.static y ∈ lw_all) (h3 : Cond.initialized y.cls ∈ lw_all) (h4 : Cond.code y b L r ∈ lw_all) : GoodIn lw_all (va_wsS own idx y (ws_ y b L r)) := by
  refine lw_app ?_ (lw_meth h4)
  intro w hw
  simp only [List.mem_cons, List.not_mem_nil, or_false] at hw
  rcases hw with e | e | e
  · rw [e]; exact h1
  · rw [e]; exact h2
  · rw [e]; exact h3
/-- the words of a contract for a method WITH HANDLERS (hh: its table) -/
abbrev wsW_ (y : MethodName) (b : ByteArray) (L : Nat) (r : Option FieldType) (hh : List (Nat × Nat × Nat × Nat)) : List Cond := Cond.codeWith y b L r hh :: lw_all
theorem lw_methW {y : MethodName} {b : ByteArray} {L : Nat} {r : Option FieldType} {hh : List (Nat × Nat × Nat × Nat)} (h : Cond.codeWith y b L r hh ∈ lw_all) : GoodIn lw_all (wsW_ y b L r hh) := by
  intro w hw
  rcases List.mem_cons.mp hw with e | e
  · rw [e]
    exact lw_self _ h
  · exact lw_self _ e
/-- any list of words by their places (lw_in), good -/
theorem lw_good {ws : List Cond} (h : ∀ w ∈ ws, w ∈ lw_all) : GoodIn lw_all ws := fun w hw => lw_self w (h w hw)
/-- what a call of a method with handlers asks: vx_cwVW n hts (lw_VW ..), vx_cwSW n hts (lw_SW ..) -/
theorem lw_VW {own : String} {idx : Nat} {C : String} {y : MethodName} {b : ByteArray} {L : Nat} {r : Option FieldType} {hh : List (Nat × Nat × Nat × Nat)} (h1 : Cond.methodLink own idx y ∈ lw_all) (h2 : Cond.instanceMethod y ∈ lw_all) (h3 : Cond.selects C y y ∈ lw_all) (h4 : Cond.initialized C ∈ lw_all) (h5 : Cond.codeWith y b L r hh ∈ lw_all) : GoodIn lw_all (wsV own idx C y (wsW_ y b L r hh)) := by
  refine lw_app ?_ (lw_methW h5)
  intro w hw
  simp only [List.mem_cons, List.not_mem_nil, or_false] at hw
  rcases hw with e | e | e | e
  · rw [e]; exact h1
  · rw [e]; exact h2
  · rw [e]; exact h3
  · rw [e]; exact h4
theorem lw_SW {own : String} {idx : Nat} {y : MethodName} {b : ByteArray} {L : Nat} {r : Option FieldType} {hh : List (Nat × Nat × Nat × Nat)} (h1 : Cond.methodLink own idx y ∈ lw_all) (h2 : Cond.static y ∈ lw_all) (h3 : Cond.initialized y.cls ∈ lw_all) (h4 : Cond.codeWith y b L r hh ∈ lw_all) : GoodIn lw_all (va_wsS own idx y (wsW_ y b L r hh)) := by
  refine lw_app ?_ (lw_methW h4)
  intro w hw
  simp only [List.mem_cons, List.not_mem_nil, or_false] at hw
  rcases hw with e | e | e
  · rw [e]; exact h1
  · rw [e]; exact h2
  · rw [e]; exact h3
/-- a word by its place in its run of the tables -/
theorem lw_at {r : List Cond} (hr : ∀ w ∈ r, w ∈ lw_tbl) {w : Cond} (i : Nat) (h : r[i]? = some w) : w ∈ lw_tbl := hr w (List.mem_of_getElem? h)
theorem lw_g {w : Cond} (h : w ∈ lw_tbl) (g : goodWord w = true) : w ∈ lw_all := List.mem_filter.mpr ⟨h, g⟩
theorem lw_ms : ∀ w ∈ k2_sels lw_privs, w ∈ lw_tbl := fun w h => show w ∈ k2_sels lw_privs ++ tables_1 from List.mem_append_left _ h
theorem lw_m1 : ∀ w ∈ tables_1_1, w ∈ lw_tbl := fun w h => show w ∈ k2_sels lw_privs ++ tables_1 from List.mem_append_right (k2_sels lw_privs) (show w ∈ tables_1 from List.mem_append_left _ h)
theorem lw_m2 : ∀ w ∈ tables_1_2, w ∈ lw_tbl := fun w h => show w ∈ k2_sels lw_privs ++ tables_1 from List.mem_append_right (k2_sels lw_privs) (show w ∈ tables_1 from List.mem_append_right _ h)
theorem qs0 : (Cond.selects "TraceDebugger" ⟨"TraceDebugger", "execute", "()V"⟩ ⟨"TraceDebugger", "execute", "()V"⟩) ∈ lw_all := lw_g (lw_at lw_ms 0 rfl) rfl
theorem qs1 : (Cond.selects "TraceDebugger" ⟨"TraceDebugger", "noteTime", "(II)V"⟩ ⟨"TraceDebugger", "noteTime", "(II)V"⟩) ∈ lw_all := lw_g (lw_at lw_ms 1 rfl) rfl
theorem qs2 : (Cond.selects "TraceDebugger" ⟨"TraceDebugger", "perform", "(I)I"⟩ ⟨"TraceDebugger", "perform", "(I)I"⟩) ∈ lw_all := lw_g (lw_at lw_ms 2 rfl) rfl
theorem qs3 : (Cond.selects "TraceDebugger" ⟨"TraceDebugger", "store", "(II)V"⟩ ⟨"TraceDebugger", "store", "(II)V"⟩) ∈ lw_all := lw_g (lw_at lw_ms 3 rfl) rfl
theorem qs4 : (Cond.selects "TraceDebugger" ⟨"TraceDebugger", "compute", "(IIII)V"⟩ ⟨"TraceDebugger", "compute", "(IIII)V"⟩) ∈ lw_all := lw_g (lw_at lw_ms 4 rfl) rfl
theorem qs5 : (Cond.selects "TraceDebugger" ⟨"TraceDebugger", "travel", "(I)V"⟩ ⟨"TraceDebugger", "travel", "(I)V"⟩) ∈ lw_all := lw_g (lw_at lw_ms 5 rfl) rfl
theorem qs6 : (Cond.selects "TraceDebugger" ⟨"TraceDebugger", "gap", "(II)I"⟩ ⟨"TraceDebugger", "gap", "(II)I"⟩) ∈ lw_all := lw_g (lw_at lw_ms 6 rfl) rfl
theorem qs7 : (Cond.selects "TraceDebugger" ⟨"TraceDebugger", "load", "(I)V"⟩ ⟨"TraceDebugger", "load", "(I)V"⟩) ∈ lw_all := lw_g (lw_at lw_ms 7 rfl) rfl
theorem qs8 : (Cond.selects "TraceDebugger" ⟨"TraceDebugger", "undo", "()V"⟩ ⟨"TraceDebugger", "undo", "()V"⟩) ∈ lw_all := lw_g (lw_at lw_ms 8 rfl) rfl
theorem qs9 : (Cond.selects "TraceDebugger" ⟨"TraceDebugger", "redo", "()V"⟩ ⟨"TraceDebugger", "redo", "()V"⟩) ∈ lw_all := lw_g (lw_at lw_ms 9 rfl) rfl
theorem qs10 : (Cond.selects "TraceDebugger" ⟨"TraceDebugger", "fits", "(IIII)Z"⟩ ⟨"TraceDebugger", "fits", "(IIII)Z"⟩) ∈ lw_all := lw_g (lw_at lw_ms 10 rfl) rfl
theorem qs11 : (Cond.selects "TraceDebugger" ⟨"TraceDebugger", "isVariable", "(I)Z"⟩ ⟨"TraceDebugger", "isVariable", "(I)Z"⟩) ∈ lw_all := lw_g (lw_at lw_ms 11 rfl) rfl
theorem qs12 : (Cond.selects "TraceDebugger" ⟨"TraceDebugger", "writeUpTo", "(I)I"⟩ ⟨"TraceDebugger", "writeUpTo", "(I)I"⟩) ∈ lw_all := lw_g (lw_at lw_ms 12 rfl) rfl
theorem qs13 : (Cond.selects "TraceDebuggerModel" ⟨"TraceDebuggerModel", "fits", "(IIII)Z"⟩ ⟨"TraceDebuggerModel", "fits", "(IIII)Z"⟩) ∈ lw_all := lw_g (lw_at lw_ms 13 rfl) rfl
theorem qs14 : (Cond.selects "TraceDebuggerModel" ⟨"TraceDebuggerModel", "isPlace", "(I)Z"⟩ ⟨"TraceDebuggerModel", "isPlace", "(I)Z"⟩) ∈ lw_all := lw_g (lw_at lw_ms 14 rfl) rfl
theorem qs15 : (Cond.selects "TraceDebuggerModel" ⟨"TraceDebuggerModel", "isVariable", "(I)Z"⟩ ⟨"TraceDebuggerModel", "isVariable", "(I)Z"⟩) ∈ lw_all := lw_g (lw_at lw_ms 15 rfl) rfl
theorem qs16 : (Cond.selects "TraceDebuggerModel" ⟨"TraceDebuggerModel", "begin", "()V"⟩ ⟨"TraceDebuggerModel", "begin", "()V"⟩) ∈ lw_all := lw_g (lw_at lw_ms 16 rfl) rfl
theorem qs17 : (Cond.selects "TraceDebuggerModel" ⟨"TraceDebuggerModel", "ended", "()Z"⟩ ⟨"TraceDebuggerModel", "ended", "()Z"⟩) ∈ lw_all := lw_g (lw_at lw_ms 17 rfl) rfl
theorem qs18 : (Cond.selects "TraceDebuggerModel" ⟨"TraceDebuggerModel", "step", "()V"⟩ ⟨"TraceDebuggerModel", "step", "()V"⟩) ∈ lw_all := lw_g (lw_at lw_ms 18 rfl) rfl
theorem qs19 : (Cond.selects "TraceDebuggerModel" ⟨"TraceDebuggerModel", "setVariable", "(II)V"⟩ ⟨"TraceDebuggerModel", "setVariable", "(II)V"⟩) ∈ lw_all := lw_g (lw_at lw_ms 19 rfl) rfl
theorem qs20 : (Cond.selects "TraceDebuggerModel" ⟨"TraceDebuggerModel", "state", "(I)V"⟩ ⟨"TraceDebuggerModel", "state", "(I)V"⟩) ∈ lw_all := lw_g (lw_at lw_ms 20 rfl) rfl
end
section
/-! TraceDebugger -/
set_option maxRecDepth 100000
def RX0 : String := "TraceDebugger"
def TX0 : u_T := fun k => match k with
  | 0 => ("TraceDebugger", "length", "I", false)
  | 1 => ("TraceDebugger", "opcode", "[B", true)
  | 2 => ("TraceDebugger", "fieldX", "[I", true)
  | 3 => ("TraceDebugger", "fieldY", "[I", true)
  | 4 => ("TraceDebugger", "fieldZ", "[I", true)
  | 5 => ("TraceDebugger", "inputValue", "I", false)
  | 6 => ("TraceDebugger", "now", "[I", true)
  | 7 => ("TraceDebugger", "present", "I", false)
  | 8 => ("TraceDebugger", "total", "I", false)
  | 9 => ("TraceDebugger", "wrote", "[B", true)
  | 10 => ("TraceDebugger", "oldValue", "[I", true)
  | 11 => ("TraceDebugger", "newValue", "[I", true)
  | 12 => ("TraceDebugger", "writeBefore", "[S", true)
  | 13 => ("TraceDebugger", "numberAt", "[B", true)
  | 14 => ("TraceDebugger", "timeBefore", "[S", true)
  | 15 => ("TraceDebugger", "lastWriter", "[S", true)
  | 16 => ("TraceDebugger", "lastTime", "[S", true)
  | _ => ("TraceDebugger", "saved", "[I", true)
def tyX0 : Nat → FieldType := fun k => match k with
  | 0 => .int
  | 1 => .array .byte
  | 2 => .array .int
  | 3 => .array .int
  | 4 => .array .int
  | 5 => .int
  | 6 => .array .int
  | 7 => .int
  | 8 => .int
  | 9 => .array .byte
  | 10 => .array .int
  | 11 => .array .int
  | 12 => .array .short
  | 13 => .array .byte
  | 14 => .array .short
  | 15 => .array .short
  | 16 => .array .short
  | _ => .array .int
abbrev wsX00 : List Cond := u_ws RX0 TX0 18
set_option maxRecDepth 100000 in
theorem nmX0 : ∀ a, a < 18 → ∀ b, b < 18 → a ≠ b → (TX0 a).2.1 ≠ (TX0 b).2.1 := by decide +kernel
set_option maxRecDepth 100000 in
theorem tyX0_ok : ∀ k, k < 18 → parseFieldDescriptor (TX0 k).2.2.1 = some (tyX0 k) := by decide +kernel
abbrev cX0_init : ByteArray := prog_1_method_1_code
def yX0_init : MethodName := ⟨RX0, "<init>", "()V"⟩
abbrev cX0_execute : ByteArray := prog_1_method_21_code
def yX0_execute : MethodName := ⟨RX0, "execute", "()V"⟩
abbrev cX0_noteTime : ByteArray := prog_1_method_22_code
def yX0_noteTime : MethodName := ⟨RX0, "noteTime", "(II)V"⟩
abbrev cX0_perform : ByteArray := prog_1_method_24_code
def yX0_perform : MethodName := ⟨RX0, "perform", "(I)I"⟩
abbrev cX0_store : ByteArray := prog_1_method_23_code
def yX0_store : MethodName := ⟨RX0, "store", "(II)V"⟩
abbrev cX0_compute : ByteArray := prog_1_method_25_code
def yX0_compute : MethodName := ⟨RX0, "compute", "(IIII)V"⟩
abbrev cX0_travel : ByteArray := prog_1_method_17_code
def yX0_travel : MethodName := ⟨RX0, "travel", "(I)V"⟩
abbrev cX0_gap : ByteArray := prog_1_method_16_code
def yX0_gap : MethodName := ⟨RX0, "gap", "(II)I"⟩
abbrev cX0_load : ByteArray := prog_1_method_18_code
def yX0_load : MethodName := ⟨RX0, "load", "(I)V"⟩
abbrev cX0_undo : ByteArray := prog_1_method_19_code
def yX0_undo : MethodName := ⟨RX0, "undo", "()V"⟩
abbrev cX0_redo : ByteArray := prog_1_method_20_code
def yX0_redo : MethodName := ⟨RX0, "redo", "()V"⟩
abbrev cX0_emit : ByteArray := prog_1_method_2_code
def yX0_emit : MethodName := ⟨RX0, "emit", "(IIII)I"⟩
abbrev cX0_fits : ByteArray := prog_1_method_3_code
def yX0_fits : MethodName := ⟨RX0, "fits", "(IIII)Z"⟩
abbrev cX0_isVariable : ByteArray := prog_1_method_5_code
def yX0_isVariable : MethodName := ⟨RX0, "isVariable", "(I)Z"⟩
abbrev cX0_input : ByteArray := prog_1_method_4_code
def yX0_input : MethodName := ⟨RX0, "input", "(I)I"⟩
abbrev cX0_steps : ByteArray := prog_1_method_6_code
def yX0_steps : MethodName := ⟨RX0, "steps", "()I"⟩
abbrev cX0_goTo : ByteArray := prog_1_method_7_code
def yX0_goTo : MethodName := ⟨RX0, "goTo", "(I)I"⟩
abbrev cX0_time : ByteArray := prog_1_method_8_code
def yX0_time : MethodName := ⟨RX0, "time", "()I"⟩
abbrev cX0_variable : ByteArray := prog_1_method_9_code
def yX0_variable : MethodName := ⟨RX0, "variable", "(I)I"⟩
abbrev cX0_cell : ByteArray := prog_1_method_10_code
def yX0_cell : MethodName := ⟨RX0, "cell", "(I)I"⟩
abbrev cX0_lastWrite : ByteArray := prog_1_method_11_code
def yX0_lastWrite : MethodName := ⟨RX0, "lastWrite", "(II)I"⟩
abbrev cX0_writeUpTo : ByteArray := prog_1_method_15_code
def yX0_writeUpTo : MethodName := ⟨RX0, "writeUpTo", "(I)I"⟩
abbrev cX0_runTo : ByteArray := prog_1_method_12_code
def yX0_runTo : MethodName := ⟨RX0, "runTo", "(I)I"⟩
abbrev cX0_backTo : ByteArray := prog_1_method_13_code
def yX0_backTo : MethodName := ⟨RX0, "backTo", "(I)I"⟩
abbrev cX0_backBeforeWrite : ByteArray := prog_1_method_14_code
def yX0_backBeforeWrite : MethodName := ⟨RX0, "backBeforeWrite", "(I)I"⟩
theorem q22 : (Jvm.Cond.initialized "TraceDebugger") ∈ lw_all := lw_g (lw_at lw_m1 1 rfl) rfl
theorem q25 : (Jvm.Cond.instantiable "TraceDebugger" (18 : Nat)) ∈ lw_all := lw_g (lw_at lw_m1 4 rfl) rfl
theorem q27 : (Jvm.Cond.instanceMethod ({ cls := "TraceDebugger", name := "<init>", desc := "()V" } : Jvm.MethodName)) ∈ lw_all := lw_g (lw_at lw_m1 6 rfl) rfl
theorem q28 : (Jvm.Cond.code ({ cls := "TraceDebugger", name := "<init>", desc := "()V" } : Jvm.MethodName) prog_1_method_1_code (1 : Nat) (Option.none : Option Jvm.ClassFile.FieldType)) ∈ lw_all := lw_g (lw_at lw_m1 7 rfl) rfl
theorem q29 : (Jvm.Cond.methodLink "TraceDebugger" (1 : Nat) ({ cls := "java/lang/Object", name := "<init>", desc := "()V" } : Jvm.MethodName)) ∈ lw_all := lw_g (lw_at lw_m1 8 rfl) rfl
theorem q32 : (Jvm.Cond.methodLink "TraceDebugger" (54 : Nat) ({ cls := "TraceDebugger", name := "execute", desc := "()V" } : Jvm.MethodName)) ∈ lw_all := lw_g (lw_at lw_m1 11 rfl) rfl
theorem q33 : (Jvm.Cond.privateMethod ({ cls := "TraceDebugger", name := "execute", desc := "()V" } : Jvm.MethodName)) ∈ lw_tbl := lw_at lw_m1 12 rfl
theorem q34 : (Jvm.Cond.instanceMethod ({ cls := "TraceDebugger", name := "execute", desc := "()V" } : Jvm.MethodName)) ∈ lw_all := lw_g (lw_at lw_m1 13 rfl) rfl
theorem q35 : (Jvm.Cond.code ({ cls := "TraceDebugger", name := "execute", desc := "()V" } : Jvm.MethodName) prog_1_method_21_code (3 : Nat) (Option.none : Option Jvm.ClassFile.FieldType)) ∈ lw_all := lw_g (lw_at lw_m1 14 rfl) rfl
theorem q36 : (Jvm.Cond.methodLink "TraceDebugger" (99 : Nat) ({ cls := "TraceDebugger", name := "noteTime", desc := "(II)V" } : Jvm.MethodName)) ∈ lw_all := lw_g (lw_at lw_m1 15 rfl) rfl
theorem q37 : (Jvm.Cond.privateMethod ({ cls := "TraceDebugger", name := "noteTime", desc := "(II)V" } : Jvm.MethodName)) ∈ lw_tbl := lw_at lw_m1 16 rfl
theorem q38 : (Jvm.Cond.instanceMethod ({ cls := "TraceDebugger", name := "noteTime", desc := "(II)V" } : Jvm.MethodName)) ∈ lw_all := lw_g (lw_at lw_m1 17 rfl) rfl
theorem q39 : (Jvm.Cond.code ({ cls := "TraceDebugger", name := "noteTime", desc := "(II)V" } : Jvm.MethodName) prog_1_method_22_code (5 : Nat) (Option.none : Option Jvm.ClassFile.FieldType)) ∈ lw_all := lw_g (lw_at lw_m1 18 rfl) rfl
theorem q40 : (Jvm.Cond.methodLink "TraceDebugger" (103 : Nat) ({ cls := "TraceDebugger", name := "perform", desc := "(I)I" } : Jvm.MethodName)) ∈ lw_all := lw_g (lw_at lw_m1 19 rfl) rfl
theorem q41 : (Jvm.Cond.privateMethod ({ cls := "TraceDebugger", name := "perform", desc := "(I)I" } : Jvm.MethodName)) ∈ lw_tbl := lw_at lw_m1 20 rfl
theorem q42 : (Jvm.Cond.instanceMethod ({ cls := "TraceDebugger", name := "perform", desc := "(I)I" } : Jvm.MethodName)) ∈ lw_all := lw_g (lw_at lw_m1 21 rfl) rfl
theorem q43 : (Jvm.Cond.code ({ cls := "TraceDebugger", name := "perform", desc := "(I)I" } : Jvm.MethodName) prog_1_method_24_code (5 : Nat) (Option.some Jvm.ClassFile.FieldType.int)) ∈ lw_all := lw_g (lw_at lw_m1 22 rfl) rfl
theorem q44 : (Jvm.Cond.methodLink "TraceDebugger" (106 : Nat) ({ cls := "TraceDebugger", name := "store", desc := "(II)V" } : Jvm.MethodName)) ∈ lw_all := lw_g (lw_at lw_m1 23 rfl) rfl
theorem q45 : (Jvm.Cond.privateMethod ({ cls := "TraceDebugger", name := "store", desc := "(II)V" } : Jvm.MethodName)) ∈ lw_tbl := lw_at lw_m1 24 rfl
theorem q46 : (Jvm.Cond.instanceMethod ({ cls := "TraceDebugger", name := "store", desc := "(II)V" } : Jvm.MethodName)) ∈ lw_all := lw_g (lw_at lw_m1 25 rfl) rfl
theorem q47 : (Jvm.Cond.code ({ cls := "TraceDebugger", name := "store", desc := "(II)V" } : Jvm.MethodName) prog_1_method_23_code (3 : Nat) (Option.none : Option Jvm.ClassFile.FieldType)) ∈ lw_all := lw_g (lw_at lw_m1 26 rfl) rfl
theorem q48 : (Jvm.Cond.methodLink "TraceDebugger" (109 : Nat) ({ cls := "TraceDebugger", name := "compute", desc := "(IIII)V" } : Jvm.MethodName)) ∈ lw_all := lw_g (lw_at lw_m1 27 rfl) rfl
theorem q49 : (Jvm.Cond.privateMethod ({ cls := "TraceDebugger", name := "compute", desc := "(IIII)V" } : Jvm.MethodName)) ∈ lw_tbl := lw_at lw_m1 28 rfl
theorem q50 : (Jvm.Cond.instanceMethod ({ cls := "TraceDebugger", name := "compute", desc := "(IIII)V" } : Jvm.MethodName)) ∈ lw_all := lw_g (lw_at lw_m1 29 rfl) rfl
theorem q51 : (Jvm.Cond.code ({ cls := "TraceDebugger", name := "compute", desc := "(IIII)V" } : Jvm.MethodName) prog_1_method_25_code (6 : Nat) (Option.none : Option Jvm.ClassFile.FieldType)) ∈ lw_all := lw_g (lw_at lw_m1 30 rfl) rfl
theorem q52 : (Jvm.Cond.methodLink "TraceDebugger" (75 : Nat) ({ cls := "TraceDebugger", name := "travel", desc := "(I)V" } : Jvm.MethodName)) ∈ lw_all := lw_g (lw_at lw_m1 31 rfl) rfl
theorem q53 : (Jvm.Cond.privateMethod ({ cls := "TraceDebugger", name := "travel", desc := "(I)V" } : Jvm.MethodName)) ∈ lw_tbl := lw_at lw_m1 32 rfl
theorem q54 : (Jvm.Cond.instanceMethod ({ cls := "TraceDebugger", name := "travel", desc := "(I)V" } : Jvm.MethodName)) ∈ lw_all := lw_g (lw_at lw_m1 33 rfl) rfl
theorem q55 : (Jvm.Cond.code ({ cls := "TraceDebugger", name := "travel", desc := "(I)V" } : Jvm.MethodName) prog_1_method_17_code (3 : Nat) (Option.none : Option Jvm.ClassFile.FieldType)) ∈ lw_all := lw_g (lw_at lw_m1 34 rfl) rfl
theorem q56 : (Jvm.Cond.methodLink "TraceDebugger" (86 : Nat) ({ cls := "TraceDebugger", name := "gap", desc := "(II)I" } : Jvm.MethodName)) ∈ lw_all := lw_g (lw_at lw_m1 35 rfl) rfl
theorem q57 : (Jvm.Cond.privateMethod ({ cls := "TraceDebugger", name := "gap", desc := "(II)I" } : Jvm.MethodName)) ∈ lw_tbl := lw_at lw_m1 36 rfl
theorem q58 : (Jvm.Cond.instanceMethod ({ cls := "TraceDebugger", name := "gap", desc := "(II)I" } : Jvm.MethodName)) ∈ lw_all := lw_g (lw_at lw_m1 37 rfl) rfl
theorem q59 : (Jvm.Cond.code ({ cls := "TraceDebugger", name := "gap", desc := "(II)I" } : Jvm.MethodName) prog_1_method_16_code (3 : Nat) (Option.some Jvm.ClassFile.FieldType.int)) ∈ lw_all := lw_g (lw_at lw_m1 38 rfl) rfl
theorem q60 : (Jvm.Cond.methodLink "TraceDebugger" (90 : Nat) ({ cls := "TraceDebugger", name := "load", desc := "(I)V" } : Jvm.MethodName)) ∈ lw_all := lw_g (lw_at lw_m1 39 rfl) rfl
theorem q61 : (Jvm.Cond.privateMethod ({ cls := "TraceDebugger", name := "load", desc := "(I)V" } : Jvm.MethodName)) ∈ lw_tbl := lw_at lw_m1 40 rfl
theorem q62 : (Jvm.Cond.instanceMethod ({ cls := "TraceDebugger", name := "load", desc := "(I)V" } : Jvm.MethodName)) ∈ lw_all := lw_g (lw_at lw_m1 41 rfl) rfl
theorem q63 : (Jvm.Cond.code ({ cls := "TraceDebugger", name := "load", desc := "(I)V" } : Jvm.MethodName) prog_1_method_18_code (3 : Nat) (Option.none : Option Jvm.ClassFile.FieldType)) ∈ lw_all := lw_g (lw_at lw_m1 42 rfl) rfl
theorem q64 : (Jvm.Cond.methodLink "TraceDebugger" (93 : Nat) ({ cls := "TraceDebugger", name := "undo", desc := "()V" } : Jvm.MethodName)) ∈ lw_all := lw_g (lw_at lw_m1 43 rfl) rfl
theorem q65 : (Jvm.Cond.privateMethod ({ cls := "TraceDebugger", name := "undo", desc := "()V" } : Jvm.MethodName)) ∈ lw_tbl := lw_at lw_m1 44 rfl
theorem q66 : (Jvm.Cond.instanceMethod ({ cls := "TraceDebugger", name := "undo", desc := "()V" } : Jvm.MethodName)) ∈ lw_all := lw_g (lw_at lw_m1 45 rfl) rfl
theorem q67 : (Jvm.Cond.code ({ cls := "TraceDebugger", name := "undo", desc := "()V" } : Jvm.MethodName) prog_1_method_19_code (1 : Nat) (Option.none : Option Jvm.ClassFile.FieldType)) ∈ lw_all := lw_g (lw_at lw_m1 46 rfl) rfl
theorem q68 : (Jvm.Cond.methodLink "TraceDebugger" (96 : Nat) ({ cls := "TraceDebugger", name := "redo", desc := "()V" } : Jvm.MethodName)) ∈ lw_all := lw_g (lw_at lw_m1 47 rfl) rfl
theorem q69 : (Jvm.Cond.privateMethod ({ cls := "TraceDebugger", name := "redo", desc := "()V" } : Jvm.MethodName)) ∈ lw_tbl := lw_at lw_m1 48 rfl
theorem q70 : (Jvm.Cond.instanceMethod ({ cls := "TraceDebugger", name := "redo", desc := "()V" } : Jvm.MethodName)) ∈ lw_all := lw_g (lw_at lw_m1 49 rfl) rfl
theorem q71 : (Jvm.Cond.code ({ cls := "TraceDebugger", name := "redo", desc := "()V" } : Jvm.MethodName) prog_1_method_20_code (1 : Nat) (Option.none : Option Jvm.ClassFile.FieldType)) ∈ lw_all := lw_g (lw_at lw_m1 50 rfl) rfl
theorem q72 : (Jvm.Cond.fieldLink "TraceDebugger" (57 : Nat) "TraceDebugger" "length" "I") ∈ lw_all := lw_g (lw_at lw_m1 51 rfl) rfl
theorem q73 : (Jvm.Cond.fieldLink "TraceDebugger" (7 : Nat) "TraceDebugger" "opcode" "[B") ∈ lw_all := lw_g (lw_at lw_m1 52 rfl) rfl
theorem q74 : (Jvm.Cond.fieldLink "TraceDebugger" (13 : Nat) "TraceDebugger" "fieldX" "[I") ∈ lw_all := lw_g (lw_at lw_m1 53 rfl) rfl
theorem q75 : (Jvm.Cond.fieldLink "TraceDebugger" (17 : Nat) "TraceDebugger" "fieldY" "[I") ∈ lw_all := lw_g (lw_at lw_m1 54 rfl) rfl
theorem q76 : (Jvm.Cond.fieldLink "TraceDebugger" (20 : Nat) "TraceDebugger" "fieldZ" "[I") ∈ lw_all := lw_g (lw_at lw_m1 55 rfl) rfl
theorem q77 : (Jvm.Cond.fieldLink "TraceDebugger" (69 : Nat) "TraceDebugger" "inputValue" "I") ∈ lw_all := lw_g (lw_at lw_m1 56 rfl) rfl
theorem q78 : (Jvm.Cond.fieldLink "TraceDebugger" (23 : Nat) "TraceDebugger" "now" "[I") ∈ lw_all := lw_g (lw_at lw_m1 57 rfl) rfl
theorem q79 : (Jvm.Cond.fieldLink "TraceDebugger" (79 : Nat) "TraceDebugger" "present" "I") ∈ lw_all := lw_g (lw_at lw_m1 58 rfl) rfl
theorem q80 : (Jvm.Cond.fieldLink "TraceDebugger" (72 : Nat) "TraceDebugger" "total" "I") ∈ lw_all := lw_g (lw_at lw_m1 59 rfl) rfl
theorem q81 : (Jvm.Cond.fieldLink "TraceDebugger" (26 : Nat) "TraceDebugger" "wrote" "[B") ∈ lw_all := lw_g (lw_at lw_m1 60 rfl) rfl
theorem q82 : (Jvm.Cond.fieldLink "TraceDebugger" (29 : Nat) "TraceDebugger" "oldValue" "[I") ∈ lw_all := lw_g (lw_at lw_m1 61 rfl) rfl
theorem q83 : (Jvm.Cond.fieldLink "TraceDebugger" (32 : Nat) "TraceDebugger" "newValue" "[I") ∈ lw_all := lw_g (lw_at lw_m1 62 rfl) rfl
theorem q84 : (Jvm.Cond.fieldLink "TraceDebugger" (35 : Nat) "TraceDebugger" "writeBefore" "[S") ∈ lw_all := lw_g (lw_at lw_m1 63 rfl) rfl
theorem q85 : (Jvm.Cond.fieldLink "TraceDebugger" (39 : Nat) "TraceDebugger" "numberAt" "[B") ∈ lw_all := lw_g (lw_at lw_m1 64 rfl) rfl
theorem q86 : (Jvm.Cond.fieldLink "TraceDebugger" (42 : Nat) "TraceDebugger" "timeBefore" "[S") ∈ lw_all := lw_g (lw_at lw_m1 65 rfl) rfl
theorem q87 : (Jvm.Cond.fieldLink "TraceDebugger" (45 : Nat) "TraceDebugger" "lastWriter" "[S") ∈ lw_all := lw_g (lw_at lw_m1 66 rfl) rfl
theorem q88 : (Jvm.Cond.fieldLink "TraceDebugger" (48 : Nat) "TraceDebugger" "lastTime" "[S") ∈ lw_all := lw_g (lw_at lw_m1 67 rfl) rfl
theorem q89 : (Jvm.Cond.fieldLink "TraceDebugger" (51 : Nat) "TraceDebugger" "saved" "[I") ∈ lw_all := lw_g (lw_at lw_m1 68 rfl) rfl
theorem q90 : (Jvm.Cond.lays "TraceDebugger" "TraceDebugger" "length" "I") ∈ lw_all := lw_g (lw_at lw_m1 69 rfl) rfl
theorem q91 : (Jvm.Cond.soleField "TraceDebugger" "length") ∈ lw_all := lw_g (lw_at lw_m1 70 rfl) rfl
theorem q92 : (Jvm.Cond.laysFinal "TraceDebugger" "TraceDebugger" "opcode" "[B") ∈ lw_all := lw_g (lw_at lw_m1 71 rfl) rfl
theorem q93 : (Jvm.Cond.soleField "TraceDebugger" "opcode") ∈ lw_all := lw_g (lw_at lw_m1 72 rfl) rfl
theorem q94 : (Jvm.Cond.laysFinal "TraceDebugger" "TraceDebugger" "fieldX" "[I") ∈ lw_all := lw_g (lw_at lw_m1 73 rfl) rfl
theorem q95 : (Jvm.Cond.soleField "TraceDebugger" "fieldX") ∈ lw_all := lw_g (lw_at lw_m1 74 rfl) rfl
theorem q96 : (Jvm.Cond.laysFinal "TraceDebugger" "TraceDebugger" "fieldY" "[I") ∈ lw_all := lw_g (lw_at lw_m1 75 rfl) rfl
theorem q97 : (Jvm.Cond.soleField "TraceDebugger" "fieldY") ∈ lw_all := lw_g (lw_at lw_m1 76 rfl) rfl
theorem q98 : (Jvm.Cond.laysFinal "TraceDebugger" "TraceDebugger" "fieldZ" "[I") ∈ lw_all := lw_g (lw_at lw_m1 77 rfl) rfl
theorem q99 : (Jvm.Cond.soleField "TraceDebugger" "fieldZ") ∈ lw_all := lw_g (lw_at lw_m1 78 rfl) rfl
theorem q100 : (Jvm.Cond.lays "TraceDebugger" "TraceDebugger" "inputValue" "I") ∈ lw_all := lw_g (lw_at lw_m1 79 rfl) rfl
theorem q101 : (Jvm.Cond.soleField "TraceDebugger" "inputValue") ∈ lw_all := lw_g (lw_at lw_m1 80 rfl) rfl
theorem q102 : (Jvm.Cond.laysFinal "TraceDebugger" "TraceDebugger" "now" "[I") ∈ lw_all := lw_g (lw_at lw_m1 81 rfl) rfl
theorem q103 : (Jvm.Cond.soleField "TraceDebugger" "now") ∈ lw_all := lw_g (lw_at lw_m1 82 rfl) rfl
theorem q104 : (Jvm.Cond.lays "TraceDebugger" "TraceDebugger" "present" "I") ∈ lw_all := lw_g (lw_at lw_m1 83 rfl) rfl
theorem q105 : (Jvm.Cond.soleField "TraceDebugger" "present") ∈ lw_all := lw_g (lw_at lw_m1 84 rfl) rfl
theorem q106 : (Jvm.Cond.lays "TraceDebugger" "TraceDebugger" "total" "I") ∈ lw_all := lw_g (lw_at lw_m1 85 rfl) rfl
theorem q107 : (Jvm.Cond.soleField "TraceDebugger" "total") ∈ lw_all := lw_g (lw_at lw_m1 86 rfl) rfl
theorem q108 : (Jvm.Cond.laysFinal "TraceDebugger" "TraceDebugger" "wrote" "[B") ∈ lw_all := lw_g (lw_at lw_m1 87 rfl) rfl
theorem q109 : (Jvm.Cond.soleField "TraceDebugger" "wrote") ∈ lw_all := lw_g (lw_at lw_m1 88 rfl) rfl
theorem q110 : (Jvm.Cond.laysFinal "TraceDebugger" "TraceDebugger" "oldValue" "[I") ∈ lw_all := lw_g (lw_at lw_m1 89 rfl) rfl
theorem q111 : (Jvm.Cond.soleField "TraceDebugger" "oldValue") ∈ lw_all := lw_g (lw_at lw_m1 90 rfl) rfl
theorem q112 : (Jvm.Cond.laysFinal "TraceDebugger" "TraceDebugger" "newValue" "[I") ∈ lw_all := lw_g (lw_at lw_m1 91 rfl) rfl
theorem q113 : (Jvm.Cond.soleField "TraceDebugger" "newValue") ∈ lw_all := lw_g (lw_at lw_m1 92 rfl) rfl
theorem q114 : (Jvm.Cond.laysFinal "TraceDebugger" "TraceDebugger" "writeBefore" "[S") ∈ lw_all := lw_g (lw_at lw_m1 93 rfl) rfl
theorem q115 : (Jvm.Cond.soleField "TraceDebugger" "writeBefore") ∈ lw_all := lw_g (lw_at lw_m1 94 rfl) rfl
theorem q116 : (Jvm.Cond.laysFinal "TraceDebugger" "TraceDebugger" "numberAt" "[B") ∈ lw_all := lw_g (lw_at lw_m1 95 rfl) rfl
theorem q117 : (Jvm.Cond.soleField "TraceDebugger" "numberAt") ∈ lw_all := lw_g (lw_at lw_m1 96 rfl) rfl
theorem q118 : (Jvm.Cond.laysFinal "TraceDebugger" "TraceDebugger" "timeBefore" "[S") ∈ lw_all := lw_g (lw_at lw_m1 97 rfl) rfl
theorem q119 : (Jvm.Cond.soleField "TraceDebugger" "timeBefore") ∈ lw_all := lw_g (lw_at lw_m1 98 rfl) rfl
theorem q120 : (Jvm.Cond.laysFinal "TraceDebugger" "TraceDebugger" "lastWriter" "[S") ∈ lw_all := lw_g (lw_at lw_m1 99 rfl) rfl
theorem q121 : (Jvm.Cond.soleField "TraceDebugger" "lastWriter") ∈ lw_all := lw_g (lw_at lw_m1 100 rfl) rfl
theorem q122 : (Jvm.Cond.laysFinal "TraceDebugger" "TraceDebugger" "lastTime" "[S") ∈ lw_all := lw_g (lw_at lw_m1 101 rfl) rfl
theorem q123 : (Jvm.Cond.soleField "TraceDebugger" "lastTime") ∈ lw_all := lw_g (lw_at lw_m1 102 rfl) rfl
theorem q124 : (Jvm.Cond.laysFinal "TraceDebugger" "TraceDebugger" "saved" "[I") ∈ lw_all := lw_g (lw_at lw_m1 103 rfl) rfl
theorem q125 : (Jvm.Cond.soleField "TraceDebugger" "saved") ∈ lw_all := lw_g (lw_at lw_m1 104 rfl) rfl
theorem q126 : (Jvm.Cond.superclass "TraceDebugger" "java/lang/Object") ∈ lw_all := lw_g (lw_at lw_m1 105 rfl) rfl
theorem q131 : (Jvm.Cond.instanceMethod ({ cls := "TraceDebugger", name := "emit", desc := "(IIII)I" } : Jvm.MethodName)) ∈ lw_all := lw_g (lw_at lw_m1 110 rfl) rfl
theorem q132 : (Jvm.Cond.selects "TraceDebugger" ({ cls := "TraceDebugger", name := "emit", desc := "(IIII)I" } : Jvm.MethodName) ({ cls := "TraceDebugger", name := "emit", desc := "(IIII)I" } : Jvm.MethodName)) ∈ lw_all := lw_g (lw_at lw_m1 111 rfl) rfl
theorem q133 : (Jvm.Cond.code ({ cls := "TraceDebugger", name := "emit", desc := "(IIII)I" } : Jvm.MethodName) prog_1_method_2_code (5 : Nat) (Option.some Jvm.ClassFile.FieldType.int)) ∈ lw_all := lw_g (lw_at lw_m1 112 rfl) rfl
theorem q134 : (Jvm.Cond.methodLink "TraceDebugger" (61 : Nat) ({ cls := "TraceDebugger", name := "fits", desc := "(IIII)Z" } : Jvm.MethodName)) ∈ lw_all := lw_g (lw_at lw_m1 113 rfl) rfl
theorem q135 : (Jvm.Cond.privateMethod ({ cls := "TraceDebugger", name := "fits", desc := "(IIII)Z" } : Jvm.MethodName)) ∈ lw_tbl := lw_at lw_m1 114 rfl
theorem q136 : (Jvm.Cond.instanceMethod ({ cls := "TraceDebugger", name := "fits", desc := "(IIII)Z" } : Jvm.MethodName)) ∈ lw_all := lw_g (lw_at lw_m1 115 rfl) rfl
theorem q137 : (Jvm.Cond.code ({ cls := "TraceDebugger", name := "fits", desc := "(IIII)Z" } : Jvm.MethodName) prog_1_method_3_code (5 : Nat) (Option.some Jvm.ClassFile.FieldType.boolean)) ∈ lw_all := lw_g (lw_at lw_m1 116 rfl) rfl
theorem q138 : (Jvm.Cond.methodLink "TraceDebugger" (65 : Nat) ({ cls := "TraceDebugger", name := "isVariable", desc := "(I)Z" } : Jvm.MethodName)) ∈ lw_all := lw_g (lw_at lw_m1 117 rfl) rfl
theorem q139 : (Jvm.Cond.privateMethod ({ cls := "TraceDebugger", name := "isVariable", desc := "(I)Z" } : Jvm.MethodName)) ∈ lw_tbl := lw_at lw_m1 118 rfl
theorem q140 : (Jvm.Cond.instanceMethod ({ cls := "TraceDebugger", name := "isVariable", desc := "(I)Z" } : Jvm.MethodName)) ∈ lw_all := lw_g (lw_at lw_m1 119 rfl) rfl
theorem q141 : (Jvm.Cond.code ({ cls := "TraceDebugger", name := "isVariable", desc := "(I)Z" } : Jvm.MethodName) prog_1_method_5_code (2 : Nat) (Option.some Jvm.ClassFile.FieldType.boolean)) ∈ lw_all := lw_g (lw_at lw_m1 120 rfl) rfl
theorem q143 : (Jvm.Cond.instanceMethod ({ cls := "TraceDebugger", name := "input", desc := "(I)I" } : Jvm.MethodName)) ∈ lw_all := lw_g (lw_at lw_m1 122 rfl) rfl
theorem q144 : (Jvm.Cond.selects "TraceDebugger" ({ cls := "TraceDebugger", name := "input", desc := "(I)I" } : Jvm.MethodName) ({ cls := "TraceDebugger", name := "input", desc := "(I)I" } : Jvm.MethodName)) ∈ lw_all := lw_g (lw_at lw_m1 123 rfl) rfl
theorem q145 : (Jvm.Cond.code ({ cls := "TraceDebugger", name := "input", desc := "(I)I" } : Jvm.MethodName) prog_1_method_4_code (2 : Nat) (Option.some Jvm.ClassFile.FieldType.int)) ∈ lw_all := lw_g (lw_at lw_m1 124 rfl) rfl
theorem q147 : (Jvm.Cond.instanceMethod ({ cls := "TraceDebugger", name := "steps", desc := "()I" } : Jvm.MethodName)) ∈ lw_all := lw_g (lw_at lw_m1 126 rfl) rfl
theorem q148 : (Jvm.Cond.selects "TraceDebugger" ({ cls := "TraceDebugger", name := "steps", desc := "()I" } : Jvm.MethodName) ({ cls := "TraceDebugger", name := "steps", desc := "()I" } : Jvm.MethodName)) ∈ lw_all := lw_g (lw_at lw_m1 127 rfl) rfl
theorem q149 : (Jvm.Cond.code ({ cls := "TraceDebugger", name := "steps", desc := "()I" } : Jvm.MethodName) prog_1_method_6_code (1 : Nat) (Option.some Jvm.ClassFile.FieldType.int)) ∈ lw_all := lw_g (lw_at lw_m1 128 rfl) rfl
theorem q151 : (Jvm.Cond.instanceMethod ({ cls := "TraceDebugger", name := "goTo", desc := "(I)I" } : Jvm.MethodName)) ∈ lw_all := lw_g (lw_at lw_m1 130 rfl) rfl
theorem q152 : (Jvm.Cond.selects "TraceDebugger" ({ cls := "TraceDebugger", name := "goTo", desc := "(I)I" } : Jvm.MethodName) ({ cls := "TraceDebugger", name := "goTo", desc := "(I)I" } : Jvm.MethodName)) ∈ lw_all := lw_g (lw_at lw_m1 131 rfl) rfl
theorem q153 : (Jvm.Cond.code ({ cls := "TraceDebugger", name := "goTo", desc := "(I)I" } : Jvm.MethodName) prog_1_method_7_code (2 : Nat) (Option.some Jvm.ClassFile.FieldType.int)) ∈ lw_all := lw_g (lw_at lw_m1 132 rfl) rfl
theorem q155 : (Jvm.Cond.instanceMethod ({ cls := "TraceDebugger", name := "time", desc := "()I" } : Jvm.MethodName)) ∈ lw_all := lw_g (lw_at lw_m1 134 rfl) rfl
theorem q156 : (Jvm.Cond.selects "TraceDebugger" ({ cls := "TraceDebugger", name := "time", desc := "()I" } : Jvm.MethodName) ({ cls := "TraceDebugger", name := "time", desc := "()I" } : Jvm.MethodName)) ∈ lw_all := lw_g (lw_at lw_m1 135 rfl) rfl
theorem q157 : (Jvm.Cond.code ({ cls := "TraceDebugger", name := "time", desc := "()I" } : Jvm.MethodName) prog_1_method_8_code (1 : Nat) (Option.some Jvm.ClassFile.FieldType.int)) ∈ lw_all := lw_g (lw_at lw_m1 136 rfl) rfl
theorem q159 : (Jvm.Cond.instanceMethod ({ cls := "TraceDebugger", name := "variable", desc := "(I)I" } : Jvm.MethodName)) ∈ lw_all := lw_g (lw_at lw_m1 138 rfl) rfl
theorem q160 : (Jvm.Cond.selects "TraceDebugger" ({ cls := "TraceDebugger", name := "variable", desc := "(I)I" } : Jvm.MethodName) ({ cls := "TraceDebugger", name := "variable", desc := "(I)I" } : Jvm.MethodName)) ∈ lw_all := lw_g (lw_at lw_m1 139 rfl) rfl
theorem q161 : (Jvm.Cond.code ({ cls := "TraceDebugger", name := "variable", desc := "(I)I" } : Jvm.MethodName) prog_1_method_9_code (2 : Nat) (Option.some Jvm.ClassFile.FieldType.int)) ∈ lw_all := lw_g (lw_at lw_m1 140 rfl) rfl
theorem q163 : (Jvm.Cond.instanceMethod ({ cls := "TraceDebugger", name := "cell", desc := "(I)I" } : Jvm.MethodName)) ∈ lw_all := lw_g (lw_at lw_m1 142 rfl) rfl
theorem q164 : (Jvm.Cond.selects "TraceDebugger" ({ cls := "TraceDebugger", name := "cell", desc := "(I)I" } : Jvm.MethodName) ({ cls := "TraceDebugger", name := "cell", desc := "(I)I" } : Jvm.MethodName)) ∈ lw_all := lw_g (lw_at lw_m1 143 rfl) rfl
theorem q165 : (Jvm.Cond.code ({ cls := "TraceDebugger", name := "cell", desc := "(I)I" } : Jvm.MethodName) prog_1_method_10_code (2 : Nat) (Option.some Jvm.ClassFile.FieldType.int)) ∈ lw_all := lw_g (lw_at lw_m1 144 rfl) rfl
theorem q167 : (Jvm.Cond.instanceMethod ({ cls := "TraceDebugger", name := "lastWrite", desc := "(II)I" } : Jvm.MethodName)) ∈ lw_all := lw_g (lw_at lw_m1 146 rfl) rfl
theorem q168 : (Jvm.Cond.selects "TraceDebugger" ({ cls := "TraceDebugger", name := "lastWrite", desc := "(II)I" } : Jvm.MethodName) ({ cls := "TraceDebugger", name := "lastWrite", desc := "(II)I" } : Jvm.MethodName)) ∈ lw_all := lw_g (lw_at lw_m1 147 rfl) rfl
theorem q169 : (Jvm.Cond.code ({ cls := "TraceDebugger", name := "lastWrite", desc := "(II)I" } : Jvm.MethodName) prog_1_method_11_code (3 : Nat) (Option.some Jvm.ClassFile.FieldType.int)) ∈ lw_all := lw_g (lw_at lw_m1 148 rfl) rfl
theorem q170 : (Jvm.Cond.methodLink "TraceDebugger" (82 : Nat) ({ cls := "TraceDebugger", name := "writeUpTo", desc := "(I)I" } : Jvm.MethodName)) ∈ lw_all := lw_g (lw_at lw_m1 149 rfl) rfl
theorem q171 : (Jvm.Cond.privateMethod ({ cls := "TraceDebugger", name := "writeUpTo", desc := "(I)I" } : Jvm.MethodName)) ∈ lw_tbl := lw_at lw_m1 150 rfl
theorem q172 : (Jvm.Cond.instanceMethod ({ cls := "TraceDebugger", name := "writeUpTo", desc := "(I)I" } : Jvm.MethodName)) ∈ lw_all := lw_g (lw_at lw_m1 151 rfl) rfl
theorem q173 : (Jvm.Cond.code ({ cls := "TraceDebugger", name := "writeUpTo", desc := "(I)I" } : Jvm.MethodName) prog_1_method_15_code (3 : Nat) (Option.some Jvm.ClassFile.FieldType.int)) ∈ lw_all := lw_g (lw_at lw_m1 152 rfl) rfl
theorem q175 : (Jvm.Cond.instanceMethod ({ cls := "TraceDebugger", name := "runTo", desc := "(I)I" } : Jvm.MethodName)) ∈ lw_all := lw_g (lw_at lw_m1 154 rfl) rfl
theorem q176 : (Jvm.Cond.selects "TraceDebugger" ({ cls := "TraceDebugger", name := "runTo", desc := "(I)I" } : Jvm.MethodName) ({ cls := "TraceDebugger", name := "runTo", desc := "(I)I" } : Jvm.MethodName)) ∈ lw_all := lw_g (lw_at lw_m1 155 rfl) rfl
theorem q177 : (Jvm.Cond.code ({ cls := "TraceDebugger", name := "runTo", desc := "(I)I" } : Jvm.MethodName) prog_1_method_12_code (4 : Nat) (Option.some Jvm.ClassFile.FieldType.int)) ∈ lw_all := lw_g (lw_at lw_m1 156 rfl) rfl
theorem q179 : (Jvm.Cond.instanceMethod ({ cls := "TraceDebugger", name := "backTo", desc := "(I)I" } : Jvm.MethodName)) ∈ lw_all := lw_g (lw_at lw_m1 158 rfl) rfl
theorem q180 : (Jvm.Cond.selects "TraceDebugger" ({ cls := "TraceDebugger", name := "backTo", desc := "(I)I" } : Jvm.MethodName) ({ cls := "TraceDebugger", name := "backTo", desc := "(I)I" } : Jvm.MethodName)) ∈ lw_all := lw_g (lw_at lw_m1 159 rfl) rfl
theorem q181 : (Jvm.Cond.code ({ cls := "TraceDebugger", name := "backTo", desc := "(I)I" } : Jvm.MethodName) prog_1_method_13_code (3 : Nat) (Option.some Jvm.ClassFile.FieldType.int)) ∈ lw_all := lw_g (lw_at lw_m1 160 rfl) rfl
theorem q183 : (Jvm.Cond.instanceMethod ({ cls := "TraceDebugger", name := "backBeforeWrite", desc := "(I)I" } : Jvm.MethodName)) ∈ lw_all := lw_g (lw_at lw_m1 162 rfl) rfl
theorem q184 : (Jvm.Cond.selects "TraceDebugger" ({ cls := "TraceDebugger", name := "backBeforeWrite", desc := "(I)I" } : Jvm.MethodName) ({ cls := "TraceDebugger", name := "backBeforeWrite", desc := "(I)I" } : Jvm.MethodName)) ∈ lw_all := lw_g (lw_at lw_m1 163 rfl) rfl
theorem q185 : (Jvm.Cond.code ({ cls := "TraceDebugger", name := "backBeforeWrite", desc := "(I)I" } : Jvm.MethodName) prog_1_method_14_code (3 : Nat) (Option.some Jvm.ClassFile.FieldType.int)) ∈ lw_all := lw_g (lw_at lw_m1 164 rfl) rfl
theorem in_X0 : ∀ w ∈ wsX00, w ∈ lw_all := lw_in wsX00 [90, 92, 94, 96, 98, 100, 102, 104, 106, 108, 110, 112, 114, 116, 118, 120, 122, 124] (by decide +kernel) (by decide +kernel)

/-! TraceDebuggerModel -/
set_option maxRecDepth 100000
def RX1 : String := "TraceDebuggerModel"
def TX1 : u_T := fun k => match k with
  | 0 => ("TraceDebuggerModel", "n", "I", false)
  | 1 => ("TraceDebuggerModel", "op", "[I", false)
  | 2 => ("TraceDebuggerModel", "ax", "[I", false)
  | 3 => ("TraceDebuggerModel", "ay", "[I", false)
  | 4 => ("TraceDebuggerModel", "az", "[I", false)
  | 5 => ("TraceDebuggerModel", "input", "I", false)
  | 6 => ("TraceDebuggerModel", "time", "I", false)
  | 7 => ("TraceDebuggerModel", "var", "[I", false)
  | 8 => ("TraceDebuggerModel", "cells", "[I", false)
  | 9 => ("TraceDebuggerModel", "next", "I", false)
  | 10 => ("TraceDebuggerModel", "halted", "Z", false)
  | 11 => ("TraceDebuggerModel", "wroteVariable", "I", false)
  | _ => ("TraceDebuggerModel", "wroteCell", "I", false)
def tyX1 : Nat → FieldType := fun k => match k with
  | 0 => .int
  | 1 => .array .int
  | 2 => .array .int
  | 3 => .array .int
  | 4 => .array .int
  | 5 => .int
  | 6 => .int
  | 7 => .array .int
  | 8 => .array .int
  | 9 => .int
  | 10 => .boolean
  | 11 => .int
  | _ => .int
abbrev wsX10 : List Cond := u_ws RX1 TX1 13
set_option maxRecDepth 100000 in
theorem nmX1 : ∀ a, a < 13 → ∀ b, b < 13 → a ≠ b → (TX1 a).2.1 ≠ (TX1 b).2.1 := by decide +kernel
set_option maxRecDepth 100000 in
theorem tyX1_ok : ∀ k, k < 13 → parseFieldDescriptor (TX1 k).2.2.1 = some (tyX1 k) := by decide +kernel
abbrev cX1_init : ByteArray := prog_3_method_1_code
def yX1_init : MethodName := ⟨RX1, "<init>", "()V"⟩
abbrev cX1_emit : ByteArray := prog_3_method_5_code
def yX1_emit : MethodName := ⟨RX1, "emit", "(IIII)I"⟩
abbrev cX1_fits : ByteArray := prog_3_method_4_code
def yX1_fits : MethodName := ⟨RX1, "fits", "(IIII)Z"⟩
abbrev cX1_isPlace : ByteArray := prog_3_method_3_code
def yX1_isPlace : MethodName := ⟨RX1, "isPlace", "(I)Z"⟩
abbrev cX1_isVariable : ByteArray := prog_3_method_2_code
def yX1_isVariable : MethodName := ⟨RX1, "isVariable", "(I)Z"⟩
abbrev cX1_input : ByteArray := prog_3_method_6_code
def yX1_input : MethodName := ⟨RX1, "input", "(I)I"⟩
abbrev cX1_steps : ByteArray := prog_3_method_12_code
def yX1_steps : MethodName := ⟨RX1, "steps", "()I"⟩
abbrev cX1_begin : ByteArray := prog_3_method_7_code
def yX1_begin : MethodName := ⟨RX1, "begin", "()V"⟩
abbrev cX1_ended : ByteArray := prog_3_method_8_code
def yX1_ended : MethodName := ⟨RX1, "ended", "()Z"⟩
abbrev cX1_step : ByteArray := prog_3_method_10_code
def yX1_step : MethodName := ⟨RX1, "step", "()V"⟩
abbrev cX1_setVariable : ByteArray := prog_3_method_9_code
def yX1_setVariable : MethodName := ⟨RX1, "setVariable", "(II)V"⟩
abbrev cX1_goTo : ByteArray := prog_3_method_13_code
def yX1_goTo : MethodName := ⟨RX1, "goTo", "(I)I"⟩
abbrev cX1_state : ByteArray := prog_3_method_11_code
def yX1_state : MethodName := ⟨RX1, "state", "(I)V"⟩
abbrev cX1_time : ByteArray := prog_3_method_14_code
def yX1_time : MethodName := ⟨RX1, "time", "()I"⟩
abbrev cX1_variable : ByteArray := prog_3_method_15_code
def yX1_variable : MethodName := ⟨RX1, "variable", "(I)I"⟩
abbrev cX1_cell : ByteArray := prog_3_method_16_code
def yX1_cell : MethodName := ⟨RX1, "cell", "(I)I"⟩
abbrev cX1_lastWrite : ByteArray := prog_3_method_17_code
def yX1_lastWrite : MethodName := ⟨RX1, "lastWrite", "(II)I"⟩
abbrev cX1_runTo : ByteArray := prog_3_method_18_code
def yX1_runTo : MethodName := ⟨RX1, "runTo", "(I)I"⟩
abbrev cX1_backTo : ByteArray := prog_3_method_19_code
def yX1_backTo : MethodName := ⟨RX1, "backTo", "(I)I"⟩
abbrev cX1_backBeforeWrite : ByteArray := prog_3_method_20_code
def yX1_backBeforeWrite : MethodName := ⟨RX1, "backBeforeWrite", "(I)I"⟩
theorem q23 : (Jvm.Cond.initialized "TraceDebuggerModel") ∈ lw_all := lw_g (lw_at lw_m1 2 rfl) rfl
theorem q187 : (Jvm.Cond.instantiable "TraceDebuggerModel" (13 : Nat)) ∈ lw_all := lw_g (lw_at lw_m1 166 rfl) rfl
theorem q189 : (Jvm.Cond.instanceMethod ({ cls := "TraceDebuggerModel", name := "<init>", desc := "()V" } : Jvm.MethodName)) ∈ lw_all := lw_g (lw_at lw_m1 168 rfl) rfl
theorem q190 : (Jvm.Cond.code ({ cls := "TraceDebuggerModel", name := "<init>", desc := "()V" } : Jvm.MethodName) prog_3_method_1_code (1 : Nat) (Option.none : Option Jvm.ClassFile.FieldType)) ∈ lw_all := lw_g (lw_at lw_m1 169 rfl) rfl
theorem q191 : (Jvm.Cond.methodLink "TraceDebuggerModel" (1 : Nat) ({ cls := "java/lang/Object", name := "<init>", desc := "()V" } : Jvm.MethodName)) ∈ lw_all := lw_g (lw_at lw_m1 170 rfl) rfl
theorem q192 : (Jvm.Cond.fieldLink "TraceDebuggerModel" (7 : Nat) "TraceDebuggerModel" "n" "I") ∈ lw_all := lw_g (lw_at lw_m1 171 rfl) rfl
theorem q193 : (Jvm.Cond.fieldLink "TraceDebuggerModel" (13 : Nat) "TraceDebuggerModel" "op" "[I") ∈ lw_all := lw_g (lw_at lw_m1 172 rfl) rfl
theorem q194 : (Jvm.Cond.fieldLink "TraceDebuggerModel" (17 : Nat) "TraceDebuggerModel" "ax" "[I") ∈ lw_all := lw_g (lw_at lw_m1 173 rfl) rfl
theorem q195 : (Jvm.Cond.fieldLink "TraceDebuggerModel" (20 : Nat) "TraceDebuggerModel" "ay" "[I") ∈ lw_all := lw_g (lw_at lw_m1 174 rfl) rfl
theorem q196 : (Jvm.Cond.fieldLink "TraceDebuggerModel" (23 : Nat) "TraceDebuggerModel" "az" "[I") ∈ lw_all := lw_g (lw_at lw_m1 175 rfl) rfl
theorem q197 : (Jvm.Cond.fieldLink "TraceDebuggerModel" (26 : Nat) "TraceDebuggerModel" "input" "I") ∈ lw_all := lw_g (lw_at lw_m1 176 rfl) rfl
theorem q198 : (Jvm.Cond.fieldLink "TraceDebuggerModel" (29 : Nat) "TraceDebuggerModel" "time" "I") ∈ lw_all := lw_g (lw_at lw_m1 177 rfl) rfl
theorem q199 : (Jvm.Cond.fieldLink "TraceDebuggerModel" (32 : Nat) "TraceDebuggerModel" "var" "[I") ∈ lw_all := lw_g (lw_at lw_m1 178 rfl) rfl
theorem q200 : (Jvm.Cond.fieldLink "TraceDebuggerModel" (35 : Nat) "TraceDebuggerModel" "cells" "[I") ∈ lw_all := lw_g (lw_at lw_m1 179 rfl) rfl
theorem q201 : (Jvm.Cond.fieldLink "TraceDebuggerModel" (53 : Nat) "TraceDebuggerModel" "next" "I") ∈ lw_all := lw_g (lw_at lw_m1 180 rfl) rfl
theorem q202 : (Jvm.Cond.fieldLink "TraceDebuggerModel" (56 : Nat) "TraceDebuggerModel" "halted" "Z") ∈ lw_all := lw_g (lw_at lw_m1 181 rfl) rfl
theorem q203 : (Jvm.Cond.fieldLink "TraceDebuggerModel" (60 : Nat) "TraceDebuggerModel" "wroteVariable" "I") ∈ lw_all := lw_g (lw_at lw_m1 182 rfl) rfl
theorem q204 : (Jvm.Cond.fieldLink "TraceDebuggerModel" (63 : Nat) "TraceDebuggerModel" "wroteCell" "I") ∈ lw_all := lw_g (lw_at lw_m1 183 rfl) rfl
theorem q205 : (Jvm.Cond.lays "TraceDebuggerModel" "TraceDebuggerModel" "n" "I") ∈ lw_all := lw_g (lw_at lw_m1 184 rfl) rfl
theorem q206 : (Jvm.Cond.soleField "TraceDebuggerModel" "n") ∈ lw_all := lw_g (lw_at lw_m1 185 rfl) rfl
theorem q207 : (Jvm.Cond.lays "TraceDebuggerModel" "TraceDebuggerModel" "op" "[I") ∈ lw_all := lw_g (lw_at lw_m1 186 rfl) rfl
theorem q208 : (Jvm.Cond.soleField "TraceDebuggerModel" "op") ∈ lw_all := lw_g (lw_at lw_m1 187 rfl) rfl
theorem q209 : (Jvm.Cond.lays "TraceDebuggerModel" "TraceDebuggerModel" "ax" "[I") ∈ lw_all := lw_g (lw_at lw_m1 188 rfl) rfl
theorem q210 : (Jvm.Cond.soleField "TraceDebuggerModel" "ax") ∈ lw_all := lw_g (lw_at lw_m1 189 rfl) rfl
theorem q211 : (Jvm.Cond.lays "TraceDebuggerModel" "TraceDebuggerModel" "ay" "[I") ∈ lw_all := lw_g (lw_at lw_m1 190 rfl) rfl
theorem q212 : (Jvm.Cond.soleField "TraceDebuggerModel" "ay") ∈ lw_all := lw_g (lw_at lw_m1 191 rfl) rfl
theorem q213 : (Jvm.Cond.lays "TraceDebuggerModel" "TraceDebuggerModel" "az" "[I") ∈ lw_all := lw_g (lw_at lw_m1 192 rfl) rfl
theorem q214 : (Jvm.Cond.soleField "TraceDebuggerModel" "az") ∈ lw_all := lw_g (lw_at lw_m1 193 rfl) rfl
theorem q215 : (Jvm.Cond.lays "TraceDebuggerModel" "TraceDebuggerModel" "input" "I") ∈ lw_all := lw_g (lw_at lw_m1 194 rfl) rfl
theorem q216 : (Jvm.Cond.soleField "TraceDebuggerModel" "input") ∈ lw_all := lw_g (lw_at lw_m1 195 rfl) rfl
theorem q217 : (Jvm.Cond.lays "TraceDebuggerModel" "TraceDebuggerModel" "time" "I") ∈ lw_all := lw_g (lw_at lw_m1 196 rfl) rfl
theorem q218 : (Jvm.Cond.soleField "TraceDebuggerModel" "time") ∈ lw_all := lw_g (lw_at lw_m1 197 rfl) rfl
theorem q219 : (Jvm.Cond.lays "TraceDebuggerModel" "TraceDebuggerModel" "var" "[I") ∈ lw_all := lw_g (lw_at lw_m1 198 rfl) rfl
theorem q220 : (Jvm.Cond.soleField "TraceDebuggerModel" "var") ∈ lw_all := lw_g (lw_at lw_m1 199 rfl) rfl
theorem q221 : (Jvm.Cond.lays "TraceDebuggerModel" "TraceDebuggerModel" "cells" "[I") ∈ lw_all := lw_g (lw_at lw_m1 200 rfl) rfl
theorem q222 : (Jvm.Cond.soleField "TraceDebuggerModel" "cells") ∈ lw_all := lw_g (lw_at lw_m1 201 rfl) rfl
theorem q223 : (Jvm.Cond.lays "TraceDebuggerModel" "TraceDebuggerModel" "next" "I") ∈ lw_all := lw_g (lw_at lw_m1 202 rfl) rfl
theorem q224 : (Jvm.Cond.soleField "TraceDebuggerModel" "next") ∈ lw_all := lw_g (lw_at lw_m1 203 rfl) rfl
theorem q225 : (Jvm.Cond.lays "TraceDebuggerModel" "TraceDebuggerModel" "halted" "Z") ∈ lw_all := lw_g (lw_at lw_m1 204 rfl) rfl
theorem q226 : (Jvm.Cond.soleField "TraceDebuggerModel" "halted") ∈ lw_all := lw_g (lw_at lw_m1 205 rfl) rfl
theorem q227 : (Jvm.Cond.lays "TraceDebuggerModel" "TraceDebuggerModel" "wroteVariable" "I") ∈ lw_all := lw_g (lw_at lw_m1 206 rfl) rfl
theorem q228 : (Jvm.Cond.soleField "TraceDebuggerModel" "wroteVariable") ∈ lw_all := lw_g (lw_at lw_m1 207 rfl) rfl
theorem q229 : (Jvm.Cond.lays "TraceDebuggerModel" "TraceDebuggerModel" "wroteCell" "I") ∈ lw_all := lw_g (lw_at lw_m1 208 rfl) rfl
theorem q230 : (Jvm.Cond.soleField "TraceDebuggerModel" "wroteCell") ∈ lw_all := lw_g (lw_at lw_m1 209 rfl) rfl
theorem q231 : (Jvm.Cond.superclass "TraceDebuggerModel" "java/lang/Object") ∈ lw_all := lw_g (lw_at lw_m1 210 rfl) rfl
theorem q233 : (Jvm.Cond.instanceMethod ({ cls := "TraceDebuggerModel", name := "emit", desc := "(IIII)I" } : Jvm.MethodName)) ∈ lw_all := lw_g (lw_at lw_m1 212 rfl) rfl
theorem q234 : (Jvm.Cond.selects "TraceDebuggerModel" ({ cls := "TraceDebuggerModel", name := "emit", desc := "(IIII)I" } : Jvm.MethodName) ({ cls := "TraceDebuggerModel", name := "emit", desc := "(IIII)I" } : Jvm.MethodName)) ∈ lw_all := lw_g (lw_at lw_m1 213 rfl) rfl
theorem q235 : (Jvm.Cond.code ({ cls := "TraceDebuggerModel", name := "emit", desc := "(IIII)I" } : Jvm.MethodName) prog_3_method_5_code (5 : Nat) (Option.some Jvm.ClassFile.FieldType.int)) ∈ lw_all := lw_g (lw_at lw_m1 214 rfl) rfl
theorem q236 : (Jvm.Cond.methodLink "TraceDebuggerModel" (45 : Nat) ({ cls := "TraceDebuggerModel", name := "fits", desc := "(IIII)Z" } : Jvm.MethodName)) ∈ lw_all := lw_g (lw_at lw_m1 215 rfl) rfl
theorem q237 : (Jvm.Cond.privateMethod ({ cls := "TraceDebuggerModel", name := "fits", desc := "(IIII)Z" } : Jvm.MethodName)) ∈ lw_tbl := lw_at lw_m1 216 rfl
theorem q238 : (Jvm.Cond.instanceMethod ({ cls := "TraceDebuggerModel", name := "fits", desc := "(IIII)Z" } : Jvm.MethodName)) ∈ lw_all := lw_g (lw_at lw_m1 217 rfl) rfl
theorem q239 : (Jvm.Cond.code ({ cls := "TraceDebuggerModel", name := "fits", desc := "(IIII)Z" } : Jvm.MethodName) prog_3_method_4_code (5 : Nat) (Option.some Jvm.ClassFile.FieldType.boolean)) ∈ lw_all := lw_g (lw_at lw_m1 218 rfl) rfl
theorem q240 : (Jvm.Cond.methodLink "TraceDebuggerModel" (38 : Nat) ({ cls := "TraceDebuggerModel", name := "isPlace", desc := "(I)Z" } : Jvm.MethodName)) ∈ lw_all := lw_g (lw_at lw_m1 219 rfl) rfl
theorem q241 : (Jvm.Cond.privateMethod ({ cls := "TraceDebuggerModel", name := "isPlace", desc := "(I)Z" } : Jvm.MethodName)) ∈ lw_tbl := lw_at lw_m1 220 rfl
theorem q242 : (Jvm.Cond.instanceMethod ({ cls := "TraceDebuggerModel", name := "isPlace", desc := "(I)Z" } : Jvm.MethodName)) ∈ lw_all := lw_g (lw_at lw_m1 221 rfl) rfl
theorem q243 : (Jvm.Cond.code ({ cls := "TraceDebuggerModel", name := "isPlace", desc := "(I)Z" } : Jvm.MethodName) prog_3_method_3_code (2 : Nat) (Option.some Jvm.ClassFile.FieldType.boolean)) ∈ lw_all := lw_g (lw_at lw_m1 222 rfl) rfl
theorem q244 : (Jvm.Cond.methodLink "TraceDebuggerModel" (42 : Nat) ({ cls := "TraceDebuggerModel", name := "isVariable", desc := "(I)Z" } : Jvm.MethodName)) ∈ lw_all := lw_g (lw_at lw_m1 223 rfl) rfl
theorem q245 : (Jvm.Cond.privateMethod ({ cls := "TraceDebuggerModel", name := "isVariable", desc := "(I)Z" } : Jvm.MethodName)) ∈ lw_tbl := lw_at lw_m1 224 rfl
theorem q246 : (Jvm.Cond.instanceMethod ({ cls := "TraceDebuggerModel", name := "isVariable", desc := "(I)Z" } : Jvm.MethodName)) ∈ lw_all := lw_g (lw_at lw_m1 225 rfl) rfl
theorem q247 : (Jvm.Cond.code ({ cls := "TraceDebuggerModel", name := "isVariable", desc := "(I)Z" } : Jvm.MethodName) prog_3_method_2_code (2 : Nat) (Option.some Jvm.ClassFile.FieldType.boolean)) ∈ lw_all := lw_g (lw_at lw_m1 226 rfl) rfl
theorem q249 : (Jvm.Cond.instanceMethod ({ cls := "TraceDebuggerModel", name := "input", desc := "(I)I" } : Jvm.MethodName)) ∈ lw_all := lw_g (lw_at lw_m1 228 rfl) rfl
theorem q250 : (Jvm.Cond.selects "TraceDebuggerModel" ({ cls := "TraceDebuggerModel", name := "input", desc := "(I)I" } : Jvm.MethodName) ({ cls := "TraceDebuggerModel", name := "input", desc := "(I)I" } : Jvm.MethodName)) ∈ lw_all := lw_g (lw_at lw_m1 229 rfl) rfl
theorem q251 : (Jvm.Cond.code ({ cls := "TraceDebuggerModel", name := "input", desc := "(I)I" } : Jvm.MethodName) prog_3_method_6_code (2 : Nat) (Option.some Jvm.ClassFile.FieldType.int)) ∈ lw_all := lw_g (lw_at lw_m1 230 rfl) rfl
theorem q252 : (Jvm.Cond.methodLink "TraceDebuggerModel" (49 : Nat) ({ cls := "TraceDebuggerModel", name := "steps", desc := "()I" } : Jvm.MethodName)) ∈ lw_all := lw_g (lw_at lw_m1 231 rfl) rfl
theorem q253 : (Jvm.Cond.instanceMethod ({ cls := "TraceDebuggerModel", name := "steps", desc := "()I" } : Jvm.MethodName)) ∈ lw_all := lw_g (lw_at lw_m1 232 rfl) rfl
theorem q254 : (Jvm.Cond.selects "TraceDebuggerModel" ({ cls := "TraceDebuggerModel", name := "steps", desc := "()I" } : Jvm.MethodName) ({ cls := "TraceDebuggerModel", name := "steps", desc := "()I" } : Jvm.MethodName)) ∈ lw_all := lw_g (lw_at lw_m1 233 rfl) rfl
theorem q255 : (Jvm.Cond.code ({ cls := "TraceDebuggerModel", name := "steps", desc := "()I" } : Jvm.MethodName) prog_3_method_12_code (3 : Nat) (Option.some Jvm.ClassFile.FieldType.int)) ∈ lw_all := lw_g (lw_at lw_m1 234 rfl) rfl
theorem q256 : (Jvm.Cond.methodLink "TraceDebuggerModel" (70 : Nat) ({ cls := "TraceDebuggerModel", name := "begin", desc := "()V" } : Jvm.MethodName)) ∈ lw_all := lw_g (lw_at lw_m1 235 rfl) rfl
theorem q257 : (Jvm.Cond.privateMethod ({ cls := "TraceDebuggerModel", name := "begin", desc := "()V" } : Jvm.MethodName)) ∈ lw_tbl := lw_at lw_m1 236 rfl
theorem q258 : (Jvm.Cond.instanceMethod ({ cls := "TraceDebuggerModel", name := "begin", desc := "()V" } : Jvm.MethodName)) ∈ lw_all := lw_g (lw_at lw_m1 237 rfl) rfl
theorem q259 : (Jvm.Cond.code ({ cls := "TraceDebuggerModel", name := "begin", desc := "()V" } : Jvm.MethodName) prog_3_method_7_code (2 : Nat) (Option.none : Option Jvm.ClassFile.FieldType)) ∈ lw_all := lw_g (lw_at lw_m1 238 rfl) rfl
theorem q260 : (Jvm.Cond.methodLink "TraceDebuggerModel" (76 : Nat) ({ cls := "TraceDebuggerModel", name := "ended", desc := "()Z" } : Jvm.MethodName)) ∈ lw_all := lw_g (lw_at lw_m1 239 rfl) rfl
theorem q261 : (Jvm.Cond.privateMethod ({ cls := "TraceDebuggerModel", name := "ended", desc := "()Z" } : Jvm.MethodName)) ∈ lw_tbl := lw_at lw_m2 0 rfl
theorem q262 : (Jvm.Cond.instanceMethod ({ cls := "TraceDebuggerModel", name := "ended", desc := "()Z" } : Jvm.MethodName)) ∈ lw_all := lw_g (lw_at lw_m2 1 rfl) rfl
theorem q263 : (Jvm.Cond.code ({ cls := "TraceDebuggerModel", name := "ended", desc := "()Z" } : Jvm.MethodName) prog_3_method_8_code (1 : Nat) (Option.some Jvm.ClassFile.FieldType.boolean)) ∈ lw_all := lw_g (lw_at lw_m2 2 rfl) rfl
theorem q264 : (Jvm.Cond.methodLink "TraceDebuggerModel" (73 : Nat) ({ cls := "TraceDebuggerModel", name := "step", desc := "()V" } : Jvm.MethodName)) ∈ lw_all := lw_g (lw_at lw_m2 3 rfl) rfl
theorem q265 : (Jvm.Cond.privateMethod ({ cls := "TraceDebuggerModel", name := "step", desc := "()V" } : Jvm.MethodName)) ∈ lw_tbl := lw_at lw_m2 4 rfl
theorem q266 : (Jvm.Cond.instanceMethod ({ cls := "TraceDebuggerModel", name := "step", desc := "()V" } : Jvm.MethodName)) ∈ lw_all := lw_g (lw_at lw_m2 5 rfl) rfl
theorem q267 : (Jvm.Cond.code ({ cls := "TraceDebuggerModel", name := "step", desc := "()V" } : Jvm.MethodName) prog_3_method_10_code (4 : Nat) (Option.none : Option Jvm.ClassFile.FieldType)) ∈ lw_all := lw_g (lw_at lw_m2 6 rfl) rfl
theorem q268 : (Jvm.Cond.methodLink "TraceDebuggerModel" (66 : Nat) ({ cls := "TraceDebuggerModel", name := "setVariable", desc := "(II)V" } : Jvm.MethodName)) ∈ lw_all := lw_g (lw_at lw_m2 7 rfl) rfl
theorem q269 : (Jvm.Cond.privateMethod ({ cls := "TraceDebuggerModel", name := "setVariable", desc := "(II)V" } : Jvm.MethodName)) ∈ lw_tbl := lw_at lw_m2 8 rfl
theorem q270 : (Jvm.Cond.instanceMethod ({ cls := "TraceDebuggerModel", name := "setVariable", desc := "(II)V" } : Jvm.MethodName)) ∈ lw_all := lw_g (lw_at lw_m2 9 rfl) rfl
theorem q271 : (Jvm.Cond.code ({ cls := "TraceDebuggerModel", name := "setVariable", desc := "(II)V" } : Jvm.MethodName) prog_3_method_9_code (3 : Nat) (Option.none : Option Jvm.ClassFile.FieldType)) ∈ lw_all := lw_g (lw_at lw_m2 10 rfl) rfl
theorem q274 : (Jvm.Cond.instanceMethod ({ cls := "TraceDebuggerModel", name := "goTo", desc := "(I)I" } : Jvm.MethodName)) ∈ lw_all := lw_g (lw_at lw_m2 13 rfl) rfl
theorem q275 : (Jvm.Cond.selects "TraceDebuggerModel" ({ cls := "TraceDebuggerModel", name := "goTo", desc := "(I)I" } : Jvm.MethodName) ({ cls := "TraceDebuggerModel", name := "goTo", desc := "(I)I" } : Jvm.MethodName)) ∈ lw_all := lw_g (lw_at lw_m2 14 rfl) rfl
theorem q276 : (Jvm.Cond.code ({ cls := "TraceDebuggerModel", name := "goTo", desc := "(I)I" } : Jvm.MethodName) prog_3_method_13_code (2 : Nat) (Option.some Jvm.ClassFile.FieldType.int)) ∈ lw_all := lw_g (lw_at lw_m2 15 rfl) rfl
theorem q277 : (Jvm.Cond.methodLink "TraceDebuggerModel" (80 : Nat) ({ cls := "TraceDebuggerModel", name := "state", desc := "(I)V" } : Jvm.MethodName)) ∈ lw_all := lw_g (lw_at lw_m2 16 rfl) rfl
theorem q278 : (Jvm.Cond.privateMethod ({ cls := "TraceDebuggerModel", name := "state", desc := "(I)V" } : Jvm.MethodName)) ∈ lw_tbl := lw_at lw_m2 17 rfl
theorem q279 : (Jvm.Cond.instanceMethod ({ cls := "TraceDebuggerModel", name := "state", desc := "(I)V" } : Jvm.MethodName)) ∈ lw_all := lw_g (lw_at lw_m2 18 rfl) rfl
theorem q280 : (Jvm.Cond.code ({ cls := "TraceDebuggerModel", name := "state", desc := "(I)V" } : Jvm.MethodName) prog_3_method_11_code (3 : Nat) (Option.none : Option Jvm.ClassFile.FieldType)) ∈ lw_all := lw_g (lw_at lw_m2 19 rfl) rfl
theorem q282 : (Jvm.Cond.instanceMethod ({ cls := "TraceDebuggerModel", name := "time", desc := "()I" } : Jvm.MethodName)) ∈ lw_all := lw_g (lw_at lw_m2 21 rfl) rfl
theorem q283 : (Jvm.Cond.selects "TraceDebuggerModel" ({ cls := "TraceDebuggerModel", name := "time", desc := "()I" } : Jvm.MethodName) ({ cls := "TraceDebuggerModel", name := "time", desc := "()I" } : Jvm.MethodName)) ∈ lw_all := lw_g (lw_at lw_m2 22 rfl) rfl
theorem q284 : (Jvm.Cond.code ({ cls := "TraceDebuggerModel", name := "time", desc := "()I" } : Jvm.MethodName) prog_3_method_14_code (1 : Nat) (Option.some Jvm.ClassFile.FieldType.int)) ∈ lw_all := lw_g (lw_at lw_m2 23 rfl) rfl
theorem q286 : (Jvm.Cond.instanceMethod ({ cls := "TraceDebuggerModel", name := "variable", desc := "(I)I" } : Jvm.MethodName)) ∈ lw_all := lw_g (lw_at lw_m2 25 rfl) rfl
theorem q287 : (Jvm.Cond.selects "TraceDebuggerModel" ({ cls := "TraceDebuggerModel", name := "variable", desc := "(I)I" } : Jvm.MethodName) ({ cls := "TraceDebuggerModel", name := "variable", desc := "(I)I" } : Jvm.MethodName)) ∈ lw_all := lw_g (lw_at lw_m2 26 rfl) rfl
theorem q288 : (Jvm.Cond.code ({ cls := "TraceDebuggerModel", name := "variable", desc := "(I)I" } : Jvm.MethodName) prog_3_method_15_code (2 : Nat) (Option.some Jvm.ClassFile.FieldType.int)) ∈ lw_all := lw_g (lw_at lw_m2 27 rfl) rfl
theorem q290 : (Jvm.Cond.instanceMethod ({ cls := "TraceDebuggerModel", name := "cell", desc := "(I)I" } : Jvm.MethodName)) ∈ lw_all := lw_g (lw_at lw_m2 29 rfl) rfl
theorem q291 : (Jvm.Cond.selects "TraceDebuggerModel" ({ cls := "TraceDebuggerModel", name := "cell", desc := "(I)I" } : Jvm.MethodName) ({ cls := "TraceDebuggerModel", name := "cell", desc := "(I)I" } : Jvm.MethodName)) ∈ lw_all := lw_g (lw_at lw_m2 30 rfl) rfl
theorem q292 : (Jvm.Cond.code ({ cls := "TraceDebuggerModel", name := "cell", desc := "(I)I" } : Jvm.MethodName) prog_3_method_16_code (2 : Nat) (Option.some Jvm.ClassFile.FieldType.int)) ∈ lw_all := lw_g (lw_at lw_m2 31 rfl) rfl
theorem q294 : (Jvm.Cond.instanceMethod ({ cls := "TraceDebuggerModel", name := "lastWrite", desc := "(II)I" } : Jvm.MethodName)) ∈ lw_all := lw_g (lw_at lw_m2 33 rfl) rfl
theorem q295 : (Jvm.Cond.selects "TraceDebuggerModel" ({ cls := "TraceDebuggerModel", name := "lastWrite", desc := "(II)I" } : Jvm.MethodName) ({ cls := "TraceDebuggerModel", name := "lastWrite", desc := "(II)I" } : Jvm.MethodName)) ∈ lw_all := lw_g (lw_at lw_m2 34 rfl) rfl
theorem q296 : (Jvm.Cond.code ({ cls := "TraceDebuggerModel", name := "lastWrite", desc := "(II)I" } : Jvm.MethodName) prog_3_method_17_code (5 : Nat) (Option.some Jvm.ClassFile.FieldType.int)) ∈ lw_all := lw_g (lw_at lw_m2 35 rfl) rfl
theorem q298 : (Jvm.Cond.instanceMethod ({ cls := "TraceDebuggerModel", name := "runTo", desc := "(I)I" } : Jvm.MethodName)) ∈ lw_all := lw_g (lw_at lw_m2 37 rfl) rfl
theorem q299 : (Jvm.Cond.selects "TraceDebuggerModel" ({ cls := "TraceDebuggerModel", name := "runTo", desc := "(I)I" } : Jvm.MethodName) ({ cls := "TraceDebuggerModel", name := "runTo", desc := "(I)I" } : Jvm.MethodName)) ∈ lw_all := lw_g (lw_at lw_m2 38 rfl) rfl
theorem q300 : (Jvm.Cond.code ({ cls := "TraceDebuggerModel", name := "runTo", desc := "(I)I" } : Jvm.MethodName) prog_3_method_18_code (4 : Nat) (Option.some Jvm.ClassFile.FieldType.int)) ∈ lw_all := lw_g (lw_at lw_m2 39 rfl) rfl
theorem q302 : (Jvm.Cond.instanceMethod ({ cls := "TraceDebuggerModel", name := "backTo", desc := "(I)I" } : Jvm.MethodName)) ∈ lw_all := lw_g (lw_at lw_m2 41 rfl) rfl
theorem q303 : (Jvm.Cond.selects "TraceDebuggerModel" ({ cls := "TraceDebuggerModel", name := "backTo", desc := "(I)I" } : Jvm.MethodName) ({ cls := "TraceDebuggerModel", name := "backTo", desc := "(I)I" } : Jvm.MethodName)) ∈ lw_all := lw_g (lw_at lw_m2 42 rfl) rfl
theorem q304 : (Jvm.Cond.code ({ cls := "TraceDebuggerModel", name := "backTo", desc := "(I)I" } : Jvm.MethodName) prog_3_method_19_code (3 : Nat) (Option.some Jvm.ClassFile.FieldType.int)) ∈ lw_all := lw_g (lw_at lw_m2 43 rfl) rfl
theorem q306 : (Jvm.Cond.instanceMethod ({ cls := "TraceDebuggerModel", name := "backBeforeWrite", desc := "(I)I" } : Jvm.MethodName)) ∈ lw_all := lw_g (lw_at lw_m2 45 rfl) rfl
theorem q307 : (Jvm.Cond.selects "TraceDebuggerModel" ({ cls := "TraceDebuggerModel", name := "backBeforeWrite", desc := "(I)I" } : Jvm.MethodName) ({ cls := "TraceDebuggerModel", name := "backBeforeWrite", desc := "(I)I" } : Jvm.MethodName)) ∈ lw_all := lw_g (lw_at lw_m2 46 rfl) rfl
theorem q308 : (Jvm.Cond.code ({ cls := "TraceDebuggerModel", name := "backBeforeWrite", desc := "(I)I" } : Jvm.MethodName) prog_3_method_20_code (3 : Nat) (Option.some Jvm.ClassFile.FieldType.int)) ∈ lw_all := lw_g (lw_at lw_m2 47 rfl) rfl
theorem q309 : (Jvm.Cond.methodLink "TraceDebuggerModel" (84 : Nat) ({ cls := "TraceDebuggerModel", name := "lastWrite", desc := "(II)I" } : Jvm.MethodName)) ∈ lw_all := lw_g (lw_at lw_m2 48 rfl) rfl
theorem in_X1 : ∀ w ∈ wsX10, w ∈ lw_all := lw_in wsX10 [205, 207, 209, 211, 213, 215, 217, 219, 221, 223, 225, 227, 229] (by decide +kernel) (by decide +kernel)

/-! the law's own entry -/
set_option maxRecDepth 100000
abbrev cL_law : ByteArray := code

/-! java/lang/Object -/
set_option maxRecDepth 100000
def RJ0 : String := "java/lang/Object"
abbrev cJ0_init : ByteArray := object_method_1_code
def yJ0_init : MethodName := ⟨RJ0, "<init>", "()V"⟩
theorem q30 : (Jvm.Cond.instanceMethod ({ cls := "java/lang/Object", name := "<init>", desc := "()V" } : Jvm.MethodName)) ∈ lw_all := lw_g (lw_at lw_m1 9 rfl) rfl
theorem q31 : (Jvm.Cond.code ({ cls := "java/lang/Object", name := "<init>", desc := "()V" } : Jvm.MethodName) object_method_1_code (1 : Nat) (Option.none : Option Jvm.ClassFile.FieldType)) ∈ lw_all := lw_g (lw_at lw_m1 10 rfl) rfl

theorem dJ0_init_0 : decode cJ0_init 0 = .ok (.return_, 1) := by decide +kernel
theorem q21 : (Jvm.Cond.initialized "TraceDebuggerLaw") ∈ lw_all := lw_g (lw_at lw_m1 0 rfl) rfl
set_option maxRecDepth 100000
theorem q24 : (Jvm.Cond.classLink "TraceDebuggerLaw" (7 : Nat) "TraceDebugger") ∈ lw_all := lw_g (lw_at lw_m1 3 rfl) rfl
theorem q26 : (Jvm.Cond.methodLink "TraceDebuggerLaw" (9 : Nat) ({ cls := "TraceDebugger", name := "<init>", desc := "()V" } : Jvm.MethodName)) ∈ lw_all := lw_g (lw_at lw_m1 5 rfl) rfl
theorem q130 : (Jvm.Cond.methodLink "TraceDebuggerLaw" (13 : Nat) ({ cls := "TraceDebugger", name := "emit", desc := "(IIII)I" } : Jvm.MethodName)) ∈ lw_all := lw_g (lw_at lw_m1 109 rfl) rfl
theorem q142 : (Jvm.Cond.methodLink "TraceDebuggerLaw" (18 : Nat) ({ cls := "TraceDebugger", name := "input", desc := "(I)I" } : Jvm.MethodName)) ∈ lw_all := lw_g (lw_at lw_m1 121 rfl) rfl
theorem q146 : (Jvm.Cond.methodLink "TraceDebuggerLaw" (23 : Nat) ({ cls := "TraceDebugger", name := "steps", desc := "()I" } : Jvm.MethodName)) ∈ lw_all := lw_g (lw_at lw_m1 125 rfl) rfl
theorem q150 : (Jvm.Cond.methodLink "TraceDebuggerLaw" (28 : Nat) ({ cls := "TraceDebugger", name := "goTo", desc := "(I)I" } : Jvm.MethodName)) ∈ lw_all := lw_g (lw_at lw_m1 129 rfl) rfl
theorem q154 : (Jvm.Cond.methodLink "TraceDebuggerLaw" (32 : Nat) ({ cls := "TraceDebugger", name := "time", desc := "()I" } : Jvm.MethodName)) ∈ lw_all := lw_g (lw_at lw_m1 133 rfl) rfl
theorem q158 : (Jvm.Cond.methodLink "TraceDebuggerLaw" (36 : Nat) ({ cls := "TraceDebugger", name := "variable", desc := "(I)I" } : Jvm.MethodName)) ∈ lw_all := lw_g (lw_at lw_m1 137 rfl) rfl
theorem q162 : (Jvm.Cond.methodLink "TraceDebuggerLaw" (40 : Nat) ({ cls := "TraceDebugger", name := "cell", desc := "(I)I" } : Jvm.MethodName)) ∈ lw_all := lw_g (lw_at lw_m1 141 rfl) rfl
theorem q166 : (Jvm.Cond.methodLink "TraceDebuggerLaw" (44 : Nat) ({ cls := "TraceDebugger", name := "lastWrite", desc := "(II)I" } : Jvm.MethodName)) ∈ lw_all := lw_g (lw_at lw_m1 145 rfl) rfl
theorem q174 : (Jvm.Cond.methodLink "TraceDebuggerLaw" (49 : Nat) ({ cls := "TraceDebugger", name := "runTo", desc := "(I)I" } : Jvm.MethodName)) ∈ lw_all := lw_g (lw_at lw_m1 153 rfl) rfl
theorem q178 : (Jvm.Cond.methodLink "TraceDebuggerLaw" (53 : Nat) ({ cls := "TraceDebugger", name := "backTo", desc := "(I)I" } : Jvm.MethodName)) ∈ lw_all := lw_g (lw_at lw_m1 157 rfl) rfl
theorem q182 : (Jvm.Cond.methodLink "TraceDebuggerLaw" (57 : Nat) ({ cls := "TraceDebugger", name := "backBeforeWrite", desc := "(I)I" } : Jvm.MethodName)) ∈ lw_all := lw_g (lw_at lw_m1 161 rfl) rfl
theorem q186 : (Jvm.Cond.classLink "TraceDebuggerLaw" (10 : Nat) "TraceDebuggerModel") ∈ lw_all := lw_g (lw_at lw_m1 165 rfl) rfl
theorem q188 : (Jvm.Cond.methodLink "TraceDebuggerLaw" (12 : Nat) ({ cls := "TraceDebuggerModel", name := "<init>", desc := "()V" } : Jvm.MethodName)) ∈ lw_all := lw_g (lw_at lw_m1 167 rfl) rfl
theorem q232 : (Jvm.Cond.methodLink "TraceDebuggerLaw" (17 : Nat) ({ cls := "TraceDebuggerModel", name := "emit", desc := "(IIII)I" } : Jvm.MethodName)) ∈ lw_all := lw_g (lw_at lw_m1 211 rfl) rfl
theorem q248 : (Jvm.Cond.methodLink "TraceDebuggerLaw" (22 : Nat) ({ cls := "TraceDebuggerModel", name := "input", desc := "(I)I" } : Jvm.MethodName)) ∈ lw_all := lw_g (lw_at lw_m1 227 rfl) rfl
theorem q272 : (Jvm.Cond.methodLink "TraceDebuggerLaw" (27 : Nat) ({ cls := "TraceDebuggerModel", name := "steps", desc := "()I" } : Jvm.MethodName)) ∈ lw_all := lw_g (lw_at lw_m2 11 rfl) rfl
theorem q273 : (Jvm.Cond.methodLink "TraceDebuggerLaw" (31 : Nat) ({ cls := "TraceDebuggerModel", name := "goTo", desc := "(I)I" } : Jvm.MethodName)) ∈ lw_all := lw_g (lw_at lw_m2 12 rfl) rfl
theorem q281 : (Jvm.Cond.methodLink "TraceDebuggerLaw" (35 : Nat) ({ cls := "TraceDebuggerModel", name := "time", desc := "()I" } : Jvm.MethodName)) ∈ lw_all := lw_g (lw_at lw_m2 20 rfl) rfl
theorem q285 : (Jvm.Cond.methodLink "TraceDebuggerLaw" (39 : Nat) ({ cls := "TraceDebuggerModel", name := "variable", desc := "(I)I" } : Jvm.MethodName)) ∈ lw_all := lw_g (lw_at lw_m2 24 rfl) rfl
theorem q289 : (Jvm.Cond.methodLink "TraceDebuggerLaw" (43 : Nat) ({ cls := "TraceDebuggerModel", name := "cell", desc := "(I)I" } : Jvm.MethodName)) ∈ lw_all := lw_g (lw_at lw_m2 28 rfl) rfl
theorem q293 : (Jvm.Cond.methodLink "TraceDebuggerLaw" (48 : Nat) ({ cls := "TraceDebuggerModel", name := "lastWrite", desc := "(II)I" } : Jvm.MethodName)) ∈ lw_all := lw_g (lw_at lw_m2 32 rfl) rfl
theorem q297 : (Jvm.Cond.methodLink "TraceDebuggerLaw" (52 : Nat) ({ cls := "TraceDebuggerModel", name := "runTo", desc := "(I)I" } : Jvm.MethodName)) ∈ lw_all := lw_g (lw_at lw_m2 36 rfl) rfl
theorem q301 : (Jvm.Cond.methodLink "TraceDebuggerLaw" (56 : Nat) ({ cls := "TraceDebuggerModel", name := "backTo", desc := "(I)I" } : Jvm.MethodName)) ∈ lw_all := lw_g (lw_at lw_m2 40 rfl) rfl
theorem q305 : (Jvm.Cond.methodLink "TraceDebuggerLaw" (60 : Nat) ({ cls := "TraceDebuggerModel", name := "backBeforeWrite", desc := "(I)I" } : Jvm.MethodName)) ∈ lw_all := lw_g (lw_at lw_m2 44 rfl) rfl

theorem q127 : (Jvm.Cond.arrayClass Jvm.ClassFile.FieldType.byte) ∈ lw_all := lw_g (lw_at lw_m1 106 rfl) rfl
set_option maxRecDepth 100000
theorem q128 : (Jvm.Cond.arrayClass Jvm.ClassFile.FieldType.int) ∈ lw_all := lw_g (lw_at lw_m1 107 rfl) rfl
theorem q129 : (Jvm.Cond.arrayClass Jvm.ClassFile.FieldType.short) ∈ lw_all := lw_g (lw_at lw_m1 108 rfl) rfl
end
section
set_option maxRecDepth 100000
theorem dX0_init_0 : decode cX0_init 0 = .ok (.aload_n 0, 1) := by decide +kernel
theorem dX0_init_1 : decode cX0_init 1 = .ok (.invokespecial 1, 3) := by decide +kernel
theorem dX0_init_4 : decode cX0_init 4 = .ok (.aload_n 0, 1) := by decide +kernel
theorem dX0_init_5 : decode cX0_init 5 = .ok (.bipush 20, 2) := by decide +kernel
theorem dX0_init_7 : decode cX0_init 7 = .ok (.newarray .byte, 2) := by decide +kernel
theorem dX0_init_9 : decode cX0_init 9 = .ok (.putfield 7, 3) := by decide +kernel
theorem dX0_init_12 : decode cX0_init 12 = .ok (.aload_n 0, 1) := by decide +kernel
theorem dX0_init_13 : decode cX0_init 13 = .ok (.bipush 20, 2) := by decide +kernel
theorem dX0_init_15 : decode cX0_init 15 = .ok (.newarray .int, 2) := by decide +kernel
theorem dX0_init_17 : decode cX0_init 17 = .ok (.putfield 13, 3) := by decide +kernel
theorem dX0_init_20 : decode cX0_init 20 = .ok (.aload_n 0, 1) := by decide +kernel
theorem dX0_init_21 : decode cX0_init 21 = .ok (.bipush 20, 2) := by decide +kernel
theorem dX0_init_23 : decode cX0_init 23 = .ok (.newarray .int, 2) := by decide +kernel
theorem dX0_init_25 : decode cX0_init 25 = .ok (.putfield 17, 3) := by decide +kernel
theorem dX0_init_28 : decode cX0_init 28 = .ok (.aload_n 0, 1) := by decide +kernel
theorem dX0_init_29 : decode cX0_init 29 = .ok (.bipush 20, 2) := by decide +kernel
theorem dX0_init_31 : decode cX0_init 31 = .ok (.newarray .int, 2) := by decide +kernel
theorem dX0_init_33 : decode cX0_init 33 = .ok (.putfield 20, 3) := by decide +kernel
theorem dX0_init_36 : decode cX0_init 36 = .ok (.aload_n 0, 1) := by decide +kernel
theorem dX0_init_37 : decode cX0_init 37 = .ok (.bipush 14, 2) := by decide +kernel
theorem dX0_init_39 : decode cX0_init 39 = .ok (.newarray .int, 2) := by decide +kernel
theorem dX0_init_41 : decode cX0_init 41 = .ok (.putfield 23, 3) := by decide +kernel
theorem dX0_init_44 : decode cX0_init 44 = .ok (.aload_n 0, 1) := by decide +kernel
theorem dX0_init_45 : decode cX0_init 45 = .ok (.sipush 201, 3) := by decide +kernel
theorem dX0_init_48 : decode cX0_init 48 = .ok (.newarray .byte, 2) := by decide +kernel
theorem dX0_init_50 : decode cX0_init 50 = .ok (.putfield 26, 3) := by decide +kernel
theorem dX0_init_53 : decode cX0_init 53 = .ok (.aload_n 0, 1) := by decide +kernel
theorem dX0_init_54 : decode cX0_init 54 = .ok (.sipush 201, 3) := by decide +kernel
theorem dX0_init_57 : decode cX0_init 57 = .ok (.newarray .int, 2) := by decide +kernel
theorem dX0_init_59 : decode cX0_init 59 = .ok (.putfield 29, 3) := by decide +kernel
theorem dX0_init_62 : decode cX0_init 62 = .ok (.aload_n 0, 1) := by decide +kernel
theorem dX0_init_63 : decode cX0_init 63 = .ok (.sipush 201, 3) := by decide +kernel
theorem dX0_init_66 : decode cX0_init 66 = .ok (.newarray .int, 2) := by decide +kernel
theorem dX0_init_68 : decode cX0_init 68 = .ok (.putfield 32, 3) := by decide +kernel
theorem dX0_init_71 : decode cX0_init 71 = .ok (.aload_n 0, 1) := by decide +kernel
theorem dX0_init_72 : decode cX0_init 72 = .ok (.sipush 201, 3) := by decide +kernel
theorem dX0_init_75 : decode cX0_init 75 = .ok (.newarray .short, 2) := by decide +kernel
theorem dX0_init_77 : decode cX0_init 77 = .ok (.putfield 35, 3) := by decide +kernel
theorem dX0_init_80 : decode cX0_init 80 = .ok (.aload_n 0, 1) := by decide +kernel
theorem dX0_init_81 : decode cX0_init 81 = .ok (.sipush 201, 3) := by decide +kernel
theorem dX0_init_84 : decode cX0_init 84 = .ok (.newarray .byte, 2) := by decide +kernel
theorem dX0_init_86 : decode cX0_init 86 = .ok (.putfield 39, 3) := by decide +kernel
theorem dX0_init_89 : decode cX0_init 89 = .ok (.aload_n 0, 1) := by decide +kernel
theorem dX0_init_90 : decode cX0_init 90 = .ok (.sipush 201, 3) := by decide +kernel
theorem dX0_init_93 : decode cX0_init 93 = .ok (.newarray .short, 2) := by decide +kernel
theorem dX0_init_95 : decode cX0_init 95 = .ok (.putfield 42, 3) := by decide +kernel
theorem dX0_init_98 : decode cX0_init 98 = .ok (.aload_n 0, 1) := by decide +kernel
theorem dX0_init_99 : decode cX0_init 99 = .ok (.bipush 14, 2) := by decide +kernel
theorem dX0_init_101 : decode cX0_init 101 = .ok (.newarray .short, 2) := by decide +kernel
theorem dX0_init_103 : decode cX0_init 103 = .ok (.putfield 45, 3) := by decide +kernel
theorem dX0_init_106 : decode cX0_init 106 = .ok (.aload_n 0, 1) := by decide +kernel
theorem dX0_init_107 : decode cX0_init 107 = .ok (.bipush 21, 2) := by decide +kernel
theorem dX0_init_109 : decode cX0_init 109 = .ok (.newarray .short, 2) := by decide +kernel
theorem dX0_init_111 : decode cX0_init 111 = .ok (.putfield 48, 3) := by decide +kernel
theorem dX0_init_114 : decode cX0_init 114 = .ok (.aload_n 0, 1) := by decide +kernel
theorem dX0_init_115 : decode cX0_init 115 = .ok (.bipush 70, 2) := by decide +kernel
theorem dX0_init_117 : decode cX0_init 117 = .ok (.newarray .int, 2) := by decide +kernel
theorem dX0_init_119 : decode cX0_init 119 = .ok (.putfield 51, 3) := by decide +kernel
theorem dX0_init_122 : decode cX0_init 122 = .ok (.aload_n 0, 1) := by decide +kernel
theorem dX0_init_123 : decode cX0_init 123 = .ok (.invokevirtual 54, 3) := by decide +kernel
theorem dX0_init_126 : decode cX0_init 126 = .ok (.return_, 1) := by decide +kernel
theorem dX0_execute_0 : decode cX0_execute 0 = .ok (.iconst 0, 1) := by decide +kernel
theorem dX0_execute_1 : decode cX0_execute 1 = .ok (.istore_n 1, 1) := by decide +kernel
theorem dX0_execute_2 : decode cX0_execute 2 = .ok (.iload_n 1, 1) := by decide +kernel
theorem dX0_execute_3 : decode cX0_execute 3 = .ok (.bipush 14, 2) := by decide +kernel
theorem dX0_execute_5 : decode cX0_execute 5 = .ok (.if_icmp .ge 23, 3) := by decide +kernel
theorem dX0_execute_8 : decode cX0_execute 8 = .ok (.aload_n 0, 1) := by decide +kernel
theorem dX0_execute_9 : decode cX0_execute 9 = .ok (.getfield 23, 3) := by decide +kernel
theorem dX0_execute_12 : decode cX0_execute 12 = .ok (.iload_n 1, 1) := by decide +kernel
theorem dX0_execute_13 : decode cX0_execute 13 = .ok (.iconst 0, 1) := by decide +kernel
theorem dX0_execute_14 : decode cX0_execute 14 = .ok (.iastore, 1) := by decide +kernel
theorem dX0_execute_15 : decode cX0_execute 15 = .ok (.aload_n 0, 1) := by decide +kernel
theorem dX0_execute_16 : decode cX0_execute 16 = .ok (.getfield 45, 3) := by decide +kernel
theorem dX0_execute_19 : decode cX0_execute 19 = .ok (.iload_n 1, 1) := by decide +kernel
theorem dX0_execute_20 : decode cX0_execute 20 = .ok (.iconst 0, 1) := by decide +kernel
theorem dX0_execute_21 : decode cX0_execute 21 = .ok (.sastore, 1) := by decide +kernel
theorem dX0_execute_22 : decode cX0_execute 22 = .ok (.iinc 1 1, 3) := by decide +kernel
theorem dX0_execute_25 : decode cX0_execute 25 = .ok (.goto (-23), 3) := by decide +kernel
theorem dX0_execute_28 : decode cX0_execute 28 = .ok (.iconst 0, 1) := by decide +kernel
theorem dX0_execute_29 : decode cX0_execute 29 = .ok (.istore_n 1, 1) := by decide +kernel
theorem dX0_execute_30 : decode cX0_execute 30 = .ok (.iload_n 1, 1) := by decide +kernel
theorem dX0_execute_31 : decode cX0_execute 31 = .ok (.bipush 21, 2) := by decide +kernel
theorem dX0_execute_33 : decode cX0_execute 33 = .ok (.if_icmp .ge 16, 3) := by decide +kernel
theorem dX0_execute_36 : decode cX0_execute 36 = .ok (.aload_n 0, 1) := by decide +kernel
theorem dX0_execute_37 : decode cX0_execute 37 = .ok (.getfield 48, 3) := by decide +kernel
theorem dX0_execute_40 : decode cX0_execute 40 = .ok (.iload_n 1, 1) := by decide +kernel
theorem dX0_execute_41 : decode cX0_execute 41 = .ok (.iconst (-1), 1) := by decide +kernel
theorem dX0_execute_42 : decode cX0_execute 42 = .ok (.sastore, 1) := by decide +kernel
theorem dX0_execute_43 : decode cX0_execute 43 = .ok (.iinc 1 1, 3) := by decide +kernel
theorem dX0_execute_46 : decode cX0_execute 46 = .ok (.goto (-16), 3) := by decide +kernel
theorem dX0_execute_49 : decode cX0_execute 49 = .ok (.aload_n 0, 1) := by decide +kernel
theorem dX0_execute_50 : decode cX0_execute 50 = .ok (.getfield 23, 3) := by decide +kernel
theorem dX0_execute_53 : decode cX0_execute 53 = .ok (.iconst 5, 1) := by decide +kernel
theorem dX0_execute_54 : decode cX0_execute 54 = .ok (.aload_n 0, 1) := by decide +kernel
theorem dX0_execute_55 : decode cX0_execute 55 = .ok (.getfield 69, 3) := by decide +kernel
theorem dX0_execute_58 : decode cX0_execute 58 = .ok (.iastore, 1) := by decide +kernel
theorem dX0_execute_59 : decode cX0_execute 59 = .ok (.aload_n 0, 1) := by decide +kernel
theorem dX0_execute_60 : decode cX0_execute 60 = .ok (.iconst 0, 1) := by decide +kernel
theorem dX0_execute_61 : decode cX0_execute 61 = .ok (.putfield 72, 3) := by decide +kernel
theorem dX0_execute_64 : decode cX0_execute 64 = .ok (.aload_n 0, 1) := by decide +kernel
theorem dX0_execute_65 : decode cX0_execute 65 = .ok (.iconst 0, 1) := by decide +kernel
theorem dX0_execute_66 : decode cX0_execute 66 = .ok (.putfield 79, 3) := by decide +kernel
theorem dX0_execute_69 : decode cX0_execute 69 = .ok (.aload_n 0, 1) := by decide +kernel
theorem dX0_execute_70 : decode cX0_execute 70 = .ok (.iconst 0, 1) := by decide +kernel
theorem dX0_execute_71 : decode cX0_execute 71 = .ok (.iconst 0, 1) := by decide +kernel
theorem dX0_execute_72 : decode cX0_execute 72 = .ok (.invokevirtual 99, 3) := by decide +kernel
theorem dX0_execute_75 : decode cX0_execute 75 = .ok (.iconst 0, 1) := by decide +kernel
theorem dX0_execute_76 : decode cX0_execute 76 = .ok (.istore_n 1, 1) := by decide +kernel
theorem dX0_execute_77 : decode cX0_execute 77 = .ok (.iconst 1, 1) := by decide +kernel
theorem dX0_execute_78 : decode cX0_execute 78 = .ok (.istore_n 2, 1) := by decide +kernel
theorem dX0_execute_79 : decode cX0_execute 79 = .ok (.iload_n 2, 1) := by decide +kernel
theorem dX0_execute_80 : decode cX0_execute 80 = .ok (.ifCond .eq 76, 3) := by decide +kernel
theorem dX0_execute_83 : decode cX0_execute 83 = .ok (.iload_n 1, 1) := by decide +kernel
theorem dX0_execute_84 : decode cX0_execute 84 = .ok (.aload_n 0, 1) := by decide +kernel
theorem dX0_execute_85 : decode cX0_execute 85 = .ok (.getfield 57, 3) := by decide +kernel
theorem dX0_execute_88 : decode cX0_execute 88 = .ok (.if_icmp .ge 68, 3) := by decide +kernel
theorem dX0_execute_91 : decode cX0_execute 91 = .ok (.aload_n 0, 1) := by decide +kernel
theorem dX0_execute_92 : decode cX0_execute 92 = .ok (.getfield 72, 3) := by decide +kernel
theorem dX0_execute_95 : decode cX0_execute 95 = .ok (.sipush 200, 3) := by decide +kernel
theorem dX0_execute_98 : decode cX0_execute 98 = .ok (.if_icmp .ge 58, 3) := by decide +kernel
theorem dX0_execute_101 : decode cX0_execute 101 = .ok (.aload_n 0, 1) := by decide +kernel
theorem dX0_execute_102 : decode cX0_execute 102 = .ok (.dup, 1) := by decide +kernel
theorem dX0_execute_103 : decode cX0_execute 103 = .ok (.getfield 72, 3) := by decide +kernel
theorem dX0_execute_106 : decode cX0_execute 106 = .ok (.iconst 1, 1) := by decide +kernel
theorem dX0_execute_107 : decode cX0_execute 107 = .ok (.iadd, 1) := by decide +kernel
theorem dX0_execute_108 : decode cX0_execute 108 = .ok (.putfield 72, 3) := by decide +kernel
theorem dX0_execute_111 : decode cX0_execute 111 = .ok (.aload_n 0, 1) := by decide +kernel
theorem dX0_execute_112 : decode cX0_execute 112 = .ok (.getfield 26, 3) := by decide +kernel
theorem dX0_execute_115 : decode cX0_execute 115 = .ok (.aload_n 0, 1) := by decide +kernel
theorem dX0_execute_116 : decode cX0_execute 116 = .ok (.getfield 72, 3) := by decide +kernel
theorem dX0_execute_119 : decode cX0_execute 119 = .ok (.iconst (-1), 1) := by decide +kernel
theorem dX0_execute_120 : decode cX0_execute 120 = .ok (.bastore, 1) := by decide +kernel
theorem dX0_execute_121 : decode cX0_execute 121 = .ok (.aload_n 0, 1) := by decide +kernel
theorem dX0_execute_122 : decode cX0_execute 122 = .ok (.getfield 7, 3) := by decide +kernel
theorem dX0_execute_125 : decode cX0_execute 125 = .ok (.iload_n 1, 1) := by decide +kernel
theorem dX0_execute_126 : decode cX0_execute 126 = .ok (.baload, 1) := by decide +kernel
theorem dX0_execute_127 : decode cX0_execute 127 = .ok (.bipush 8, 2) := by decide +kernel
theorem dX0_execute_129 : decode cX0_execute 129 = .ok (.if_icmp .eq 7, 3) := by decide +kernel
theorem dX0_execute_132 : decode cX0_execute 132 = .ok (.iconst 1, 1) := by decide +kernel
theorem dX0_execute_133 : decode cX0_execute 133 = .ok (.goto 4, 3) := by decide +kernel
theorem dX0_execute_136 : decode cX0_execute 136 = .ok (.iconst 0, 1) := by decide +kernel
theorem dX0_execute_137 : decode cX0_execute 137 = .ok (.istore_n 2, 1) := by decide +kernel
theorem dX0_execute_138 : decode cX0_execute 138 = .ok (.aload_n 0, 1) := by decide +kernel
theorem dX0_execute_139 : decode cX0_execute 139 = .ok (.iload_n 1, 1) := by decide +kernel
theorem dX0_execute_140 : decode cX0_execute 140 = .ok (.invokevirtual 103, 3) := by decide +kernel
theorem dX0_execute_143 : decode cX0_execute 143 = .ok (.istore_n 1, 1) := by decide +kernel
theorem dX0_execute_144 : decode cX0_execute 144 = .ok (.aload_n 0, 1) := by decide +kernel
theorem dX0_execute_145 : decode cX0_execute 145 = .ok (.aload_n 0, 1) := by decide +kernel
theorem dX0_execute_146 : decode cX0_execute 146 = .ok (.getfield 72, 3) := by decide +kernel
theorem dX0_execute_149 : decode cX0_execute 149 = .ok (.iload_n 1, 1) := by decide +kernel
theorem dX0_execute_150 : decode cX0_execute 150 = .ok (.invokevirtual 99, 3) := by decide +kernel
theorem dX0_execute_153 : decode cX0_execute 153 = .ok (.goto (-74), 3) := by decide +kernel
theorem dX0_execute_156 : decode cX0_execute 156 = .ok (.aload_n 0, 1) := by decide +kernel
theorem dX0_execute_157 : decode cX0_execute 157 = .ok (.aload_n 0, 1) := by decide +kernel
theorem dX0_execute_158 : decode cX0_execute 158 = .ok (.getfield 72, 3) := by decide +kernel
theorem dX0_execute_161 : decode cX0_execute 161 = .ok (.putfield 79, 3) := by decide +kernel
theorem dX0_execute_164 : decode cX0_execute 164 = .ok (.aload_n 0, 1) := by decide +kernel
theorem dX0_execute_165 : decode cX0_execute 165 = .ok (.iconst 0, 1) := by decide +kernel
theorem dX0_execute_166 : decode cX0_execute 166 = .ok (.invokevirtual 75, 3) := by decide +kernel
theorem dX0_execute_169 : decode cX0_execute 169 = .ok (.return_, 1) := by decide +kernel
theorem dX0_noteTime_0 : decode cX0_noteTime 0 = .ok (.aload_n 0, 1) := by decide +kernel
theorem dX0_noteTime_1 : decode cX0_noteTime 1 = .ok (.getfield 39, 3) := by decide +kernel
theorem dX0_noteTime_4 : decode cX0_noteTime 4 = .ok (.iload_n 1, 1) := by decide +kernel
theorem dX0_noteTime_5 : decode cX0_noteTime 5 = .ok (.iload_n 2, 1) := by decide +kernel
theorem dX0_noteTime_6 : decode cX0_noteTime 6 = .ok (.i2b, 1) := by decide +kernel
theorem dX0_noteTime_7 : decode cX0_noteTime 7 = .ok (.bastore, 1) := by decide +kernel
theorem dX0_noteTime_8 : decode cX0_noteTime 8 = .ok (.aload_n 0, 1) := by decide +kernel
theorem dX0_noteTime_9 : decode cX0_noteTime 9 = .ok (.getfield 42, 3) := by decide +kernel
theorem dX0_noteTime_12 : decode cX0_noteTime 12 = .ok (.iload_n 1, 1) := by decide +kernel
theorem dX0_noteTime_13 : decode cX0_noteTime 13 = .ok (.aload_n 0, 1) := by decide +kernel
theorem dX0_noteTime_14 : decode cX0_noteTime 14 = .ok (.getfield 48, 3) := by decide +kernel
theorem dX0_noteTime_17 : decode cX0_noteTime 17 = .ok (.iload_n 2, 1) := by decide +kernel
theorem dX0_noteTime_18 : decode cX0_noteTime 18 = .ok (.saload, 1) := by decide +kernel
theorem dX0_noteTime_19 : decode cX0_noteTime 19 = .ok (.sastore, 1) := by decide +kernel
theorem dX0_noteTime_20 : decode cX0_noteTime 20 = .ok (.aload_n 0, 1) := by decide +kernel
theorem dX0_noteTime_21 : decode cX0_noteTime 21 = .ok (.getfield 48, 3) := by decide +kernel
theorem dX0_noteTime_24 : decode cX0_noteTime 24 = .ok (.iload_n 2, 1) := by decide +kernel
theorem dX0_noteTime_25 : decode cX0_noteTime 25 = .ok (.iload_n 1, 1) := by decide +kernel
theorem dX0_noteTime_26 : decode cX0_noteTime 26 = .ok (.i2s, 1) := by decide +kernel
theorem dX0_noteTime_27 : decode cX0_noteTime 27 = .ok (.sastore, 1) := by decide +kernel
theorem dX0_noteTime_28 : decode cX0_noteTime 28 = .ok (.iload_n 1, 1) := by decide +kernel
theorem dX0_noteTime_29 : decode cX0_noteTime 29 = .ok (.bipush 50, 2) := by decide +kernel
theorem dX0_noteTime_31 : decode cX0_noteTime 31 = .ok (.irem, 1) := by decide +kernel
theorem dX0_noteTime_32 : decode cX0_noteTime 32 = .ok (.ifCond .eq 4, 3) := by decide +kernel
theorem dX0_noteTime_35 : decode cX0_noteTime 35 = .ok (.return_, 1) := by decide +kernel
theorem dX0_noteTime_36 : decode cX0_noteTime 36 = .ok (.iload_n 1, 1) := by decide +kernel
theorem dX0_noteTime_37 : decode cX0_noteTime 37 = .ok (.bipush 50, 2) := by decide +kernel
theorem dX0_noteTime_39 : decode cX0_noteTime 39 = .ok (.idiv, 1) := by decide +kernel
theorem dX0_noteTime_40 : decode cX0_noteTime 40 = .ok (.istore_n 3, 1) := by decide +kernel
theorem dX0_noteTime_41 : decode cX0_noteTime 41 = .ok (.iconst 0, 1) := by decide +kernel
theorem dX0_noteTime_42 : decode cX0_noteTime 42 = .ok (.istore 4, 2) := by decide +kernel
theorem dX0_noteTime_44 : decode cX0_noteTime 44 = .ok (.iload 4, 2) := by decide +kernel
theorem dX0_noteTime_46 : decode cX0_noteTime 46 = .ok (.bipush 14, 2) := by decide +kernel
theorem dX0_noteTime_48 : decode cX0_noteTime 48 = .ok (.if_icmp .ge 28, 3) := by decide +kernel
theorem dX0_noteTime_51 : decode cX0_noteTime 51 = .ok (.aload_n 0, 1) := by decide +kernel
theorem dX0_noteTime_52 : decode cX0_noteTime 52 = .ok (.getfield 51, 3) := by decide +kernel
theorem dX0_noteTime_55 : decode cX0_noteTime 55 = .ok (.bipush 14, 2) := by decide +kernel
theorem dX0_noteTime_57 : decode cX0_noteTime 57 = .ok (.iload_n 3, 1) := by decide +kernel
theorem dX0_noteTime_58 : decode cX0_noteTime 58 = .ok (.imul, 1) := by decide +kernel
theorem dX0_noteTime_59 : decode cX0_noteTime 59 = .ok (.iload 4, 2) := by decide +kernel
theorem dX0_noteTime_61 : decode cX0_noteTime 61 = .ok (.iadd, 1) := by decide +kernel
theorem dX0_noteTime_62 : decode cX0_noteTime 62 = .ok (.aload_n 0, 1) := by decide +kernel
theorem dX0_noteTime_63 : decode cX0_noteTime 63 = .ok (.getfield 23, 3) := by decide +kernel
theorem dX0_noteTime_66 : decode cX0_noteTime 66 = .ok (.iload 4, 2) := by decide +kernel
theorem dX0_noteTime_68 : decode cX0_noteTime 68 = .ok (.iaload, 1) := by decide +kernel
theorem dX0_noteTime_69 : decode cX0_noteTime 69 = .ok (.iastore, 1) := by decide +kernel
theorem dX0_noteTime_70 : decode cX0_noteTime 70 = .ok (.iinc 4 1, 3) := by decide +kernel
theorem dX0_noteTime_73 : decode cX0_noteTime 73 = .ok (.goto (-29), 3) := by decide +kernel
theorem dX0_noteTime_76 : decode cX0_noteTime 76 = .ok (.return_, 1) := by decide +kernel
theorem dX0_perform_0 : decode cX0_perform 0 = .ok (.aload_n 0, 1) := by decide +kernel
theorem dX0_perform_1 : decode cX0_perform 1 = .ok (.getfield 7, 3) := by decide +kernel
theorem dX0_perform_4 : decode cX0_perform 4 = .ok (.iload_n 1, 1) := by decide +kernel
theorem dX0_perform_5 : decode cX0_perform 5 = .ok (.baload, 1) := by decide +kernel
theorem dX0_perform_6 : decode cX0_perform 6 = .ok (.istore_n 2, 1) := by decide +kernel
theorem dX0_perform_7 : decode cX0_perform 7 = .ok (.aload_n 0, 1) := by decide +kernel
theorem dX0_perform_8 : decode cX0_perform 8 = .ok (.getfield 13, 3) := by decide +kernel
theorem dX0_perform_11 : decode cX0_perform 11 = .ok (.iload_n 1, 1) := by decide +kernel
theorem dX0_perform_12 : decode cX0_perform 12 = .ok (.iaload, 1) := by decide +kernel
theorem dX0_perform_13 : decode cX0_perform 13 = .ok (.istore_n 3, 1) := by decide +kernel
theorem dX0_perform_14 : decode cX0_perform 14 = .ok (.aload_n 0, 1) := by decide +kernel
theorem dX0_perform_15 : decode cX0_perform 15 = .ok (.getfield 17, 3) := by decide +kernel
theorem dX0_perform_18 : decode cX0_perform 18 = .ok (.iload_n 1, 1) := by decide +kernel
theorem dX0_perform_19 : decode cX0_perform 19 = .ok (.iaload, 1) := by decide +kernel
theorem dX0_perform_20 : decode cX0_perform 20 = .ok (.istore 4, 2) := by decide +kernel
theorem dX0_perform_22 : decode cX0_perform 22 = .ok (.iload_n 2, 1) := by decide +kernel
theorem dX0_perform_23 : decode cX0_perform 23 = .ok (.bipush 8, 2) := by decide +kernel
theorem dX0_perform_25 : decode cX0_perform 25 = .ok (.if_icmp .ne 5, 3) := by decide +kernel
theorem dX0_perform_28 : decode cX0_perform 28 = .ok (.iload_n 1, 1) := by decide +kernel
theorem dX0_perform_29 : decode cX0_perform 29 = .ok (.ireturn, 1) := by decide +kernel
theorem dX0_perform_30 : decode cX0_perform 30 = .ok (.iload_n 2, 1) := by decide +kernel
theorem dX0_perform_31 : decode cX0_perform 31 = .ok (.bipush 7, 2) := by decide +kernel
theorem dX0_perform_33 : decode cX0_perform 33 = .ok (.if_icmp .ne 5, 3) := by decide +kernel
theorem dX0_perform_36 : decode cX0_perform 36 = .ok (.iload_n 3, 1) := by decide +kernel
theorem dX0_perform_37 : decode cX0_perform 37 = .ok (.ireturn, 1) := by decide +kernel
theorem dX0_perform_38 : decode cX0_perform 38 = .ok (.iload_n 2, 1) := by decide +kernel
theorem dX0_perform_39 : decode cX0_perform 39 = .ok (.bipush 6, 2) := by decide +kernel
theorem dX0_perform_41 : decode cX0_perform 41 = .ok (.if_icmp .ne 21, 3) := by decide +kernel
theorem dX0_perform_44 : decode cX0_perform 44 = .ok (.aload_n 0, 1) := by decide +kernel
theorem dX0_perform_45 : decode cX0_perform 45 = .ok (.getfield 23, 3) := by decide +kernel
theorem dX0_perform_48 : decode cX0_perform 48 = .ok (.iload_n 3, 1) := by decide +kernel
theorem dX0_perform_49 : decode cX0_perform 49 = .ok (.iaload, 1) := by decide +kernel
theorem dX0_perform_50 : decode cX0_perform 50 = .ok (.ifCond .le 8, 3) := by decide +kernel
theorem dX0_perform_53 : decode cX0_perform 53 = .ok (.iload 4, 2) := by decide +kernel
theorem dX0_perform_55 : decode cX0_perform 55 = .ok (.goto 6, 3) := by decide +kernel
theorem dX0_perform_58 : decode cX0_perform 58 = .ok (.iload_n 1, 1) := by decide +kernel
theorem dX0_perform_59 : decode cX0_perform 59 = .ok (.iconst 1, 1) := by decide +kernel
theorem dX0_perform_60 : decode cX0_perform 60 = .ok (.iadd, 1) := by decide +kernel
theorem dX0_perform_61 : decode cX0_perform 61 = .ok (.ireturn, 1) := by decide +kernel
theorem dX0_perform_62 : decode cX0_perform 62 = .ok (.iload_n 2, 1) := by decide +kernel
theorem dX0_perform_63 : decode cX0_perform 63 = .ok (.ifCond .ne 13, 3) := by decide +kernel
theorem dX0_perform_66 : decode cX0_perform 66 = .ok (.aload_n 0, 1) := by decide +kernel
theorem dX0_perform_67 : decode cX0_perform 67 = .ok (.iload_n 3, 1) := by decide +kernel
theorem dX0_perform_68 : decode cX0_perform 68 = .ok (.iload 4, 2) := by decide +kernel
theorem dX0_perform_70 : decode cX0_perform 70 = .ok (.invokevirtual 106, 3) := by decide +kernel
theorem dX0_perform_73 : decode cX0_perform 73 = .ok (.goto 89, 3) := by decide +kernel
theorem dX0_perform_76 : decode cX0_perform 76 = .ok (.iload_n 2, 1) := by decide +kernel
theorem dX0_perform_77 : decode cX0_perform 77 = .ok (.iconst 4, 1) := by decide +kernel
theorem dX0_perform_78 : decode cX0_perform 78 = .ok (.if_icmp .ne 29, 3) := by decide +kernel
theorem dX0_perform_81 : decode cX0_perform 81 = .ok (.aload_n 0, 1) := by decide +kernel
theorem dX0_perform_82 : decode cX0_perform 82 = .ok (.iload_n 3, 1) := by decide +kernel
theorem dX0_perform_83 : decode cX0_perform 83 = .ok (.aload_n 0, 1) := by decide +kernel
theorem dX0_perform_84 : decode cX0_perform 84 = .ok (.getfield 23, 3) := by decide +kernel
theorem dX0_perform_87 : decode cX0_perform 87 = .ok (.bipush 6, 2) := by decide +kernel
theorem dX0_perform_89 : decode cX0_perform 89 = .ok (.aload_n 0, 1) := by decide +kernel
theorem dX0_perform_90 : decode cX0_perform 90 = .ok (.getfield 23, 3) := by decide +kernel
theorem dX0_perform_93 : decode cX0_perform 93 = .ok (.iload 4, 2) := by decide +kernel
theorem dX0_perform_95 : decode cX0_perform 95 = .ok (.iaload, 1) := by decide +kernel
theorem dX0_perform_96 : decode cX0_perform 96 = .ok (.bipush 7, 2) := by decide +kernel
theorem dX0_perform_98 : decode cX0_perform 98 = .ok (.iand, 1) := by decide +kernel
theorem dX0_perform_99 : decode cX0_perform 99 = .ok (.iadd, 1) := by decide +kernel
theorem dX0_perform_100 : decode cX0_perform 100 = .ok (.iaload, 1) := by decide +kernel
theorem dX0_perform_101 : decode cX0_perform 101 = .ok (.invokevirtual 106, 3) := by decide +kernel
theorem dX0_perform_104 : decode cX0_perform 104 = .ok (.goto 58, 3) := by decide +kernel
theorem dX0_perform_107 : decode cX0_perform 107 = .ok (.iload_n 2, 1) := by decide +kernel
theorem dX0_perform_108 : decode cX0_perform 108 = .ok (.iconst 5, 1) := by decide +kernel
theorem dX0_perform_109 : decode cX0_perform 109 = .ok (.if_icmp .ne 29, 3) := by decide +kernel
theorem dX0_perform_112 : decode cX0_perform 112 = .ok (.aload_n 0, 1) := by decide +kernel
theorem dX0_perform_113 : decode cX0_perform 113 = .ok (.bipush 6, 2) := by decide +kernel
theorem dX0_perform_115 : decode cX0_perform 115 = .ok (.aload_n 0, 1) := by decide +kernel
theorem dX0_perform_116 : decode cX0_perform 116 = .ok (.getfield 23, 3) := by decide +kernel
theorem dX0_perform_119 : decode cX0_perform 119 = .ok (.iload 4, 2) := by decide +kernel
theorem dX0_perform_121 : decode cX0_perform 121 = .ok (.iaload, 1) := by decide +kernel
theorem dX0_perform_122 : decode cX0_perform 122 = .ok (.bipush 7, 2) := by decide +kernel
theorem dX0_perform_124 : decode cX0_perform 124 = .ok (.iand, 1) := by decide +kernel
theorem dX0_perform_125 : decode cX0_perform 125 = .ok (.iadd, 1) := by decide +kernel
theorem dX0_perform_126 : decode cX0_perform 126 = .ok (.aload_n 0, 1) := by decide +kernel
theorem dX0_perform_127 : decode cX0_perform 127 = .ok (.getfield 23, 3) := by decide +kernel
theorem dX0_perform_130 : decode cX0_perform 130 = .ok (.iload_n 3, 1) := by decide +kernel
theorem dX0_perform_131 : decode cX0_perform 131 = .ok (.iaload, 1) := by decide +kernel
theorem dX0_perform_132 : decode cX0_perform 132 = .ok (.invokevirtual 106, 3) := by decide +kernel
theorem dX0_perform_135 : decode cX0_perform 135 = .ok (.goto 27, 3) := by decide +kernel
theorem dX0_perform_138 : decode cX0_perform 138 = .ok (.aload_n 0, 1) := by decide +kernel
theorem dX0_perform_139 : decode cX0_perform 139 = .ok (.iload_n 2, 1) := by decide +kernel
theorem dX0_perform_140 : decode cX0_perform 140 = .ok (.iload_n 3, 1) := by decide +kernel
theorem dX0_perform_141 : decode cX0_perform 141 = .ok (.aload_n 0, 1) := by decide +kernel
theorem dX0_perform_142 : decode cX0_perform 142 = .ok (.getfield 23, 3) := by decide +kernel
theorem dX0_perform_145 : decode cX0_perform 145 = .ok (.iload 4, 2) := by decide +kernel
theorem dX0_perform_147 : decode cX0_perform 147 = .ok (.iaload, 1) := by decide +kernel
theorem dX0_perform_148 : decode cX0_perform 148 = .ok (.aload_n 0, 1) := by decide +kernel
theorem dX0_perform_149 : decode cX0_perform 149 = .ok (.getfield 23, 3) := by decide +kernel
end
section
set_option maxRecDepth 100000
theorem dX0_perform_152 : decode cX0_perform 152 = .ok (.aload_n 0, 1) := by decide +kernel
theorem dX0_perform_153 : decode cX0_perform 153 = .ok (.getfield 20, 3) := by decide +kernel
theorem dX0_perform_156 : decode cX0_perform 156 = .ok (.iload_n 1, 1) := by decide +kernel
theorem dX0_perform_157 : decode cX0_perform 157 = .ok (.iaload, 1) := by decide +kernel
theorem dX0_perform_158 : decode cX0_perform 158 = .ok (.iaload, 1) := by decide +kernel
theorem dX0_perform_159 : decode cX0_perform 159 = .ok (.invokevirtual 109, 3) := by decide +kernel
theorem dX0_perform_162 : decode cX0_perform 162 = .ok (.iload_n 1, 1) := by decide +kernel
theorem dX0_perform_163 : decode cX0_perform 163 = .ok (.iconst 1, 1) := by decide +kernel
theorem dX0_perform_164 : decode cX0_perform 164 = .ok (.iadd, 1) := by decide +kernel
theorem dX0_perform_165 : decode cX0_perform 165 = .ok (.ireturn, 1) := by decide +kernel
theorem dX0_store_0 : decode cX0_store 0 = .ok (.aload_n 0, 1) := by decide +kernel
theorem dX0_store_1 : decode cX0_store 1 = .ok (.getfield 26, 3) := by decide +kernel
theorem dX0_store_4 : decode cX0_store 4 = .ok (.aload_n 0, 1) := by decide +kernel
theorem dX0_store_5 : decode cX0_store 5 = .ok (.getfield 72, 3) := by decide +kernel
theorem dX0_store_8 : decode cX0_store 8 = .ok (.iload_n 1, 1) := by decide +kernel
theorem dX0_store_9 : decode cX0_store 9 = .ok (.i2b, 1) := by decide +kernel
theorem dX0_store_10 : decode cX0_store 10 = .ok (.bastore, 1) := by decide +kernel
theorem dX0_store_11 : decode cX0_store 11 = .ok (.aload_n 0, 1) := by decide +kernel
theorem dX0_store_12 : decode cX0_store 12 = .ok (.getfield 29, 3) := by decide +kernel
theorem dX0_store_15 : decode cX0_store 15 = .ok (.aload_n 0, 1) := by decide +kernel
theorem dX0_store_16 : decode cX0_store 16 = .ok (.getfield 72, 3) := by decide +kernel
theorem dX0_store_19 : decode cX0_store 19 = .ok (.aload_n 0, 1) := by decide +kernel
theorem dX0_store_20 : decode cX0_store 20 = .ok (.getfield 23, 3) := by decide +kernel
theorem dX0_store_23 : decode cX0_store 23 = .ok (.iload_n 1, 1) := by decide +kernel
theorem dX0_store_24 : decode cX0_store 24 = .ok (.iaload, 1) := by decide +kernel
theorem dX0_store_25 : decode cX0_store 25 = .ok (.iastore, 1) := by decide +kernel
theorem dX0_store_26 : decode cX0_store 26 = .ok (.aload_n 0, 1) := by decide +kernel
theorem dX0_store_27 : decode cX0_store 27 = .ok (.getfield 32, 3) := by decide +kernel
theorem dX0_store_30 : decode cX0_store 30 = .ok (.aload_n 0, 1) := by decide +kernel
theorem dX0_store_31 : decode cX0_store 31 = .ok (.getfield 72, 3) := by decide +kernel
theorem dX0_store_34 : decode cX0_store 34 = .ok (.iload_n 2, 1) := by decide +kernel
theorem dX0_store_35 : decode cX0_store 35 = .ok (.iastore, 1) := by decide +kernel
theorem dX0_store_36 : decode cX0_store 36 = .ok (.aload_n 0, 1) := by decide +kernel
theorem dX0_store_37 : decode cX0_store 37 = .ok (.getfield 35, 3) := by decide +kernel
theorem dX0_store_40 : decode cX0_store 40 = .ok (.aload_n 0, 1) := by decide +kernel
theorem dX0_store_41 : decode cX0_store 41 = .ok (.getfield 72, 3) := by decide +kernel
theorem dX0_store_44 : decode cX0_store 44 = .ok (.aload_n 0, 1) := by decide +kernel
theorem dX0_store_45 : decode cX0_store 45 = .ok (.getfield 45, 3) := by decide +kernel
theorem dX0_store_48 : decode cX0_store 48 = .ok (.iload_n 1, 1) := by decide +kernel
theorem dX0_store_49 : decode cX0_store 49 = .ok (.saload, 1) := by decide +kernel
theorem dX0_store_50 : decode cX0_store 50 = .ok (.sastore, 1) := by decide +kernel
theorem dX0_store_51 : decode cX0_store 51 = .ok (.aload_n 0, 1) := by decide +kernel
theorem dX0_store_52 : decode cX0_store 52 = .ok (.getfield 45, 3) := by decide +kernel
theorem dX0_store_55 : decode cX0_store 55 = .ok (.iload_n 1, 1) := by decide +kernel
theorem dX0_store_56 : decode cX0_store 56 = .ok (.aload_n 0, 1) := by decide +kernel
theorem dX0_store_57 : decode cX0_store 57 = .ok (.getfield 72, 3) := by decide +kernel
theorem dX0_store_60 : decode cX0_store 60 = .ok (.i2s, 1) := by decide +kernel
theorem dX0_store_61 : decode cX0_store 61 = .ok (.sastore, 1) := by decide +kernel
theorem dX0_store_62 : decode cX0_store 62 = .ok (.aload_n 0, 1) := by decide +kernel
theorem dX0_store_63 : decode cX0_store 63 = .ok (.getfield 23, 3) := by decide +kernel
theorem dX0_store_66 : decode cX0_store 66 = .ok (.iload_n 1, 1) := by decide +kernel
theorem dX0_store_67 : decode cX0_store 67 = .ok (.iload_n 2, 1) := by decide +kernel
theorem dX0_store_68 : decode cX0_store 68 = .ok (.iastore, 1) := by decide +kernel
theorem dX0_store_69 : decode cX0_store 69 = .ok (.return_, 1) := by decide +kernel
theorem dX0_compute_0 : decode cX0_compute 0 = .ok (.iload_n 1, 1) := by decide +kernel
theorem dX0_compute_1 : decode cX0_compute 1 = .ok (.iconst 1, 1) := by decide +kernel
theorem dX0_compute_2 : decode cX0_compute 2 = .ok (.if_icmp .ne 10, 3) := by decide +kernel
theorem dX0_compute_5 : decode cX0_compute 5 = .ok (.iload_n 3, 1) := by decide +kernel
theorem dX0_compute_6 : decode cX0_compute 6 = .ok (.iload 4, 2) := by decide +kernel
theorem dX0_compute_8 : decode cX0_compute 8 = .ok (.iadd, 1) := by decide +kernel
theorem dX0_compute_9 : decode cX0_compute 9 = .ok (.goto 19, 3) := by decide +kernel
theorem dX0_compute_12 : decode cX0_compute 12 = .ok (.iload_n 1, 1) := by decide +kernel
theorem dX0_compute_13 : decode cX0_compute 13 = .ok (.iconst 2, 1) := by decide +kernel
theorem dX0_compute_14 : decode cX0_compute 14 = .ok (.if_icmp .ne 10, 3) := by decide +kernel
theorem dX0_compute_17 : decode cX0_compute 17 = .ok (.iload_n 3, 1) := by decide +kernel
theorem dX0_compute_18 : decode cX0_compute 18 = .ok (.iload 4, 2) := by decide +kernel
theorem dX0_compute_20 : decode cX0_compute 20 = .ok (.isub, 1) := by decide +kernel
theorem dX0_compute_21 : decode cX0_compute 21 = .ok (.goto 7, 3) := by decide +kernel
theorem dX0_compute_24 : decode cX0_compute 24 = .ok (.iload_n 3, 1) := by decide +kernel
theorem dX0_compute_25 : decode cX0_compute 25 = .ok (.iload 4, 2) := by decide +kernel
theorem dX0_compute_27 : decode cX0_compute 27 = .ok (.imul, 1) := by decide +kernel
theorem dX0_compute_28 : decode cX0_compute 28 = .ok (.istore 5, 2) := by decide +kernel
theorem dX0_compute_30 : decode cX0_compute 30 = .ok (.aload_n 0, 1) := by decide +kernel
theorem dX0_compute_31 : decode cX0_compute 31 = .ok (.iload_n 2, 1) := by decide +kernel
theorem dX0_compute_32 : decode cX0_compute 32 = .ok (.iload 5, 2) := by decide +kernel
theorem dX0_compute_34 : decode cX0_compute 34 = .ok (.invokevirtual 106, 3) := by decide +kernel
theorem dX0_compute_37 : decode cX0_compute 37 = .ok (.return_, 1) := by decide +kernel
theorem dX0_travel_0 : decode cX0_travel 0 = .ok (.iload_n 1, 1) := by decide +kernel
theorem dX0_travel_1 : decode cX0_travel 1 = .ok (.bipush 25, 2) := by decide +kernel
theorem dX0_travel_3 : decode cX0_travel 3 = .ok (.iadd, 1) := by decide +kernel
theorem dX0_travel_4 : decode cX0_travel 4 = .ok (.bipush 50, 2) := by decide +kernel
theorem dX0_travel_6 : decode cX0_travel 6 = .ok (.idiv, 1) := by decide +kernel
theorem dX0_travel_7 : decode cX0_travel 7 = .ok (.istore_n 2, 1) := by decide +kernel
theorem dX0_travel_8 : decode cX0_travel 8 = .ok (.iload_n 2, 1) := by decide +kernel
theorem dX0_travel_9 : decode cX0_travel 9 = .ok (.bipush 50, 2) := by decide +kernel
theorem dX0_travel_11 : decode cX0_travel 11 = .ok (.imul, 1) := by decide +kernel
theorem dX0_travel_12 : decode cX0_travel 12 = .ok (.aload_n 0, 1) := by decide +kernel
theorem dX0_travel_13 : decode cX0_travel 13 = .ok (.getfield 72, 3) := by decide +kernel
theorem dX0_travel_16 : decode cX0_travel 16 = .ok (.if_icmp .le 6, 3) := by decide +kernel
theorem dX0_travel_19 : decode cX0_travel 19 = .ok (.iinc 2 (-1), 3) := by decide +kernel
theorem dX0_travel_22 : decode cX0_travel 22 = .ok (.aload_n 0, 1) := by decide +kernel
theorem dX0_travel_23 : decode cX0_travel 23 = .ok (.iload_n 1, 1) := by decide +kernel
theorem dX0_travel_24 : decode cX0_travel 24 = .ok (.iload_n 2, 1) := by decide +kernel
theorem dX0_travel_25 : decode cX0_travel 25 = .ok (.bipush 50, 2) := by decide +kernel
theorem dX0_travel_27 : decode cX0_travel 27 = .ok (.imul, 1) := by decide +kernel
theorem dX0_travel_28 : decode cX0_travel 28 = .ok (.invokevirtual 86, 3) := by decide +kernel
theorem dX0_travel_31 : decode cX0_travel 31 = .ok (.aload_n 0, 1) := by decide +kernel
theorem dX0_travel_32 : decode cX0_travel 32 = .ok (.iload_n 1, 1) := by decide +kernel
theorem dX0_travel_33 : decode cX0_travel 33 = .ok (.aload_n 0, 1) := by decide +kernel
theorem dX0_travel_34 : decode cX0_travel 34 = .ok (.getfield 79, 3) := by decide +kernel
theorem dX0_travel_37 : decode cX0_travel 37 = .ok (.invokevirtual 86, 3) := by decide +kernel
theorem dX0_travel_40 : decode cX0_travel 40 = .ok (.if_icmp .ge 8, 3) := by decide +kernel
theorem dX0_travel_43 : decode cX0_travel 43 = .ok (.aload_n 0, 1) := by decide +kernel
theorem dX0_travel_44 : decode cX0_travel 44 = .ok (.iload_n 2, 1) := by decide +kernel
theorem dX0_travel_45 : decode cX0_travel 45 = .ok (.invokevirtual 90, 3) := by decide +kernel
theorem dX0_travel_48 : decode cX0_travel 48 = .ok (.aload_n 0, 1) := by decide +kernel
theorem dX0_travel_49 : decode cX0_travel 49 = .ok (.getfield 79, 3) := by decide +kernel
theorem dX0_travel_52 : decode cX0_travel 52 = .ok (.iload_n 1, 1) := by decide +kernel
theorem dX0_travel_53 : decode cX0_travel 53 = .ok (.if_icmp .le 10, 3) := by decide +kernel
theorem dX0_travel_56 : decode cX0_travel 56 = .ok (.aload_n 0, 1) := by decide +kernel
theorem dX0_travel_57 : decode cX0_travel 57 = .ok (.invokevirtual 93, 3) := by decide +kernel
theorem dX0_travel_60 : decode cX0_travel 60 = .ok (.goto (-12), 3) := by decide +kernel
theorem dX0_travel_63 : decode cX0_travel 63 = .ok (.aload_n 0, 1) := by decide +kernel
theorem dX0_travel_64 : decode cX0_travel 64 = .ok (.getfield 79, 3) := by decide +kernel
theorem dX0_travel_67 : decode cX0_travel 67 = .ok (.iload_n 1, 1) := by decide +kernel
theorem dX0_travel_68 : decode cX0_travel 68 = .ok (.if_icmp .ge 10, 3) := by decide +kernel
theorem dX0_travel_71 : decode cX0_travel 71 = .ok (.aload_n 0, 1) := by decide +kernel
theorem dX0_travel_72 : decode cX0_travel 72 = .ok (.invokevirtual 96, 3) := by decide +kernel
theorem dX0_travel_75 : decode cX0_travel 75 = .ok (.goto (-12), 3) := by decide +kernel
theorem dX0_travel_78 : decode cX0_travel 78 = .ok (.return_, 1) := by decide +kernel
theorem dX0_gap_0 : decode cX0_gap 0 = .ok (.iload_n 1, 1) := by decide +kernel
theorem dX0_gap_1 : decode cX0_gap 1 = .ok (.iload_n 2, 1) := by decide +kernel
theorem dX0_gap_2 : decode cX0_gap 2 = .ok (.if_icmp .ge 9, 3) := by decide +kernel
theorem dX0_gap_5 : decode cX0_gap 5 = .ok (.iload_n 2, 1) := by decide +kernel
theorem dX0_gap_6 : decode cX0_gap 6 = .ok (.iload_n 1, 1) := by decide +kernel
theorem dX0_gap_7 : decode cX0_gap 7 = .ok (.isub, 1) := by decide +kernel
theorem dX0_gap_8 : decode cX0_gap 8 = .ok (.goto 6, 3) := by decide +kernel
theorem dX0_gap_11 : decode cX0_gap 11 = .ok (.iload_n 1, 1) := by decide +kernel
theorem dX0_gap_12 : decode cX0_gap 12 = .ok (.iload_n 2, 1) := by decide +kernel
theorem dX0_gap_13 : decode cX0_gap 13 = .ok (.isub, 1) := by decide +kernel
theorem dX0_gap_14 : decode cX0_gap 14 = .ok (.ireturn, 1) := by decide +kernel
theorem dX0_load_0 : decode cX0_load 0 = .ok (.iconst 0, 1) := by decide +kernel
theorem dX0_load_1 : decode cX0_load 1 = .ok (.istore_n 2, 1) := by decide +kernel
theorem dX0_load_2 : decode cX0_load 2 = .ok (.iload_n 2, 1) := by decide +kernel
theorem dX0_load_3 : decode cX0_load 3 = .ok (.bipush 14, 2) := by decide +kernel
theorem dX0_load_5 : decode cX0_load 5 = .ok (.if_icmp .ge 26, 3) := by decide +kernel
theorem dX0_load_8 : decode cX0_load 8 = .ok (.aload_n 0, 1) := by decide +kernel
theorem dX0_load_9 : decode cX0_load 9 = .ok (.getfield 23, 3) := by decide +kernel
theorem dX0_load_12 : decode cX0_load 12 = .ok (.iload_n 2, 1) := by decide +kernel
theorem dX0_load_13 : decode cX0_load 13 = .ok (.aload_n 0, 1) := by decide +kernel
theorem dX0_load_14 : decode cX0_load 14 = .ok (.getfield 51, 3) := by decide +kernel
theorem dX0_load_17 : decode cX0_load 17 = .ok (.bipush 14, 2) := by decide +kernel
theorem dX0_load_19 : decode cX0_load 19 = .ok (.iload_n 1, 1) := by decide +kernel
theorem dX0_load_20 : decode cX0_load 20 = .ok (.imul, 1) := by decide +kernel
theorem dX0_load_21 : decode cX0_load 21 = .ok (.iload_n 2, 1) := by decide +kernel
theorem dX0_load_22 : decode cX0_load 22 = .ok (.iadd, 1) := by decide +kernel
theorem dX0_load_23 : decode cX0_load 23 = .ok (.iaload, 1) := by decide +kernel
theorem dX0_load_24 : decode cX0_load 24 = .ok (.iastore, 1) := by decide +kernel
theorem dX0_load_25 : decode cX0_load 25 = .ok (.iinc 2 1, 3) := by decide +kernel
theorem dX0_load_28 : decode cX0_load 28 = .ok (.goto (-26), 3) := by decide +kernel
theorem dX0_load_31 : decode cX0_load 31 = .ok (.aload_n 0, 1) := by decide +kernel
theorem dX0_load_32 : decode cX0_load 32 = .ok (.iload_n 1, 1) := by decide +kernel
theorem dX0_load_33 : decode cX0_load 33 = .ok (.bipush 50, 2) := by decide +kernel
theorem dX0_load_35 : decode cX0_load 35 = .ok (.imul, 1) := by decide +kernel
theorem dX0_load_36 : decode cX0_load 36 = .ok (.putfield 79, 3) := by decide +kernel
theorem dX0_load_39 : decode cX0_load 39 = .ok (.return_, 1) := by decide +kernel
theorem dX0_undo_0 : decode cX0_undo 0 = .ok (.aload_n 0, 1) := by decide +kernel
theorem dX0_undo_1 : decode cX0_undo 1 = .ok (.getfield 26, 3) := by decide +kernel
theorem dX0_undo_4 : decode cX0_undo 4 = .ok (.aload_n 0, 1) := by decide +kernel
theorem dX0_undo_5 : decode cX0_undo 5 = .ok (.getfield 79, 3) := by decide +kernel
theorem dX0_undo_8 : decode cX0_undo 8 = .ok (.baload, 1) := by decide +kernel
theorem dX0_undo_9 : decode cX0_undo 9 = .ok (.ifCond .lt 26, 3) := by decide +kernel
theorem dX0_undo_12 : decode cX0_undo 12 = .ok (.aload_n 0, 1) := by decide +kernel
theorem dX0_undo_13 : decode cX0_undo 13 = .ok (.getfield 23, 3) := by decide +kernel
theorem dX0_undo_16 : decode cX0_undo 16 = .ok (.aload_n 0, 1) := by decide +kernel
theorem dX0_undo_17 : decode cX0_undo 17 = .ok (.getfield 26, 3) := by decide +kernel
theorem dX0_undo_20 : decode cX0_undo 20 = .ok (.aload_n 0, 1) := by decide +kernel
theorem dX0_undo_21 : decode cX0_undo 21 = .ok (.getfield 79, 3) := by decide +kernel
theorem dX0_undo_24 : decode cX0_undo 24 = .ok (.baload, 1) := by decide +kernel
theorem dX0_undo_25 : decode cX0_undo 25 = .ok (.aload_n 0, 1) := by decide +kernel
theorem dX0_undo_26 : decode cX0_undo 26 = .ok (.getfield 29, 3) := by decide +kernel
theorem dX0_undo_29 : decode cX0_undo 29 = .ok (.aload_n 0, 1) := by decide +kernel
theorem dX0_undo_30 : decode cX0_undo 30 = .ok (.getfield 79, 3) := by decide +kernel
theorem dX0_undo_33 : decode cX0_undo 33 = .ok (.iaload, 1) := by decide +kernel
theorem dX0_undo_34 : decode cX0_undo 34 = .ok (.iastore, 1) := by decide +kernel
theorem dX0_undo_35 : decode cX0_undo 35 = .ok (.aload_n 0, 1) := by decide +kernel
theorem dX0_undo_36 : decode cX0_undo 36 = .ok (.dup, 1) := by decide +kernel
theorem dX0_undo_37 : decode cX0_undo 37 = .ok (.getfield 79, 3) := by decide +kernel
theorem dX0_undo_40 : decode cX0_undo 40 = .ok (.iconst 1, 1) := by decide +kernel
theorem dX0_undo_41 : decode cX0_undo 41 = .ok (.isub, 1) := by decide +kernel
theorem dX0_undo_42 : decode cX0_undo 42 = .ok (.putfield 79, 3) := by decide +kernel
theorem dX0_undo_45 : decode cX0_undo 45 = .ok (.return_, 1) := by decide +kernel
theorem dX0_redo_0 : decode cX0_redo 0 = .ok (.aload_n 0, 1) := by decide +kernel
theorem dX0_redo_1 : decode cX0_redo 1 = .ok (.dup, 1) := by decide +kernel
theorem dX0_redo_2 : decode cX0_redo 2 = .ok (.getfield 79, 3) := by decide +kernel
theorem dX0_redo_5 : decode cX0_redo 5 = .ok (.iconst 1, 1) := by decide +kernel
theorem dX0_redo_6 : decode cX0_redo 6 = .ok (.iadd, 1) := by decide +kernel
theorem dX0_redo_7 : decode cX0_redo 7 = .ok (.putfield 79, 3) := by decide +kernel
theorem dX0_redo_10 : decode cX0_redo 10 = .ok (.aload_n 0, 1) := by decide +kernel
theorem dX0_redo_11 : decode cX0_redo 11 = .ok (.getfield 26, 3) := by decide +kernel
theorem dX0_redo_14 : decode cX0_redo 14 = .ok (.aload_n 0, 1) := by decide +kernel
theorem dX0_redo_15 : decode cX0_redo 15 = .ok (.getfield 79, 3) := by decide +kernel
theorem dX0_redo_18 : decode cX0_redo 18 = .ok (.baload, 1) := by decide +kernel
theorem dX0_redo_19 : decode cX0_redo 19 = .ok (.ifCond .lt 26, 3) := by decide +kernel
theorem dX0_redo_22 : decode cX0_redo 22 = .ok (.aload_n 0, 1) := by decide +kernel
theorem dX0_redo_23 : decode cX0_redo 23 = .ok (.getfield 23, 3) := by decide +kernel
theorem dX0_redo_26 : decode cX0_redo 26 = .ok (.aload_n 0, 1) := by decide +kernel
theorem dX0_redo_27 : decode cX0_redo 27 = .ok (.getfield 26, 3) := by decide +kernel
theorem dX0_redo_30 : decode cX0_redo 30 = .ok (.aload_n 0, 1) := by decide +kernel
theorem dX0_redo_31 : decode cX0_redo 31 = .ok (.getfield 79, 3) := by decide +kernel
theorem dX0_redo_34 : decode cX0_redo 34 = .ok (.baload, 1) := by decide +kernel
theorem dX0_redo_35 : decode cX0_redo 35 = .ok (.aload_n 0, 1) := by decide +kernel
theorem dX0_redo_36 : decode cX0_redo 36 = .ok (.getfield 32, 3) := by decide +kernel
theorem dX0_redo_39 : decode cX0_redo 39 = .ok (.aload_n 0, 1) := by decide +kernel
theorem dX0_redo_40 : decode cX0_redo 40 = .ok (.getfield 79, 3) := by decide +kernel
theorem dX0_redo_43 : decode cX0_redo 43 = .ok (.iaload, 1) := by decide +kernel
theorem dX0_redo_44 : decode cX0_redo 44 = .ok (.iastore, 1) := by decide +kernel
theorem dX0_redo_45 : decode cX0_redo 45 = .ok (.return_, 1) := by decide +kernel
theorem dX0_emit_0 : decode cX0_emit 0 = .ok (.aload_n 0, 1) := by decide +kernel
theorem dX0_emit_1 : decode cX0_emit 1 = .ok (.getfield 57, 3) := by decide +kernel
theorem dX0_emit_4 : decode cX0_emit 4 = .ok (.bipush 20, 2) := by decide +kernel
theorem dX0_emit_6 : decode cX0_emit 6 = .ok (.if_icmp .lt 6, 3) := by decide +kernel
theorem dX0_emit_9 : decode cX0_emit 9 = .ok (.bipush (-2), 2) := by decide +kernel
theorem dX0_emit_11 : decode cX0_emit 11 = .ok (.ireturn, 1) := by decide +kernel
theorem dX0_emit_12 : decode cX0_emit 12 = .ok (.iload_n 1, 1) := by decide +kernel
theorem dX0_emit_13 : decode cX0_emit 13 = .ok (.ifCond .lt 21, 3) := by decide +kernel
theorem dX0_emit_16 : decode cX0_emit 16 = .ok (.iload_n 1, 1) := by decide +kernel
theorem dX0_emit_17 : decode cX0_emit 17 = .ok (.bipush 8, 2) := by decide +kernel
theorem dX0_emit_19 : decode cX0_emit 19 = .ok (.if_icmp .gt 15, 3) := by decide +kernel
theorem dX0_emit_22 : decode cX0_emit 22 = .ok (.aload_n 0, 1) := by decide +kernel
theorem dX0_emit_23 : decode cX0_emit 23 = .ok (.iload_n 1, 1) := by decide +kernel
theorem dX0_emit_24 : decode cX0_emit 24 = .ok (.iload_n 2, 1) := by decide +kernel
theorem dX0_emit_25 : decode cX0_emit 25 = .ok (.iload_n 3, 1) := by decide +kernel
theorem dX0_emit_26 : decode cX0_emit 26 = .ok (.iload 4, 2) := by decide +kernel
theorem dX0_emit_28 : decode cX0_emit 28 = .ok (.invokevirtual 61, 3) := by decide +kernel
theorem dX0_emit_31 : decode cX0_emit 31 = .ok (.ifCond .ne 5, 3) := by decide +kernel
theorem dX0_emit_34 : decode cX0_emit 34 = .ok (.iconst (-1), 1) := by decide +kernel
theorem dX0_emit_35 : decode cX0_emit 35 = .ok (.ireturn, 1) := by decide +kernel
theorem dX0_emit_36 : decode cX0_emit 36 = .ok (.aload_n 0, 1) := by decide +kernel
theorem dX0_emit_37 : decode cX0_emit 37 = .ok (.getfield 7, 3) := by decide +kernel
theorem dX0_emit_40 : decode cX0_emit 40 = .ok (.aload_n 0, 1) := by decide +kernel
theorem dX0_emit_41 : decode cX0_emit 41 = .ok (.getfield 57, 3) := by decide +kernel
theorem dX0_emit_44 : decode cX0_emit 44 = .ok (.iload_n 1, 1) := by decide +kernel
theorem dX0_emit_45 : decode cX0_emit 45 = .ok (.i2b, 1) := by decide +kernel
theorem dX0_emit_46 : decode cX0_emit 46 = .ok (.bastore, 1) := by decide +kernel
theorem dX0_emit_47 : decode cX0_emit 47 = .ok (.aload_n 0, 1) := by decide +kernel
theorem dX0_emit_48 : decode cX0_emit 48 = .ok (.getfield 13, 3) := by decide +kernel
theorem dX0_emit_51 : decode cX0_emit 51 = .ok (.aload_n 0, 1) := by decide +kernel
theorem dX0_emit_52 : decode cX0_emit 52 = .ok (.getfield 57, 3) := by decide +kernel
theorem dX0_emit_55 : decode cX0_emit 55 = .ok (.iload_n 2, 1) := by decide +kernel
theorem dX0_emit_56 : decode cX0_emit 56 = .ok (.iastore, 1) := by decide +kernel
theorem dX0_emit_57 : decode cX0_emit 57 = .ok (.aload_n 0, 1) := by decide +kernel
theorem dX0_emit_58 : decode cX0_emit 58 = .ok (.getfield 17, 3) := by decide +kernel
theorem dX0_emit_61 : decode cX0_emit 61 = .ok (.aload_n 0, 1) := by decide +kernel
theorem dX0_emit_62 : decode cX0_emit 62 = .ok (.getfield 57, 3) := by decide +kernel
theorem dX0_emit_65 : decode cX0_emit 65 = .ok (.iload_n 3, 1) := by decide +kernel
theorem dX0_emit_66 : decode cX0_emit 66 = .ok (.iastore, 1) := by decide +kernel
theorem dX0_emit_67 : decode cX0_emit 67 = .ok (.aload_n 0, 1) := by decide +kernel
theorem dX0_emit_68 : decode cX0_emit 68 = .ok (.getfield 20, 3) := by decide +kernel
theorem dX0_emit_71 : decode cX0_emit 71 = .ok (.aload_n 0, 1) := by decide +kernel
theorem dX0_emit_72 : decode cX0_emit 72 = .ok (.getfield 57, 3) := by decide +kernel
theorem dX0_emit_75 : decode cX0_emit 75 = .ok (.iload 4, 2) := by decide +kernel
theorem dX0_emit_77 : decode cX0_emit 77 = .ok (.iastore, 1) := by decide +kernel
theorem dX0_emit_78 : decode cX0_emit 78 = .ok (.aload_n 0, 1) := by decide +kernel
theorem dX0_emit_79 : decode cX0_emit 79 = .ok (.dup, 1) := by decide +kernel
theorem dX0_emit_80 : decode cX0_emit 80 = .ok (.getfield 57, 3) := by decide +kernel
theorem dX0_emit_83 : decode cX0_emit 83 = .ok (.iconst 1, 1) := by decide +kernel
theorem dX0_emit_84 : decode cX0_emit 84 = .ok (.iadd, 1) := by decide +kernel
theorem dX0_emit_85 : decode cX0_emit 85 = .ok (.putfield 57, 3) := by decide +kernel
theorem dX0_emit_88 : decode cX0_emit 88 = .ok (.aload_n 0, 1) := by decide +kernel
theorem dX0_emit_89 : decode cX0_emit 89 = .ok (.invokevirtual 54, 3) := by decide +kernel
theorem dX0_emit_92 : decode cX0_emit 92 = .ok (.aload_n 0, 1) := by decide +kernel
theorem dX0_emit_93 : decode cX0_emit 93 = .ok (.getfield 57, 3) := by decide +kernel
theorem dX0_emit_96 : decode cX0_emit 96 = .ok (.ireturn, 1) := by decide +kernel
theorem dX0_fits_0 : decode cX0_fits 0 = .ok (.iload_n 1, 1) := by decide +kernel
theorem dX0_fits_1 : decode cX0_fits 1 = .ok (.bipush 8, 2) := by decide +kernel
theorem dX0_fits_3 : decode cX0_fits 3 = .ok (.if_icmp .ne 5, 3) := by decide +kernel
theorem dX0_fits_6 : decode cX0_fits 6 = .ok (.iconst 1, 1) := by decide +kernel
theorem dX0_fits_7 : decode cX0_fits 7 = .ok (.ireturn, 1) := by decide +kernel
theorem dX0_fits_8 : decode cX0_fits 8 = .ok (.iload_n 1, 1) := by decide +kernel
theorem dX0_fits_9 : decode cX0_fits 9 = .ok (.bipush 7, 2) := by decide +kernel
theorem dX0_fits_11 : decode cX0_fits 11 = .ok (.if_icmp .ne 19, 3) := by decide +kernel
theorem dX0_fits_14 : decode cX0_fits 14 = .ok (.iload_n 2, 1) := by decide +kernel
theorem dX0_fits_15 : decode cX0_fits 15 = .ok (.ifCond .lt 13, 3) := by decide +kernel
theorem dX0_fits_18 : decode cX0_fits 18 = .ok (.iload_n 2, 1) := by decide +kernel
theorem dX0_fits_19 : decode cX0_fits 19 = .ok (.bipush 19, 2) := by decide +kernel
theorem dX0_fits_21 : decode cX0_fits 21 = .ok (.if_icmp .gt 7, 3) := by decide +kernel
theorem dX0_fits_24 : decode cX0_fits 24 = .ok (.iconst 1, 1) := by decide +kernel
theorem dX0_fits_25 : decode cX0_fits 25 = .ok (.goto 4, 3) := by decide +kernel
theorem dX0_fits_28 : decode cX0_fits 28 = .ok (.iconst 0, 1) := by decide +kernel
theorem dX0_fits_29 : decode cX0_fits 29 = .ok (.ireturn, 1) := by decide +kernel
theorem dX0_fits_30 : decode cX0_fits 30 = .ok (.aload_n 0, 1) := by decide +kernel
theorem dX0_fits_31 : decode cX0_fits 31 = .ok (.iload_n 2, 1) := by decide +kernel
theorem dX0_fits_32 : decode cX0_fits 32 = .ok (.invokevirtual 65, 3) := by decide +kernel
theorem dX0_fits_35 : decode cX0_fits 35 = .ok (.ifCond .ne 5, 3) := by decide +kernel
theorem dX0_fits_38 : decode cX0_fits 38 = .ok (.iconst 0, 1) := by decide +kernel
theorem dX0_fits_39 : decode cX0_fits 39 = .ok (.ireturn, 1) := by decide +kernel
theorem dX0_fits_40 : decode cX0_fits 40 = .ok (.iload_n 1, 1) := by decide +kernel
theorem dX0_fits_41 : decode cX0_fits 41 = .ok (.ifCond .ne 5, 3) := by decide +kernel
theorem dX0_fits_44 : decode cX0_fits 44 = .ok (.iconst 1, 1) := by decide +kernel
theorem dX0_fits_45 : decode cX0_fits 45 = .ok (.ireturn, 1) := by decide +kernel
theorem dX0_fits_46 : decode cX0_fits 46 = .ok (.iload_n 1, 1) := by decide +kernel
theorem dX0_fits_47 : decode cX0_fits 47 = .ok (.bipush 6, 2) := by decide +kernel
theorem dX0_fits_49 : decode cX0_fits 49 = .ok (.if_icmp .ne 19, 3) := by decide +kernel
theorem dX0_fits_52 : decode cX0_fits 52 = .ok (.iload_n 3, 1) := by decide +kernel
theorem dX0_fits_53 : decode cX0_fits 53 = .ok (.ifCond .lt 13, 3) := by decide +kernel
theorem dX0_fits_56 : decode cX0_fits 56 = .ok (.iload_n 3, 1) := by decide +kernel
theorem dX0_fits_57 : decode cX0_fits 57 = .ok (.bipush 19, 2) := by decide +kernel
theorem dX0_fits_59 : decode cX0_fits 59 = .ok (.if_icmp .gt 7, 3) := by decide +kernel
theorem dX0_fits_62 : decode cX0_fits 62 = .ok (.iconst 1, 1) := by decide +kernel
end
section
set_option maxRecDepth 100000
theorem dX0_fits_63 : decode cX0_fits 63 = .ok (.goto 4, 3) := by decide +kernel
theorem dX0_fits_66 : decode cX0_fits 66 = .ok (.iconst 0, 1) := by decide +kernel
theorem dX0_fits_67 : decode cX0_fits 67 = .ok (.ireturn, 1) := by decide +kernel
theorem dX0_fits_68 : decode cX0_fits 68 = .ok (.aload_n 0, 1) := by decide +kernel
theorem dX0_fits_69 : decode cX0_fits 69 = .ok (.iload_n 3, 1) := by decide +kernel
theorem dX0_fits_70 : decode cX0_fits 70 = .ok (.invokevirtual 65, 3) := by decide +kernel
theorem dX0_fits_73 : decode cX0_fits 73 = .ok (.ifCond .ne 5, 3) := by decide +kernel
theorem dX0_fits_76 : decode cX0_fits 76 = .ok (.iconst 0, 1) := by decide +kernel
theorem dX0_fits_77 : decode cX0_fits 77 = .ok (.ireturn, 1) := by decide +kernel
theorem dX0_fits_78 : decode cX0_fits 78 = .ok (.iload_n 1, 1) := by decide +kernel
theorem dX0_fits_79 : decode cX0_fits 79 = .ok (.iconst 3, 1) := by decide +kernel
theorem dX0_fits_80 : decode cX0_fits 80 = .ok (.if_icmp .gt 12, 3) := by decide +kernel
theorem dX0_fits_83 : decode cX0_fits 83 = .ok (.aload_n 0, 1) := by decide +kernel
theorem dX0_fits_84 : decode cX0_fits 84 = .ok (.iload 4, 2) := by decide +kernel
theorem dX0_fits_86 : decode cX0_fits 86 = .ok (.invokevirtual 65, 3) := by decide +kernel
theorem dX0_fits_89 : decode cX0_fits 89 = .ok (.ifCond .eq 7, 3) := by decide +kernel
theorem dX0_fits_92 : decode cX0_fits 92 = .ok (.iconst 1, 1) := by decide +kernel
theorem dX0_fits_93 : decode cX0_fits 93 = .ok (.goto 4, 3) := by decide +kernel
theorem dX0_fits_96 : decode cX0_fits 96 = .ok (.iconst 0, 1) := by decide +kernel
theorem dX0_fits_97 : decode cX0_fits 97 = .ok (.ireturn, 1) := by decide +kernel
theorem dX0_isVariable_0 : decode cX0_isVariable 0 = .ok (.iload_n 1, 1) := by decide +kernel
theorem dX0_isVariable_1 : decode cX0_isVariable 1 = .ok (.ifCond .lt 12, 3) := by decide +kernel
theorem dX0_isVariable_4 : decode cX0_isVariable 4 = .ok (.iload_n 1, 1) := by decide +kernel
theorem dX0_isVariable_5 : decode cX0_isVariable 5 = .ok (.iconst 5, 1) := by decide +kernel
theorem dX0_isVariable_6 : decode cX0_isVariable 6 = .ok (.if_icmp .gt 7, 3) := by decide +kernel
theorem dX0_isVariable_9 : decode cX0_isVariable 9 = .ok (.iconst 1, 1) := by decide +kernel
theorem dX0_isVariable_10 : decode cX0_isVariable 10 = .ok (.goto 4, 3) := by decide +kernel
theorem dX0_isVariable_13 : decode cX0_isVariable 13 = .ok (.iconst 0, 1) := by decide +kernel
theorem dX0_isVariable_14 : decode cX0_isVariable 14 = .ok (.ireturn, 1) := by decide +kernel
theorem dX0_input_0 : decode cX0_input 0 = .ok (.aload_n 0, 1) := by decide +kernel
theorem dX0_input_1 : decode cX0_input 1 = .ok (.iload_n 1, 1) := by decide +kernel
theorem dX0_input_2 : decode cX0_input 2 = .ok (.putfield 69, 3) := by decide +kernel
theorem dX0_input_5 : decode cX0_input 5 = .ok (.aload_n 0, 1) := by decide +kernel
theorem dX0_input_6 : decode cX0_input 6 = .ok (.invokevirtual 54, 3) := by decide +kernel
theorem dX0_input_9 : decode cX0_input 9 = .ok (.aload_n 0, 1) := by decide +kernel
theorem dX0_input_10 : decode cX0_input 10 = .ok (.getfield 72, 3) := by decide +kernel
theorem dX0_input_13 : decode cX0_input 13 = .ok (.ireturn, 1) := by decide +kernel
theorem dX0_steps_0 : decode cX0_steps 0 = .ok (.aload_n 0, 1) := by decide +kernel
theorem dX0_steps_1 : decode cX0_steps 1 = .ok (.getfield 72, 3) := by decide +kernel
theorem dX0_steps_4 : decode cX0_steps 4 = .ok (.ireturn, 1) := by decide +kernel
theorem dX0_goTo_0 : decode cX0_goTo 0 = .ok (.iload_n 1, 1) := by decide +kernel
theorem dX0_goTo_1 : decode cX0_goTo 1 = .ok (.ifCond .lt 11, 3) := by decide +kernel
theorem dX0_goTo_4 : decode cX0_goTo 4 = .ok (.iload_n 1, 1) := by decide +kernel
theorem dX0_goTo_5 : decode cX0_goTo 5 = .ok (.aload_n 0, 1) := by decide +kernel
theorem dX0_goTo_6 : decode cX0_goTo 6 = .ok (.getfield 72, 3) := by decide +kernel
theorem dX0_goTo_9 : decode cX0_goTo 9 = .ok (.if_icmp .le 5, 3) := by decide +kernel
theorem dX0_goTo_12 : decode cX0_goTo 12 = .ok (.iconst (-1), 1) := by decide +kernel
theorem dX0_goTo_13 : decode cX0_goTo 13 = .ok (.ireturn, 1) := by decide +kernel
theorem dX0_goTo_14 : decode cX0_goTo 14 = .ok (.aload_n 0, 1) := by decide +kernel
theorem dX0_goTo_15 : decode cX0_goTo 15 = .ok (.iload_n 1, 1) := by decide +kernel
theorem dX0_goTo_16 : decode cX0_goTo 16 = .ok (.invokevirtual 75, 3) := by decide +kernel
theorem dX0_goTo_19 : decode cX0_goTo 19 = .ok (.aload_n 0, 1) := by decide +kernel
theorem dX0_goTo_20 : decode cX0_goTo 20 = .ok (.getfield 39, 3) := by decide +kernel
theorem dX0_goTo_23 : decode cX0_goTo 23 = .ok (.iload_n 1, 1) := by decide +kernel
theorem dX0_goTo_24 : decode cX0_goTo 24 = .ok (.baload, 1) := by decide +kernel
theorem dX0_goTo_25 : decode cX0_goTo 25 = .ok (.ireturn, 1) := by decide +kernel
theorem dX0_time_0 : decode cX0_time 0 = .ok (.aload_n 0, 1) := by decide +kernel
theorem dX0_time_1 : decode cX0_time 1 = .ok (.getfield 79, 3) := by decide +kernel
theorem dX0_time_4 : decode cX0_time 4 = .ok (.ireturn, 1) := by decide +kernel
theorem dX0_variable_0 : decode cX0_variable 0 = .ok (.aload_n 0, 1) := by decide +kernel
theorem dX0_variable_1 : decode cX0_variable 1 = .ok (.iload_n 1, 1) := by decide +kernel
theorem dX0_variable_2 : decode cX0_variable 2 = .ok (.invokevirtual 65, 3) := by decide +kernel
theorem dX0_variable_5 : decode cX0_variable 5 = .ok (.ifCond .eq 12, 3) := by decide +kernel
theorem dX0_variable_8 : decode cX0_variable 8 = .ok (.aload_n 0, 1) := by decide +kernel
theorem dX0_variable_9 : decode cX0_variable 9 = .ok (.getfield 23, 3) := by decide +kernel
theorem dX0_variable_12 : decode cX0_variable 12 = .ok (.iload_n 1, 1) := by decide +kernel
theorem dX0_variable_13 : decode cX0_variable 13 = .ok (.iaload, 1) := by decide +kernel
theorem dX0_variable_14 : decode cX0_variable 14 = .ok (.goto 4, 3) := by decide +kernel
theorem dX0_variable_17 : decode cX0_variable 17 = .ok (.iconst 0, 1) := by decide +kernel
theorem dX0_variable_18 : decode cX0_variable 18 = .ok (.ireturn, 1) := by decide +kernel
theorem dX0_cell_0 : decode cX0_cell 0 = .ok (.iload_n 1, 1) := by decide +kernel
theorem dX0_cell_1 : decode cX0_cell 1 = .ok (.ifCond .lt 9, 3) := by decide +kernel
theorem dX0_cell_4 : decode cX0_cell 4 = .ok (.iload_n 1, 1) := by decide +kernel
theorem dX0_cell_5 : decode cX0_cell 5 = .ok (.bipush 7, 2) := by decide +kernel
theorem dX0_cell_7 : decode cX0_cell 7 = .ok (.if_icmp .le 7, 3) := by decide +kernel
theorem dX0_cell_10 : decode cX0_cell 10 = .ok (.iconst 0, 1) := by decide +kernel
theorem dX0_cell_11 : decode cX0_cell 11 = .ok (.goto 12, 3) := by decide +kernel
theorem dX0_cell_14 : decode cX0_cell 14 = .ok (.aload_n 0, 1) := by decide +kernel
theorem dX0_cell_15 : decode cX0_cell 15 = .ok (.getfield 23, 3) := by decide +kernel
theorem dX0_cell_18 : decode cX0_cell 18 = .ok (.bipush 6, 2) := by decide +kernel
theorem dX0_cell_20 : decode cX0_cell 20 = .ok (.iload_n 1, 1) := by decide +kernel
theorem dX0_cell_21 : decode cX0_cell 21 = .ok (.iadd, 1) := by decide +kernel
theorem dX0_cell_22 : decode cX0_cell 22 = .ok (.iaload, 1) := by decide +kernel
theorem dX0_cell_23 : decode cX0_cell 23 = .ok (.ireturn, 1) := by decide +kernel
theorem dX0_lastWrite_0 : decode cX0_lastWrite 0 = .ok (.iload_n 1, 1) := by decide +kernel
theorem dX0_lastWrite_1 : decode cX0_lastWrite 1 = .ok (.ifCond .lt 8, 3) := by decide +kernel
theorem dX0_lastWrite_4 : decode cX0_lastWrite 4 = .ok (.iload_n 1, 1) := by decide +kernel
theorem dX0_lastWrite_5 : decode cX0_lastWrite 5 = .ok (.iconst 1, 1) := by decide +kernel
theorem dX0_lastWrite_6 : decode cX0_lastWrite 6 = .ok (.if_icmp .le 5, 3) := by decide +kernel
theorem dX0_lastWrite_9 : decode cX0_lastWrite 9 = .ok (.iconst (-1), 1) := by decide +kernel
theorem dX0_lastWrite_10 : decode cX0_lastWrite 10 = .ok (.ireturn, 1) := by decide +kernel
theorem dX0_lastWrite_11 : decode cX0_lastWrite 11 = .ok (.iload_n 2, 1) := by decide +kernel
theorem dX0_lastWrite_12 : decode cX0_lastWrite 12 = .ok (.ifCond .lt 17, 3) := by decide +kernel
theorem dX0_lastWrite_15 : decode cX0_lastWrite 15 = .ok (.iload_n 2, 1) := by decide +kernel
theorem dX0_lastWrite_16 : decode cX0_lastWrite 16 = .ok (.iload_n 1, 1) := by decide +kernel
theorem dX0_lastWrite_17 : decode cX0_lastWrite 17 = .ok (.ifCond .ne 7, 3) := by decide +kernel
theorem dX0_lastWrite_20 : decode cX0_lastWrite 20 = .ok (.iconst 5, 1) := by decide +kernel
theorem dX0_lastWrite_21 : decode cX0_lastWrite 21 = .ok (.goto 5, 3) := by decide +kernel
theorem dX0_lastWrite_24 : decode cX0_lastWrite 24 = .ok (.bipush 7, 2) := by decide +kernel
theorem dX0_lastWrite_26 : decode cX0_lastWrite 26 = .ok (.if_icmp .le 5, 3) := by decide +kernel
theorem dX0_lastWrite_29 : decode cX0_lastWrite 29 = .ok (.iconst (-1), 1) := by decide +kernel
theorem dX0_lastWrite_30 : decode cX0_lastWrite 30 = .ok (.ireturn, 1) := by decide +kernel
theorem dX0_lastWrite_31 : decode cX0_lastWrite 31 = .ok (.aload_n 0, 1) := by decide +kernel
theorem dX0_lastWrite_32 : decode cX0_lastWrite 32 = .ok (.bipush 6, 2) := by decide +kernel
theorem dX0_lastWrite_34 : decode cX0_lastWrite 34 = .ok (.iload_n 1, 1) := by decide +kernel
theorem dX0_lastWrite_35 : decode cX0_lastWrite 35 = .ok (.imul, 1) := by decide +kernel
theorem dX0_lastWrite_36 : decode cX0_lastWrite 36 = .ok (.iload_n 2, 1) := by decide +kernel
theorem dX0_lastWrite_37 : decode cX0_lastWrite 37 = .ok (.iadd, 1) := by decide +kernel
theorem dX0_lastWrite_38 : decode cX0_lastWrite 38 = .ok (.invokevirtual 82, 3) := by decide +kernel
theorem dX0_lastWrite_41 : decode cX0_lastWrite 41 = .ok (.ireturn, 1) := by decide +kernel
theorem dX0_writeUpTo_0 : decode cX0_writeUpTo 0 = .ok (.aload_n 0, 1) := by decide +kernel
theorem dX0_writeUpTo_1 : decode cX0_writeUpTo 1 = .ok (.getfield 45, 3) := by decide +kernel
theorem dX0_writeUpTo_4 : decode cX0_writeUpTo 4 = .ok (.iload_n 1, 1) := by decide +kernel
theorem dX0_writeUpTo_5 : decode cX0_writeUpTo 5 = .ok (.saload, 1) := by decide +kernel
theorem dX0_writeUpTo_6 : decode cX0_writeUpTo 6 = .ok (.istore_n 2, 1) := by decide +kernel
theorem dX0_writeUpTo_7 : decode cX0_writeUpTo 7 = .ok (.iload_n 2, 1) := by decide +kernel
theorem dX0_writeUpTo_8 : decode cX0_writeUpTo 8 = .ok (.aload_n 0, 1) := by decide +kernel
theorem dX0_writeUpTo_9 : decode cX0_writeUpTo 9 = .ok (.getfield 79, 3) := by decide +kernel
theorem dX0_writeUpTo_12 : decode cX0_writeUpTo 12 = .ok (.if_icmp .le 13, 3) := by decide +kernel
theorem dX0_writeUpTo_15 : decode cX0_writeUpTo 15 = .ok (.aload_n 0, 1) := by decide +kernel
theorem dX0_writeUpTo_16 : decode cX0_writeUpTo 16 = .ok (.getfield 35, 3) := by decide +kernel
theorem dX0_writeUpTo_19 : decode cX0_writeUpTo 19 = .ok (.iload_n 2, 1) := by decide +kernel
theorem dX0_writeUpTo_20 : decode cX0_writeUpTo 20 = .ok (.saload, 1) := by decide +kernel
theorem dX0_writeUpTo_21 : decode cX0_writeUpTo 21 = .ok (.istore_n 2, 1) := by decide +kernel
theorem dX0_writeUpTo_22 : decode cX0_writeUpTo 22 = .ok (.goto (-15), 3) := by decide +kernel
theorem dX0_writeUpTo_25 : decode cX0_writeUpTo 25 = .ok (.iload_n 2, 1) := by decide +kernel
theorem dX0_writeUpTo_26 : decode cX0_writeUpTo 26 = .ok (.ireturn, 1) := by decide +kernel
theorem dX0_runTo_0 : decode cX0_runTo 0 = .ok (.iload_n 1, 1) := by decide +kernel
theorem dX0_runTo_1 : decode cX0_runTo 1 = .ok (.ifCond .lt 9, 3) := by decide +kernel
theorem dX0_runTo_4 : decode cX0_runTo 4 = .ok (.iload_n 1, 1) := by decide +kernel
theorem dX0_runTo_5 : decode cX0_runTo 5 = .ok (.bipush 19, 2) := by decide +kernel
theorem dX0_runTo_7 : decode cX0_runTo 7 = .ok (.if_icmp .le 5, 3) := by decide +kernel
theorem dX0_runTo_10 : decode cX0_runTo 10 = .ok (.iconst (-1), 1) := by decide +kernel
theorem dX0_runTo_11 : decode cX0_runTo 11 = .ok (.ireturn, 1) := by decide +kernel
theorem dX0_runTo_12 : decode cX0_runTo 12 = .ok (.iconst (-1), 1) := by decide +kernel
theorem dX0_runTo_13 : decode cX0_runTo 13 = .ok (.istore_n 2, 1) := by decide +kernel
theorem dX0_runTo_14 : decode cX0_runTo 14 = .ok (.aload_n 0, 1) := by decide +kernel
theorem dX0_runTo_15 : decode cX0_runTo 15 = .ok (.getfield 48, 3) := by decide +kernel
theorem dX0_runTo_18 : decode cX0_runTo 18 = .ok (.iload_n 1, 1) := by decide +kernel
theorem dX0_runTo_19 : decode cX0_runTo 19 = .ok (.saload, 1) := by decide +kernel
theorem dX0_runTo_20 : decode cX0_runTo 20 = .ok (.istore_n 3, 1) := by decide +kernel
theorem dX0_runTo_21 : decode cX0_runTo 21 = .ok (.iload_n 3, 1) := by decide +kernel
theorem dX0_runTo_22 : decode cX0_runTo 22 = .ok (.aload_n 0, 1) := by decide +kernel
theorem dX0_runTo_23 : decode cX0_runTo 23 = .ok (.getfield 79, 3) := by decide +kernel
theorem dX0_runTo_26 : decode cX0_runTo 26 = .ok (.if_icmp .le 15, 3) := by decide +kernel
theorem dX0_runTo_29 : decode cX0_runTo 29 = .ok (.iload_n 3, 1) := by decide +kernel
theorem dX0_runTo_30 : decode cX0_runTo 30 = .ok (.istore_n 2, 1) := by decide +kernel
theorem dX0_runTo_31 : decode cX0_runTo 31 = .ok (.aload_n 0, 1) := by decide +kernel
theorem dX0_runTo_32 : decode cX0_runTo 32 = .ok (.getfield 42, 3) := by decide +kernel
theorem dX0_runTo_35 : decode cX0_runTo 35 = .ok (.iload_n 3, 1) := by decide +kernel
theorem dX0_runTo_36 : decode cX0_runTo 36 = .ok (.saload, 1) := by decide +kernel
theorem dX0_runTo_37 : decode cX0_runTo 37 = .ok (.istore_n 3, 1) := by decide +kernel
theorem dX0_runTo_38 : decode cX0_runTo 38 = .ok (.goto (-17), 3) := by decide +kernel
theorem dX0_runTo_41 : decode cX0_runTo 41 = .ok (.iload_n 2, 1) := by decide +kernel
theorem dX0_runTo_42 : decode cX0_runTo 42 = .ok (.ifCond .ge 6, 3) := by decide +kernel
theorem dX0_runTo_45 : decode cX0_runTo 45 = .ok (.bipush (-3), 2) := by decide +kernel
theorem dX0_runTo_47 : decode cX0_runTo 47 = .ok (.ireturn, 1) := by decide +kernel
theorem dX0_runTo_48 : decode cX0_runTo 48 = .ok (.aload_n 0, 1) := by decide +kernel
theorem dX0_runTo_49 : decode cX0_runTo 49 = .ok (.iload_n 2, 1) := by decide +kernel
theorem dX0_runTo_50 : decode cX0_runTo 50 = .ok (.invokevirtual 75, 3) := by decide +kernel
theorem dX0_runTo_53 : decode cX0_runTo 53 = .ok (.iload_n 2, 1) := by decide +kernel
theorem dX0_runTo_54 : decode cX0_runTo 54 = .ok (.ireturn, 1) := by decide +kernel
theorem dX0_backTo_0 : decode cX0_backTo 0 = .ok (.iload_n 1, 1) := by decide +kernel
theorem dX0_backTo_1 : decode cX0_backTo 1 = .ok (.ifCond .lt 9, 3) := by decide +kernel
theorem dX0_backTo_4 : decode cX0_backTo 4 = .ok (.iload_n 1, 1) := by decide +kernel
theorem dX0_backTo_5 : decode cX0_backTo 5 = .ok (.bipush 19, 2) := by decide +kernel
theorem dX0_backTo_7 : decode cX0_backTo 7 = .ok (.if_icmp .le 5, 3) := by decide +kernel
theorem dX0_backTo_10 : decode cX0_backTo 10 = .ok (.iconst (-1), 1) := by decide +kernel
theorem dX0_backTo_11 : decode cX0_backTo 11 = .ok (.ireturn, 1) := by decide +kernel
theorem dX0_backTo_12 : decode cX0_backTo 12 = .ok (.aload_n 0, 1) := by decide +kernel
theorem dX0_backTo_13 : decode cX0_backTo 13 = .ok (.getfield 48, 3) := by decide +kernel
theorem dX0_backTo_16 : decode cX0_backTo 16 = .ok (.iload_n 1, 1) := by decide +kernel
theorem dX0_backTo_17 : decode cX0_backTo 17 = .ok (.saload, 1) := by decide +kernel
theorem dX0_backTo_18 : decode cX0_backTo 18 = .ok (.istore_n 2, 1) := by decide +kernel
theorem dX0_backTo_19 : decode cX0_backTo 19 = .ok (.iload_n 2, 1) := by decide +kernel
theorem dX0_backTo_20 : decode cX0_backTo 20 = .ok (.aload_n 0, 1) := by decide +kernel
theorem dX0_backTo_21 : decode cX0_backTo 21 = .ok (.getfield 79, 3) := by decide +kernel
theorem dX0_backTo_24 : decode cX0_backTo 24 = .ok (.if_icmp .lt 13, 3) := by decide +kernel
theorem dX0_backTo_27 : decode cX0_backTo 27 = .ok (.aload_n 0, 1) := by decide +kernel
theorem dX0_backTo_28 : decode cX0_backTo 28 = .ok (.getfield 42, 3) := by decide +kernel
theorem dX0_backTo_31 : decode cX0_backTo 31 = .ok (.iload_n 2, 1) := by decide +kernel
theorem dX0_backTo_32 : decode cX0_backTo 32 = .ok (.saload, 1) := by decide +kernel
theorem dX0_backTo_33 : decode cX0_backTo 33 = .ok (.istore_n 2, 1) := by decide +kernel
theorem dX0_backTo_34 : decode cX0_backTo 34 = .ok (.goto (-15), 3) := by decide +kernel
theorem dX0_backTo_37 : decode cX0_backTo 37 = .ok (.iload_n 2, 1) := by decide +kernel
theorem dX0_backTo_38 : decode cX0_backTo 38 = .ok (.ifCond .ge 6, 3) := by decide +kernel
theorem dX0_backTo_41 : decode cX0_backTo 41 = .ok (.bipush (-3), 2) := by decide +kernel
theorem dX0_backTo_43 : decode cX0_backTo 43 = .ok (.ireturn, 1) := by decide +kernel
theorem dX0_backTo_44 : decode cX0_backTo 44 = .ok (.aload_n 0, 1) := by decide +kernel
theorem dX0_backTo_45 : decode cX0_backTo 45 = .ok (.iload_n 2, 1) := by decide +kernel
theorem dX0_backTo_46 : decode cX0_backTo 46 = .ok (.invokevirtual 75, 3) := by decide +kernel
theorem dX0_backTo_49 : decode cX0_backTo 49 = .ok (.iload_n 2, 1) := by decide +kernel
theorem dX0_backTo_50 : decode cX0_backTo 50 = .ok (.ireturn, 1) := by decide +kernel
theorem dX0_backBeforeWrite_0 : decode cX0_backBeforeWrite 0 = .ok (.aload_n 0, 1) := by decide +kernel
theorem dX0_backBeforeWrite_1 : decode cX0_backBeforeWrite 1 = .ok (.iload_n 1, 1) := by decide +kernel
theorem dX0_backBeforeWrite_2 : decode cX0_backBeforeWrite 2 = .ok (.invokevirtual 65, 3) := by decide +kernel
theorem dX0_backBeforeWrite_5 : decode cX0_backBeforeWrite 5 = .ok (.ifCond .ne 5, 3) := by decide +kernel
theorem dX0_backBeforeWrite_8 : decode cX0_backBeforeWrite 8 = .ok (.iconst (-1), 1) := by decide +kernel
theorem dX0_backBeforeWrite_9 : decode cX0_backBeforeWrite 9 = .ok (.ireturn, 1) := by decide +kernel
theorem dX0_backBeforeWrite_10 : decode cX0_backBeforeWrite 10 = .ok (.aload_n 0, 1) := by decide +kernel
theorem dX0_backBeforeWrite_11 : decode cX0_backBeforeWrite 11 = .ok (.iload_n 1, 1) := by decide +kernel
theorem dX0_backBeforeWrite_12 : decode cX0_backBeforeWrite 12 = .ok (.invokevirtual 82, 3) := by decide +kernel
theorem dX0_backBeforeWrite_15 : decode cX0_backBeforeWrite 15 = .ok (.istore_n 2, 1) := by decide +kernel
theorem dX0_backBeforeWrite_16 : decode cX0_backBeforeWrite 16 = .ok (.iload_n 2, 1) := by decide +kernel
theorem dX0_backBeforeWrite_17 : decode cX0_backBeforeWrite 17 = .ok (.ifCond .ne 6, 3) := by decide +kernel
theorem dX0_backBeforeWrite_20 : decode cX0_backBeforeWrite 20 = .ok (.bipush (-3), 2) := by decide +kernel
theorem dX0_backBeforeWrite_22 : decode cX0_backBeforeWrite 22 = .ok (.ireturn, 1) := by decide +kernel
theorem dX0_backBeforeWrite_23 : decode cX0_backBeforeWrite 23 = .ok (.aload_n 0, 1) := by decide +kernel
theorem dX0_backBeforeWrite_24 : decode cX0_backBeforeWrite 24 = .ok (.iload_n 2, 1) := by decide +kernel
theorem dX0_backBeforeWrite_25 : decode cX0_backBeforeWrite 25 = .ok (.iconst 1, 1) := by decide +kernel
theorem dX0_backBeforeWrite_26 : decode cX0_backBeforeWrite 26 = .ok (.isub, 1) := by decide +kernel
theorem dX0_backBeforeWrite_27 : decode cX0_backBeforeWrite 27 = .ok (.invokevirtual 75, 3) := by decide +kernel
theorem dX0_backBeforeWrite_30 : decode cX0_backBeforeWrite 30 = .ok (.iload_n 2, 1) := by decide +kernel
theorem dX0_backBeforeWrite_31 : decode cX0_backBeforeWrite 31 = .ok (.iconst 1, 1) := by decide +kernel
theorem dX0_backBeforeWrite_32 : decode cX0_backBeforeWrite 32 = .ok (.isub, 1) := by decide +kernel
theorem dX0_backBeforeWrite_33 : decode cX0_backBeforeWrite 33 = .ok (.ireturn, 1) := by decide +kernel
end
section
set_option maxRecDepth 100000
theorem dX1_init_0 : decode cX1_init 0 = .ok (.aload_n 0, 1) := by decide +kernel
theorem dX1_init_1 : decode cX1_init 1 = .ok (.invokespecial 1, 3) := by decide +kernel
theorem dX1_init_4 : decode cX1_init 4 = .ok (.aload_n 0, 1) := by decide +kernel
theorem dX1_init_5 : decode cX1_init 5 = .ok (.iconst 0, 1) := by decide +kernel
theorem dX1_init_6 : decode cX1_init 6 = .ok (.putfield 7, 3) := by decide +kernel
theorem dX1_init_9 : decode cX1_init 9 = .ok (.aload_n 0, 1) := by decide +kernel
theorem dX1_init_10 : decode cX1_init 10 = .ok (.bipush 20, 2) := by decide +kernel
theorem dX1_init_12 : decode cX1_init 12 = .ok (.newarray .int, 2) := by decide +kernel
theorem dX1_init_14 : decode cX1_init 14 = .ok (.putfield 13, 3) := by decide +kernel
theorem dX1_init_17 : decode cX1_init 17 = .ok (.aload_n 0, 1) := by decide +kernel
theorem dX1_init_18 : decode cX1_init 18 = .ok (.bipush 20, 2) := by decide +kernel
theorem dX1_init_20 : decode cX1_init 20 = .ok (.newarray .int, 2) := by decide +kernel
theorem dX1_init_22 : decode cX1_init 22 = .ok (.putfield 17, 3) := by decide +kernel
theorem dX1_init_25 : decode cX1_init 25 = .ok (.aload_n 0, 1) := by decide +kernel
theorem dX1_init_26 : decode cX1_init 26 = .ok (.bipush 20, 2) := by decide +kernel
theorem dX1_init_28 : decode cX1_init 28 = .ok (.newarray .int, 2) := by decide +kernel
theorem dX1_init_30 : decode cX1_init 30 = .ok (.putfield 20, 3) := by decide +kernel
theorem dX1_init_33 : decode cX1_init 33 = .ok (.aload_n 0, 1) := by decide +kernel
theorem dX1_init_34 : decode cX1_init 34 = .ok (.bipush 20, 2) := by decide +kernel
theorem dX1_init_36 : decode cX1_init 36 = .ok (.newarray .int, 2) := by decide +kernel
theorem dX1_init_38 : decode cX1_init 38 = .ok (.putfield 23, 3) := by decide +kernel
theorem dX1_init_41 : decode cX1_init 41 = .ok (.aload_n 0, 1) := by decide +kernel
theorem dX1_init_42 : decode cX1_init 42 = .ok (.iconst 0, 1) := by decide +kernel
theorem dX1_init_43 : decode cX1_init 43 = .ok (.putfield 26, 3) := by decide +kernel
theorem dX1_init_46 : decode cX1_init 46 = .ok (.aload_n 0, 1) := by decide +kernel
theorem dX1_init_47 : decode cX1_init 47 = .ok (.iconst 0, 1) := by decide +kernel
theorem dX1_init_48 : decode cX1_init 48 = .ok (.putfield 29, 3) := by decide +kernel
theorem dX1_init_51 : decode cX1_init 51 = .ok (.aload_n 0, 1) := by decide +kernel
theorem dX1_init_52 : decode cX1_init 52 = .ok (.bipush 6, 2) := by decide +kernel
theorem dX1_init_54 : decode cX1_init 54 = .ok (.newarray .int, 2) := by decide +kernel
theorem dX1_init_56 : decode cX1_init 56 = .ok (.putfield 32, 3) := by decide +kernel
theorem dX1_init_59 : decode cX1_init 59 = .ok (.aload_n 0, 1) := by decide +kernel
theorem dX1_init_60 : decode cX1_init 60 = .ok (.bipush 8, 2) := by decide +kernel
theorem dX1_init_62 : decode cX1_init 62 = .ok (.newarray .int, 2) := by decide +kernel
theorem dX1_init_64 : decode cX1_init 64 = .ok (.putfield 35, 3) := by decide +kernel
theorem dX1_init_67 : decode cX1_init 67 = .ok (.return_, 1) := by decide +kernel
theorem dX1_emit_0 : decode cX1_emit 0 = .ok (.aload_n 0, 1) := by decide +kernel
theorem dX1_emit_1 : decode cX1_emit 1 = .ok (.getfield 7, 3) := by decide +kernel
theorem dX1_emit_4 : decode cX1_emit 4 = .ok (.bipush 20, 2) := by decide +kernel
theorem dX1_emit_6 : decode cX1_emit 6 = .ok (.if_icmp .ne 6, 3) := by decide +kernel
theorem dX1_emit_9 : decode cX1_emit 9 = .ok (.bipush (-2), 2) := by decide +kernel
theorem dX1_emit_11 : decode cX1_emit 11 = .ok (.ireturn, 1) := by decide +kernel
theorem dX1_emit_12 : decode cX1_emit 12 = .ok (.aload_n 0, 1) := by decide +kernel
theorem dX1_emit_13 : decode cX1_emit 13 = .ok (.iload_n 1, 1) := by decide +kernel
theorem dX1_emit_14 : decode cX1_emit 14 = .ok (.iload_n 2, 1) := by decide +kernel
theorem dX1_emit_15 : decode cX1_emit 15 = .ok (.iload_n 3, 1) := by decide +kernel
theorem dX1_emit_16 : decode cX1_emit 16 = .ok (.iload 4, 2) := by decide +kernel
theorem dX1_emit_18 : decode cX1_emit 18 = .ok (.invokevirtual 45, 3) := by decide +kernel
theorem dX1_emit_21 : decode cX1_emit 21 = .ok (.ifCond .ne 5, 3) := by decide +kernel
theorem dX1_emit_24 : decode cX1_emit 24 = .ok (.iconst (-1), 1) := by decide +kernel
theorem dX1_emit_25 : decode cX1_emit 25 = .ok (.ireturn, 1) := by decide +kernel
theorem dX1_emit_26 : decode cX1_emit 26 = .ok (.aload_n 0, 1) := by decide +kernel
theorem dX1_emit_27 : decode cX1_emit 27 = .ok (.getfield 13, 3) := by decide +kernel
theorem dX1_emit_30 : decode cX1_emit 30 = .ok (.aload_n 0, 1) := by decide +kernel
theorem dX1_emit_31 : decode cX1_emit 31 = .ok (.getfield 7, 3) := by decide +kernel
theorem dX1_emit_34 : decode cX1_emit 34 = .ok (.iload_n 1, 1) := by decide +kernel
theorem dX1_emit_35 : decode cX1_emit 35 = .ok (.iastore, 1) := by decide +kernel
theorem dX1_emit_36 : decode cX1_emit 36 = .ok (.aload_n 0, 1) := by decide +kernel
theorem dX1_emit_37 : decode cX1_emit 37 = .ok (.getfield 17, 3) := by decide +kernel
theorem dX1_emit_40 : decode cX1_emit 40 = .ok (.aload_n 0, 1) := by decide +kernel
theorem dX1_emit_41 : decode cX1_emit 41 = .ok (.getfield 7, 3) := by decide +kernel
theorem dX1_emit_44 : decode cX1_emit 44 = .ok (.iload_n 2, 1) := by decide +kernel
theorem dX1_emit_45 : decode cX1_emit 45 = .ok (.iastore, 1) := by decide +kernel
theorem dX1_emit_46 : decode cX1_emit 46 = .ok (.aload_n 0, 1) := by decide +kernel
theorem dX1_emit_47 : decode cX1_emit 47 = .ok (.getfield 20, 3) := by decide +kernel
theorem dX1_emit_50 : decode cX1_emit 50 = .ok (.aload_n 0, 1) := by decide +kernel
theorem dX1_emit_51 : decode cX1_emit 51 = .ok (.getfield 7, 3) := by decide +kernel
theorem dX1_emit_54 : decode cX1_emit 54 = .ok (.iload_n 3, 1) := by decide +kernel
theorem dX1_emit_55 : decode cX1_emit 55 = .ok (.iastore, 1) := by decide +kernel
theorem dX1_emit_56 : decode cX1_emit 56 = .ok (.aload_n 0, 1) := by decide +kernel
theorem dX1_emit_57 : decode cX1_emit 57 = .ok (.getfield 23, 3) := by decide +kernel
theorem dX1_emit_60 : decode cX1_emit 60 = .ok (.aload_n 0, 1) := by decide +kernel
theorem dX1_emit_61 : decode cX1_emit 61 = .ok (.getfield 7, 3) := by decide +kernel
theorem dX1_emit_64 : decode cX1_emit 64 = .ok (.iload 4, 2) := by decide +kernel
theorem dX1_emit_66 : decode cX1_emit 66 = .ok (.iastore, 1) := by decide +kernel
theorem dX1_emit_67 : decode cX1_emit 67 = .ok (.aload_n 0, 1) := by decide +kernel
theorem dX1_emit_68 : decode cX1_emit 68 = .ok (.dup, 1) := by decide +kernel
theorem dX1_emit_69 : decode cX1_emit 69 = .ok (.getfield 7, 3) := by decide +kernel
theorem dX1_emit_72 : decode cX1_emit 72 = .ok (.iconst 1, 1) := by decide +kernel
theorem dX1_emit_73 : decode cX1_emit 73 = .ok (.iadd, 1) := by decide +kernel
theorem dX1_emit_74 : decode cX1_emit 74 = .ok (.putfield 7, 3) := by decide +kernel
theorem dX1_emit_77 : decode cX1_emit 77 = .ok (.aload_n 0, 1) := by decide +kernel
theorem dX1_emit_78 : decode cX1_emit 78 = .ok (.iconst 0, 1) := by decide +kernel
theorem dX1_emit_79 : decode cX1_emit 79 = .ok (.putfield 29, 3) := by decide +kernel
theorem dX1_emit_82 : decode cX1_emit 82 = .ok (.aload_n 0, 1) := by decide +kernel
theorem dX1_emit_83 : decode cX1_emit 83 = .ok (.getfield 7, 3) := by decide +kernel
theorem dX1_emit_86 : decode cX1_emit 86 = .ok (.ireturn, 1) := by decide +kernel
theorem dX1_fits_0 : decode cX1_fits 0 = .ok (.iload_n 1, 1) := by decide +kernel
theorem dX1_fits_1 : decode cX1_fits 1 = .ok (.ifCond .lt 9, 3) := by decide +kernel
theorem dX1_fits_4 : decode cX1_fits 4 = .ok (.iload_n 1, 1) := by decide +kernel
theorem dX1_fits_5 : decode cX1_fits 5 = .ok (.bipush 8, 2) := by decide +kernel
theorem dX1_fits_7 : decode cX1_fits 7 = .ok (.if_icmp .le 5, 3) := by decide +kernel
theorem dX1_fits_10 : decode cX1_fits 10 = .ok (.iconst 0, 1) := by decide +kernel
theorem dX1_fits_11 : decode cX1_fits 11 = .ok (.ireturn, 1) := by decide +kernel
theorem dX1_fits_12 : decode cX1_fits 12 = .ok (.iload_n 1, 1) := by decide +kernel
theorem dX1_fits_13 : decode cX1_fits 13 = .ok (.bipush 8, 2) := by decide +kernel
theorem dX1_fits_15 : decode cX1_fits 15 = .ok (.if_icmp .ne 5, 3) := by decide +kernel
theorem dX1_fits_18 : decode cX1_fits 18 = .ok (.iconst 1, 1) := by decide +kernel
theorem dX1_fits_19 : decode cX1_fits 19 = .ok (.ireturn, 1) := by decide +kernel
theorem dX1_fits_20 : decode cX1_fits 20 = .ok (.iload_n 1, 1) := by decide +kernel
theorem dX1_fits_21 : decode cX1_fits 21 = .ok (.bipush 7, 2) := by decide +kernel
theorem dX1_fits_23 : decode cX1_fits 23 = .ok (.if_icmp .ne 9, 3) := by decide +kernel
theorem dX1_fits_26 : decode cX1_fits 26 = .ok (.aload_n 0, 1) := by decide +kernel
theorem dX1_fits_27 : decode cX1_fits 27 = .ok (.iload_n 2, 1) := by decide +kernel
theorem dX1_fits_28 : decode cX1_fits 28 = .ok (.invokevirtual 38, 3) := by decide +kernel
theorem dX1_fits_31 : decode cX1_fits 31 = .ok (.ireturn, 1) := by decide +kernel
theorem dX1_fits_32 : decode cX1_fits 32 = .ok (.aload_n 0, 1) := by decide +kernel
theorem dX1_fits_33 : decode cX1_fits 33 = .ok (.iload_n 2, 1) := by decide +kernel
theorem dX1_fits_34 : decode cX1_fits 34 = .ok (.invokevirtual 42, 3) := by decide +kernel
theorem dX1_fits_37 : decode cX1_fits 37 = .ok (.ifCond .ne 5, 3) := by decide +kernel
theorem dX1_fits_40 : decode cX1_fits 40 = .ok (.iconst 0, 1) := by decide +kernel
theorem dX1_fits_41 : decode cX1_fits 41 = .ok (.ireturn, 1) := by decide +kernel
theorem dX1_fits_42 : decode cX1_fits 42 = .ok (.iload_n 1, 1) := by decide +kernel
theorem dX1_fits_43 : decode cX1_fits 43 = .ok (.bipush 6, 2) := by decide +kernel
theorem dX1_fits_45 : decode cX1_fits 45 = .ok (.if_icmp .ne 9, 3) := by decide +kernel
theorem dX1_fits_48 : decode cX1_fits 48 = .ok (.aload_n 0, 1) := by decide +kernel
theorem dX1_fits_49 : decode cX1_fits 49 = .ok (.iload_n 3, 1) := by decide +kernel
theorem dX1_fits_50 : decode cX1_fits 50 = .ok (.invokevirtual 38, 3) := by decide +kernel
theorem dX1_fits_53 : decode cX1_fits 53 = .ok (.ireturn, 1) := by decide +kernel
theorem dX1_fits_54 : decode cX1_fits 54 = .ok (.iload_n 1, 1) := by decide +kernel
theorem dX1_fits_55 : decode cX1_fits 55 = .ok (.iconst 1, 1) := by decide +kernel
theorem dX1_fits_56 : decode cX1_fits 56 = .ok (.if_icmp .lt 13, 3) := by decide +kernel
theorem dX1_fits_59 : decode cX1_fits 59 = .ok (.aload_n 0, 1) := by decide +kernel
theorem dX1_fits_60 : decode cX1_fits 60 = .ok (.iload_n 3, 1) := by decide +kernel
theorem dX1_fits_61 : decode cX1_fits 61 = .ok (.invokevirtual 42, 3) := by decide +kernel
theorem dX1_fits_64 : decode cX1_fits 64 = .ok (.ifCond .ne 5, 3) := by decide +kernel
theorem dX1_fits_67 : decode cX1_fits 67 = .ok (.iconst 0, 1) := by decide +kernel
theorem dX1_fits_68 : decode cX1_fits 68 = .ok (.ireturn, 1) := by decide +kernel
theorem dX1_fits_69 : decode cX1_fits 69 = .ok (.iload_n 1, 1) := by decide +kernel
theorem dX1_fits_70 : decode cX1_fits 70 = .ok (.iconst 1, 1) := by decide +kernel
theorem dX1_fits_71 : decode cX1_fits 71 = .ok (.if_icmp .lt 17, 3) := by decide +kernel
theorem dX1_fits_74 : decode cX1_fits 74 = .ok (.iload_n 1, 1) := by decide +kernel
theorem dX1_fits_75 : decode cX1_fits 75 = .ok (.iconst 3, 1) := by decide +kernel
theorem dX1_fits_76 : decode cX1_fits 76 = .ok (.if_icmp .gt 12, 3) := by decide +kernel
theorem dX1_fits_79 : decode cX1_fits 79 = .ok (.aload_n 0, 1) := by decide +kernel
theorem dX1_fits_80 : decode cX1_fits 80 = .ok (.iload 4, 2) := by decide +kernel
theorem dX1_fits_82 : decode cX1_fits 82 = .ok (.invokevirtual 42, 3) := by decide +kernel
theorem dX1_fits_85 : decode cX1_fits 85 = .ok (.ifCond .eq 7, 3) := by decide +kernel
theorem dX1_fits_88 : decode cX1_fits 88 = .ok (.iconst 1, 1) := by decide +kernel
theorem dX1_fits_89 : decode cX1_fits 89 = .ok (.goto 4, 3) := by decide +kernel
theorem dX1_fits_92 : decode cX1_fits 92 = .ok (.iconst 0, 1) := by decide +kernel
theorem dX1_fits_93 : decode cX1_fits 93 = .ok (.ireturn, 1) := by decide +kernel
theorem dX1_isPlace_0 : decode cX1_isPlace 0 = .ok (.iload_n 1, 1) := by decide +kernel
theorem dX1_isPlace_1 : decode cX1_isPlace 1 = .ok (.ifCond .lt 13, 3) := by decide +kernel
theorem dX1_isPlace_4 : decode cX1_isPlace 4 = .ok (.iload_n 1, 1) := by decide +kernel
theorem dX1_isPlace_5 : decode cX1_isPlace 5 = .ok (.bipush 19, 2) := by decide +kernel
theorem dX1_isPlace_7 : decode cX1_isPlace 7 = .ok (.if_icmp .gt 7, 3) := by decide +kernel
theorem dX1_isPlace_10 : decode cX1_isPlace 10 = .ok (.iconst 1, 1) := by decide +kernel
theorem dX1_isPlace_11 : decode cX1_isPlace 11 = .ok (.goto 4, 3) := by decide +kernel
theorem dX1_isPlace_14 : decode cX1_isPlace 14 = .ok (.iconst 0, 1) := by decide +kernel
theorem dX1_isPlace_15 : decode cX1_isPlace 15 = .ok (.ireturn, 1) := by decide +kernel
theorem dX1_isVariable_0 : decode cX1_isVariable 0 = .ok (.iload_n 1, 1) := by decide +kernel
theorem dX1_isVariable_1 : decode cX1_isVariable 1 = .ok (.ifCond .lt 12, 3) := by decide +kernel
theorem dX1_isVariable_4 : decode cX1_isVariable 4 = .ok (.iload_n 1, 1) := by decide +kernel
theorem dX1_isVariable_5 : decode cX1_isVariable 5 = .ok (.iconst 5, 1) := by decide +kernel
theorem dX1_isVariable_6 : decode cX1_isVariable 6 = .ok (.if_icmp .gt 7, 3) := by decide +kernel
theorem dX1_isVariable_9 : decode cX1_isVariable 9 = .ok (.iconst 1, 1) := by decide +kernel
theorem dX1_isVariable_10 : decode cX1_isVariable 10 = .ok (.goto 4, 3) := by decide +kernel
theorem dX1_isVariable_13 : decode cX1_isVariable 13 = .ok (.iconst 0, 1) := by decide +kernel
theorem dX1_isVariable_14 : decode cX1_isVariable 14 = .ok (.ireturn, 1) := by decide +kernel
theorem dX1_input_0 : decode cX1_input 0 = .ok (.aload_n 0, 1) := by decide +kernel
theorem dX1_input_1 : decode cX1_input 1 = .ok (.iload_n 1, 1) := by decide +kernel
theorem dX1_input_2 : decode cX1_input 2 = .ok (.putfield 26, 3) := by decide +kernel
theorem dX1_input_5 : decode cX1_input 5 = .ok (.aload_n 0, 1) := by decide +kernel
theorem dX1_input_6 : decode cX1_input 6 = .ok (.iconst 0, 1) := by decide +kernel
theorem dX1_input_7 : decode cX1_input 7 = .ok (.putfield 29, 3) := by decide +kernel
theorem dX1_input_10 : decode cX1_input 10 = .ok (.aload_n 0, 1) := by decide +kernel
theorem dX1_input_11 : decode cX1_input 11 = .ok (.invokevirtual 49, 3) := by decide +kernel
theorem dX1_input_14 : decode cX1_input 14 = .ok (.ireturn, 1) := by decide +kernel
theorem dX1_steps_0 : decode cX1_steps 0 = .ok (.aload_n 0, 1) := by decide +kernel
theorem dX1_steps_1 : decode cX1_steps 1 = .ok (.invokevirtual 70, 3) := by decide +kernel
theorem dX1_steps_4 : decode cX1_steps 4 = .ok (.iconst 0, 1) := by decide +kernel
theorem dX1_steps_5 : decode cX1_steps 5 = .ok (.istore_n 1, 1) := by decide +kernel
theorem dX1_steps_6 : decode cX1_steps 6 = .ok (.iconst 0, 1) := by decide +kernel
theorem dX1_steps_7 : decode cX1_steps 7 = .ok (.istore_n 2, 1) := by decide +kernel
theorem dX1_steps_8 : decode cX1_steps 8 = .ok (.iload_n 2, 1) := by decide +kernel
theorem dX1_steps_9 : decode cX1_steps 9 = .ok (.sipush 200, 3) := by decide +kernel
theorem dX1_steps_12 : decode cX1_steps 12 = .ok (.if_icmp .ge 23, 3) := by decide +kernel
theorem dX1_steps_15 : decode cX1_steps 15 = .ok (.aload_n 0, 1) := by decide +kernel
theorem dX1_steps_16 : decode cX1_steps 16 = .ok (.invokevirtual 76, 3) := by decide +kernel
theorem dX1_steps_19 : decode cX1_steps 19 = .ok (.ifCond .ne 16, 3) := by decide +kernel
theorem dX1_steps_22 : decode cX1_steps 22 = .ok (.aload_n 0, 1) := by decide +kernel
theorem dX1_steps_23 : decode cX1_steps 23 = .ok (.invokevirtual 73, 3) := by decide +kernel
theorem dX1_steps_26 : decode cX1_steps 26 = .ok (.iinc 1 1, 3) := by decide +kernel
theorem dX1_steps_29 : decode cX1_steps 29 = .ok (.iinc 2 1, 3) := by decide +kernel
theorem dX1_steps_32 : decode cX1_steps 32 = .ok (.goto (-24), 3) := by decide +kernel
theorem dX1_steps_35 : decode cX1_steps 35 = .ok (.iload_n 1, 1) := by decide +kernel
theorem dX1_steps_36 : decode cX1_steps 36 = .ok (.ireturn, 1) := by decide +kernel
theorem dX1_begin_0 : decode cX1_begin 0 = .ok (.iconst 0, 1) := by decide +kernel
theorem dX1_begin_1 : decode cX1_begin 1 = .ok (.istore_n 1, 1) := by decide +kernel
theorem dX1_begin_2 : decode cX1_begin 2 = .ok (.iload_n 1, 1) := by decide +kernel
theorem dX1_begin_3 : decode cX1_begin 3 = .ok (.iconst 5, 1) := by decide +kernel
theorem dX1_begin_4 : decode cX1_begin 4 = .ok (.if_icmp .ge 16, 3) := by decide +kernel
theorem dX1_begin_7 : decode cX1_begin 7 = .ok (.aload_n 0, 1) := by decide +kernel
theorem dX1_begin_8 : decode cX1_begin 8 = .ok (.getfield 32, 3) := by decide +kernel
theorem dX1_begin_11 : decode cX1_begin 11 = .ok (.iload_n 1, 1) := by decide +kernel
theorem dX1_begin_12 : decode cX1_begin 12 = .ok (.iconst 0, 1) := by decide +kernel
theorem dX1_begin_13 : decode cX1_begin 13 = .ok (.iastore, 1) := by decide +kernel
theorem dX1_begin_14 : decode cX1_begin 14 = .ok (.iinc 1 1, 3) := by decide +kernel
theorem dX1_begin_17 : decode cX1_begin 17 = .ok (.goto (-15), 3) := by decide +kernel
theorem dX1_begin_20 : decode cX1_begin 20 = .ok (.aload_n 0, 1) := by decide +kernel
theorem dX1_begin_21 : decode cX1_begin 21 = .ok (.getfield 32, 3) := by decide +kernel
theorem dX1_begin_24 : decode cX1_begin 24 = .ok (.iconst 5, 1) := by decide +kernel
theorem dX1_begin_25 : decode cX1_begin 25 = .ok (.aload_n 0, 1) := by decide +kernel
theorem dX1_begin_26 : decode cX1_begin 26 = .ok (.getfield 26, 3) := by decide +kernel
theorem dX1_begin_29 : decode cX1_begin 29 = .ok (.iastore, 1) := by decide +kernel
theorem dX1_begin_30 : decode cX1_begin 30 = .ok (.iconst 0, 1) := by decide +kernel
theorem dX1_begin_31 : decode cX1_begin 31 = .ok (.istore_n 1, 1) := by decide +kernel
theorem dX1_begin_32 : decode cX1_begin 32 = .ok (.iload_n 1, 1) := by decide +kernel
theorem dX1_begin_33 : decode cX1_begin 33 = .ok (.bipush 8, 2) := by decide +kernel
theorem dX1_begin_35 : decode cX1_begin 35 = .ok (.if_icmp .ge 16, 3) := by decide +kernel
theorem dX1_begin_38 : decode cX1_begin 38 = .ok (.aload_n 0, 1) := by decide +kernel
theorem dX1_begin_39 : decode cX1_begin 39 = .ok (.getfield 35, 3) := by decide +kernel
theorem dX1_begin_42 : decode cX1_begin 42 = .ok (.iload_n 1, 1) := by decide +kernel
theorem dX1_begin_43 : decode cX1_begin 43 = .ok (.iconst 0, 1) := by decide +kernel
theorem dX1_begin_44 : decode cX1_begin 44 = .ok (.iastore, 1) := by decide +kernel
theorem dX1_begin_45 : decode cX1_begin 45 = .ok (.iinc 1 1, 3) := by decide +kernel
theorem dX1_begin_48 : decode cX1_begin 48 = .ok (.goto (-16), 3) := by decide +kernel
theorem dX1_begin_51 : decode cX1_begin 51 = .ok (.aload_n 0, 1) := by decide +kernel
theorem dX1_begin_52 : decode cX1_begin 52 = .ok (.iconst 0, 1) := by decide +kernel
theorem dX1_begin_53 : decode cX1_begin 53 = .ok (.putfield 53, 3) := by decide +kernel
theorem dX1_begin_56 : decode cX1_begin 56 = .ok (.aload_n 0, 1) := by decide +kernel
theorem dX1_begin_57 : decode cX1_begin 57 = .ok (.iconst 0, 1) := by decide +kernel
theorem dX1_begin_58 : decode cX1_begin 58 = .ok (.putfield 56, 3) := by decide +kernel
theorem dX1_begin_61 : decode cX1_begin 61 = .ok (.return_, 1) := by decide +kernel
theorem dX1_ended_0 : decode cX1_ended 0 = .ok (.aload_n 0, 1) := by decide +kernel
theorem dX1_ended_1 : decode cX1_ended 1 = .ok (.getfield 56, 3) := by decide +kernel
theorem dX1_ended_4 : decode cX1_ended 4 = .ok (.ifCond .ne 14, 3) := by decide +kernel
theorem dX1_ended_7 : decode cX1_ended 7 = .ok (.aload_n 0, 1) := by decide +kernel
theorem dX1_ended_8 : decode cX1_ended 8 = .ok (.getfield 53, 3) := by decide +kernel
theorem dX1_ended_11 : decode cX1_ended 11 = .ok (.aload_n 0, 1) := by decide +kernel
theorem dX1_ended_12 : decode cX1_ended 12 = .ok (.getfield 7, 3) := by decide +kernel
theorem dX1_ended_15 : decode cX1_ended 15 = .ok (.if_icmp .lt 7, 3) := by decide +kernel
theorem dX1_ended_18 : decode cX1_ended 18 = .ok (.iconst 1, 1) := by decide +kernel
theorem dX1_ended_19 : decode cX1_ended 19 = .ok (.goto 4, 3) := by decide +kernel
theorem dX1_ended_22 : decode cX1_ended 22 = .ok (.iconst 0, 1) := by decide +kernel
theorem dX1_ended_23 : decode cX1_ended 23 = .ok (.ireturn, 1) := by decide +kernel
theorem dX1_step_0 : decode cX1_step 0 = .ok (.aload_n 0, 1) := by decide +kernel
theorem dX1_step_1 : decode cX1_step 1 = .ok (.getfield 53, 3) := by decide +kernel
theorem dX1_step_4 : decode cX1_step 4 = .ok (.istore_n 1, 1) := by decide +kernel
theorem dX1_step_5 : decode cX1_step 5 = .ok (.aload_n 0, 1) := by decide +kernel
theorem dX1_step_6 : decode cX1_step 6 = .ok (.getfield 17, 3) := by decide +kernel
theorem dX1_step_9 : decode cX1_step 9 = .ok (.iload_n 1, 1) := by decide +kernel
theorem dX1_step_10 : decode cX1_step 10 = .ok (.iaload, 1) := by decide +kernel
theorem dX1_step_11 : decode cX1_step 11 = .ok (.istore_n 2, 1) := by decide +kernel
theorem dX1_step_12 : decode cX1_step 12 = .ok (.aload_n 0, 1) := by decide +kernel
theorem dX1_step_13 : decode cX1_step 13 = .ok (.getfield 20, 3) := by decide +kernel
theorem dX1_step_16 : decode cX1_step 16 = .ok (.iload_n 1, 1) := by decide +kernel
theorem dX1_step_17 : decode cX1_step 17 = .ok (.iaload, 1) := by decide +kernel
theorem dX1_step_18 : decode cX1_step 18 = .ok (.istore_n 3, 1) := by decide +kernel
theorem dX1_step_19 : decode cX1_step 19 = .ok (.aload_n 0, 1) := by decide +kernel
theorem dX1_step_20 : decode cX1_step 20 = .ok (.iconst (-1), 1) := by decide +kernel
theorem dX1_step_21 : decode cX1_step 21 = .ok (.putfield 60, 3) := by decide +kernel
theorem dX1_step_24 : decode cX1_step 24 = .ok (.aload_n 0, 1) := by decide +kernel
theorem dX1_step_25 : decode cX1_step 25 = .ok (.iconst (-1), 1) := by decide +kernel
theorem dX1_step_26 : decode cX1_step 26 = .ok (.putfield 63, 3) := by decide +kernel
theorem dX1_step_29 : decode cX1_step 29 = .ok (.aload_n 0, 1) := by decide +kernel
theorem dX1_step_30 : decode cX1_step 30 = .ok (.dup, 1) := by decide +kernel
theorem dX1_step_31 : decode cX1_step 31 = .ok (.getfield 53, 3) := by decide +kernel
theorem dX1_step_34 : decode cX1_step 34 = .ok (.iconst 1, 1) := by decide +kernel
theorem dX1_step_35 : decode cX1_step 35 = .ok (.iadd, 1) := by decide +kernel
theorem dX1_step_36 : decode cX1_step 36 = .ok (.putfield 53, 3) := by decide +kernel
theorem dX1_step_39 : decode cX1_step 39 = .ok (.aload_n 0, 1) := by decide +kernel
theorem dX1_step_40 : decode cX1_step 40 = .ok (.getfield 13, 3) := by decide +kernel
theorem dX1_step_43 : decode cX1_step 43 = .ok (.iload_n 1, 1) := by decide +kernel
theorem dX1_step_44 : decode cX1_step 44 = .ok (.iaload, 1) := by decide +kernel
theorem dX1_step_45 : decode cX1_step 45 = .ok (.ifCond .ne 12, 3) := by decide +kernel
theorem dX1_step_48 : decode cX1_step 48 = .ok (.aload_n 0, 1) := by decide +kernel
theorem dX1_step_49 : decode cX1_step 49 = .ok (.iload_n 2, 1) := by decide +kernel
theorem dX1_step_50 : decode cX1_step 50 = .ok (.iload_n 3, 1) := by decide +kernel
theorem dX1_step_51 : decode cX1_step 51 = .ok (.invokevirtual 66, 3) := by decide +kernel
theorem dX1_step_54 : decode cX1_step 54 = .ok (.goto 252, 3) := by decide +kernel
theorem dX1_step_57 : decode cX1_step 57 = .ok (.aload_n 0, 1) := by decide +kernel
theorem dX1_step_58 : decode cX1_step 58 = .ok (.getfield 13, 3) := by decide +kernel
theorem dX1_step_61 : decode cX1_step 61 = .ok (.iload_n 1, 1) := by decide +kernel
theorem dX1_step_62 : decode cX1_step 62 = .ok (.iaload, 1) := by decide +kernel
theorem dX1_step_63 : decode cX1_step 63 = .ok (.iconst 1, 1) := by decide +kernel
theorem dX1_step_64 : decode cX1_step 64 = .ok (.if_icmp .ne 29, 3) := by decide +kernel
theorem dX1_step_67 : decode cX1_step 67 = .ok (.aload_n 0, 1) := by decide +kernel
theorem dX1_step_68 : decode cX1_step 68 = .ok (.iload_n 2, 1) := by decide +kernel
theorem dX1_step_69 : decode cX1_step 69 = .ok (.aload_n 0, 1) := by decide +kernel
theorem dX1_step_70 : decode cX1_step 70 = .ok (.getfield 32, 3) := by decide +kernel
theorem dX1_step_73 : decode cX1_step 73 = .ok (.iload_n 3, 1) := by decide +kernel
theorem dX1_step_74 : decode cX1_step 74 = .ok (.iaload, 1) := by decide +kernel
theorem dX1_step_75 : decode cX1_step 75 = .ok (.aload_n 0, 1) := by decide +kernel
theorem dX1_step_76 : decode cX1_step 76 = .ok (.getfield 32, 3) := by decide +kernel
theorem dX1_step_79 : decode cX1_step 79 = .ok (.aload_n 0, 1) := by decide +kernel
theorem dX1_step_80 : decode cX1_step 80 = .ok (.getfield 23, 3) := by decide +kernel
theorem dX1_step_83 : decode cX1_step 83 = .ok (.iload_n 1, 1) := by decide +kernel
theorem dX1_step_84 : decode cX1_step 84 = .ok (.iaload, 1) := by decide +kernel
theorem dX1_step_85 : decode cX1_step 85 = .ok (.iaload, 1) := by decide +kernel
theorem dX1_step_86 : decode cX1_step 86 = .ok (.iadd, 1) := by decide +kernel
theorem dX1_step_87 : decode cX1_step 87 = .ok (.invokevirtual 66, 3) := by decide +kernel
theorem dX1_step_90 : decode cX1_step 90 = .ok (.goto 216, 3) := by decide +kernel
theorem dX1_step_93 : decode cX1_step 93 = .ok (.aload_n 0, 1) := by decide +kernel
theorem dX1_step_94 : decode cX1_step 94 = .ok (.getfield 13, 3) := by decide +kernel
theorem dX1_step_97 : decode cX1_step 97 = .ok (.iload_n 1, 1) := by decide +kernel
theorem dX1_step_98 : decode cX1_step 98 = .ok (.iaload, 1) := by decide +kernel
theorem dX1_step_99 : decode cX1_step 99 = .ok (.iconst 2, 1) := by decide +kernel
theorem dX1_step_100 : decode cX1_step 100 = .ok (.if_icmp .ne 29, 3) := by decide +kernel
end
section
set_option maxRecDepth 100000
theorem dX1_step_103 : decode cX1_step 103 = .ok (.aload_n 0, 1) := by decide +kernel
theorem dX1_step_104 : decode cX1_step 104 = .ok (.iload_n 2, 1) := by decide +kernel
theorem dX1_step_105 : decode cX1_step 105 = .ok (.aload_n 0, 1) := by decide +kernel
theorem dX1_step_106 : decode cX1_step 106 = .ok (.getfield 32, 3) := by decide +kernel
theorem dX1_step_109 : decode cX1_step 109 = .ok (.iload_n 3, 1) := by decide +kernel
theorem dX1_step_110 : decode cX1_step 110 = .ok (.iaload, 1) := by decide +kernel
theorem dX1_step_111 : decode cX1_step 111 = .ok (.aload_n 0, 1) := by decide +kernel
theorem dX1_step_112 : decode cX1_step 112 = .ok (.getfield 32, 3) := by decide +kernel
theorem dX1_step_115 : decode cX1_step 115 = .ok (.aload_n 0, 1) := by decide +kernel
theorem dX1_step_116 : decode cX1_step 116 = .ok (.getfield 23, 3) := by decide +kernel
theorem dX1_step_119 : decode cX1_step 119 = .ok (.iload_n 1, 1) := by decide +kernel
theorem dX1_step_120 : decode cX1_step 120 = .ok (.iaload, 1) := by decide +kernel
theorem dX1_step_121 : decode cX1_step 121 = .ok (.iaload, 1) := by decide +kernel
theorem dX1_step_122 : decode cX1_step 122 = .ok (.isub, 1) := by decide +kernel
theorem dX1_step_123 : decode cX1_step 123 = .ok (.invokevirtual 66, 3) := by decide +kernel
theorem dX1_step_126 : decode cX1_step 126 = .ok (.goto 180, 3) := by decide +kernel
theorem dX1_step_129 : decode cX1_step 129 = .ok (.aload_n 0, 1) := by decide +kernel
theorem dX1_step_130 : decode cX1_step 130 = .ok (.getfield 13, 3) := by decide +kernel
theorem dX1_step_133 : decode cX1_step 133 = .ok (.iload_n 1, 1) := by decide +kernel
theorem dX1_step_134 : decode cX1_step 134 = .ok (.iaload, 1) := by decide +kernel
theorem dX1_step_135 : decode cX1_step 135 = .ok (.iconst 3, 1) := by decide +kernel
theorem dX1_step_136 : decode cX1_step 136 = .ok (.if_icmp .ne 29, 3) := by decide +kernel
theorem dX1_step_139 : decode cX1_step 139 = .ok (.aload_n 0, 1) := by decide +kernel
theorem dX1_step_140 : decode cX1_step 140 = .ok (.iload_n 2, 1) := by decide +kernel
theorem dX1_step_141 : decode cX1_step 141 = .ok (.aload_n 0, 1) := by decide +kernel
theorem dX1_step_142 : decode cX1_step 142 = .ok (.getfield 32, 3) := by decide +kernel
theorem dX1_step_145 : decode cX1_step 145 = .ok (.iload_n 3, 1) := by decide +kernel
theorem dX1_step_146 : decode cX1_step 146 = .ok (.iaload, 1) := by decide +kernel
theorem dX1_step_147 : decode cX1_step 147 = .ok (.aload_n 0, 1) := by decide +kernel
theorem dX1_step_148 : decode cX1_step 148 = .ok (.getfield 32, 3) := by decide +kernel
theorem dX1_step_151 : decode cX1_step 151 = .ok (.aload_n 0, 1) := by decide +kernel
theorem dX1_step_152 : decode cX1_step 152 = .ok (.getfield 23, 3) := by decide +kernel
theorem dX1_step_155 : decode cX1_step 155 = .ok (.iload_n 1, 1) := by decide +kernel
theorem dX1_step_156 : decode cX1_step 156 = .ok (.iaload, 1) := by decide +kernel
theorem dX1_step_157 : decode cX1_step 157 = .ok (.iaload, 1) := by decide +kernel
theorem dX1_step_158 : decode cX1_step 158 = .ok (.imul, 1) := by decide +kernel
theorem dX1_step_159 : decode cX1_step 159 = .ok (.invokevirtual 66, 3) := by decide +kernel
theorem dX1_step_162 : decode cX1_step 162 = .ok (.goto 144, 3) := by decide +kernel
theorem dX1_step_165 : decode cX1_step 165 = .ok (.aload_n 0, 1) := by decide +kernel
theorem dX1_step_166 : decode cX1_step 166 = .ok (.getfield 13, 3) := by decide +kernel
theorem dX1_step_169 : decode cX1_step 169 = .ok (.iload_n 1, 1) := by decide +kernel
theorem dX1_step_170 : decode cX1_step 170 = .ok (.iaload, 1) := by decide +kernel
theorem dX1_step_171 : decode cX1_step 171 = .ok (.iconst 4, 1) := by decide +kernel
theorem dX1_step_172 : decode cX1_step 172 = .ok (.if_icmp .ne 25, 3) := by decide +kernel
theorem dX1_step_175 : decode cX1_step 175 = .ok (.aload_n 0, 1) := by decide +kernel
theorem dX1_step_176 : decode cX1_step 176 = .ok (.iload_n 2, 1) := by decide +kernel
theorem dX1_step_177 : decode cX1_step 177 = .ok (.aload_n 0, 1) := by decide +kernel
theorem dX1_step_178 : decode cX1_step 178 = .ok (.getfield 35, 3) := by decide +kernel
theorem dX1_step_181 : decode cX1_step 181 = .ok (.aload_n 0, 1) := by decide +kernel
theorem dX1_step_182 : decode cX1_step 182 = .ok (.getfield 32, 3) := by decide +kernel
theorem dX1_step_185 : decode cX1_step 185 = .ok (.iload_n 3, 1) := by decide +kernel
theorem dX1_step_186 : decode cX1_step 186 = .ok (.iaload, 1) := by decide +kernel
theorem dX1_step_187 : decode cX1_step 187 = .ok (.bipush 7, 2) := by decide +kernel
theorem dX1_step_189 : decode cX1_step 189 = .ok (.iand, 1) := by decide +kernel
theorem dX1_step_190 : decode cX1_step 190 = .ok (.iaload, 1) := by decide +kernel
theorem dX1_step_191 : decode cX1_step 191 = .ok (.invokevirtual 66, 3) := by decide +kernel
theorem dX1_step_194 : decode cX1_step 194 = .ok (.goto 112, 3) := by decide +kernel
theorem dX1_step_197 : decode cX1_step 197 = .ok (.aload_n 0, 1) := by decide +kernel
theorem dX1_step_198 : decode cX1_step 198 = .ok (.getfield 13, 3) := by decide +kernel
theorem dX1_step_201 : decode cX1_step 201 = .ok (.iload_n 1, 1) := by decide +kernel
theorem dX1_step_202 : decode cX1_step 202 = .ok (.iaload, 1) := by decide +kernel
theorem dX1_step_203 : decode cX1_step 203 = .ok (.iconst 5, 1) := by decide +kernel
theorem dX1_step_204 : decode cX1_step 204 = .ok (.if_icmp .ne 34, 3) := by decide +kernel
theorem dX1_step_207 : decode cX1_step 207 = .ok (.aload_n 0, 1) := by decide +kernel
theorem dX1_step_208 : decode cX1_step 208 = .ok (.aload_n 0, 1) := by decide +kernel
theorem dX1_step_209 : decode cX1_step 209 = .ok (.getfield 32, 3) := by decide +kernel
theorem dX1_step_212 : decode cX1_step 212 = .ok (.iload_n 3, 1) := by decide +kernel
theorem dX1_step_213 : decode cX1_step 213 = .ok (.iaload, 1) := by decide +kernel
theorem dX1_step_214 : decode cX1_step 214 = .ok (.bipush 7, 2) := by decide +kernel
theorem dX1_step_216 : decode cX1_step 216 = .ok (.iand, 1) := by decide +kernel
theorem dX1_step_217 : decode cX1_step 217 = .ok (.putfield 63, 3) := by decide +kernel
theorem dX1_step_220 : decode cX1_step 220 = .ok (.aload_n 0, 1) := by decide +kernel
theorem dX1_step_221 : decode cX1_step 221 = .ok (.getfield 35, 3) := by decide +kernel
theorem dX1_step_224 : decode cX1_step 224 = .ok (.aload_n 0, 1) := by decide +kernel
theorem dX1_step_225 : decode cX1_step 225 = .ok (.getfield 63, 3) := by decide +kernel
theorem dX1_step_228 : decode cX1_step 228 = .ok (.aload_n 0, 1) := by decide +kernel
theorem dX1_step_229 : decode cX1_step 229 = .ok (.getfield 32, 3) := by decide +kernel
theorem dX1_step_232 : decode cX1_step 232 = .ok (.iload_n 2, 1) := by decide +kernel
theorem dX1_step_233 : decode cX1_step 233 = .ok (.iaload, 1) := by decide +kernel
theorem dX1_step_234 : decode cX1_step 234 = .ok (.iastore, 1) := by decide +kernel
theorem dX1_step_235 : decode cX1_step 235 = .ok (.goto 71, 3) := by decide +kernel
theorem dX1_step_238 : decode cX1_step 238 = .ok (.aload_n 0, 1) := by decide +kernel
theorem dX1_step_239 : decode cX1_step 239 = .ok (.getfield 13, 3) := by decide +kernel
theorem dX1_step_242 : decode cX1_step 242 = .ok (.iload_n 1, 1) := by decide +kernel
theorem dX1_step_243 : decode cX1_step 243 = .ok (.iaload, 1) := by decide +kernel
theorem dX1_step_244 : decode cX1_step 244 = .ok (.bipush 6, 2) := by decide +kernel
theorem dX1_step_246 : decode cX1_step 246 = .ok (.if_icmp .ne 20, 3) := by decide +kernel
theorem dX1_step_249 : decode cX1_step 249 = .ok (.aload_n 0, 1) := by decide +kernel
theorem dX1_step_250 : decode cX1_step 250 = .ok (.getfield 32, 3) := by decide +kernel
theorem dX1_step_253 : decode cX1_step 253 = .ok (.iload_n 2, 1) := by decide +kernel
theorem dX1_step_254 : decode cX1_step 254 = .ok (.iaload, 1) := by decide +kernel
theorem dX1_step_255 : decode cX1_step 255 = .ok (.ifCond .le 11, 3) := by decide +kernel
theorem dX1_step_258 : decode cX1_step 258 = .ok (.aload_n 0, 1) := by decide +kernel
theorem dX1_step_259 : decode cX1_step 259 = .ok (.iload_n 3, 1) := by decide +kernel
theorem dX1_step_260 : decode cX1_step 260 = .ok (.putfield 53, 3) := by decide +kernel
theorem dX1_step_263 : decode cX1_step 263 = .ok (.goto 43, 3) := by decide +kernel
theorem dX1_step_266 : decode cX1_step 266 = .ok (.aload_n 0, 1) := by decide +kernel
theorem dX1_step_267 : decode cX1_step 267 = .ok (.getfield 13, 3) := by decide +kernel
theorem dX1_step_270 : decode cX1_step 270 = .ok (.iload_n 1, 1) := by decide +kernel
theorem dX1_step_271 : decode cX1_step 271 = .ok (.iaload, 1) := by decide +kernel
theorem dX1_step_272 : decode cX1_step 272 = .ok (.bipush 7, 2) := by decide +kernel
theorem dX1_step_274 : decode cX1_step 274 = .ok (.if_icmp .ne 11, 3) := by decide +kernel
theorem dX1_step_277 : decode cX1_step 277 = .ok (.aload_n 0, 1) := by decide +kernel
theorem dX1_step_278 : decode cX1_step 278 = .ok (.iload_n 2, 1) := by decide +kernel
theorem dX1_step_279 : decode cX1_step 279 = .ok (.putfield 53, 3) := by decide +kernel
theorem dX1_step_282 : decode cX1_step 282 = .ok (.goto 24, 3) := by decide +kernel
theorem dX1_step_285 : decode cX1_step 285 = .ok (.aload_n 0, 1) := by decide +kernel
theorem dX1_step_286 : decode cX1_step 286 = .ok (.getfield 13, 3) := by decide +kernel
theorem dX1_step_289 : decode cX1_step 289 = .ok (.iload_n 1, 1) := by decide +kernel
theorem dX1_step_290 : decode cX1_step 290 = .ok (.iaload, 1) := by decide +kernel
theorem dX1_step_291 : decode cX1_step 291 = .ok (.bipush 8, 2) := by decide +kernel
theorem dX1_step_293 : decode cX1_step 293 = .ok (.if_icmp .ne 13, 3) := by decide +kernel
theorem dX1_step_296 : decode cX1_step 296 = .ok (.aload_n 0, 1) := by decide +kernel
theorem dX1_step_297 : decode cX1_step 297 = .ok (.iload_n 1, 1) := by decide +kernel
theorem dX1_step_298 : decode cX1_step 298 = .ok (.putfield 53, 3) := by decide +kernel
theorem dX1_step_301 : decode cX1_step 301 = .ok (.aload_n 0, 1) := by decide +kernel
theorem dX1_step_302 : decode cX1_step 302 = .ok (.iconst 1, 1) := by decide +kernel
theorem dX1_step_303 : decode cX1_step 303 = .ok (.putfield 56, 3) := by decide +kernel
theorem dX1_step_306 : decode cX1_step 306 = .ok (.return_, 1) := by decide +kernel
theorem dX1_setVariable_0 : decode cX1_setVariable 0 = .ok (.aload_n 0, 1) := by decide +kernel
theorem dX1_setVariable_1 : decode cX1_setVariable 1 = .ok (.getfield 32, 3) := by decide +kernel
theorem dX1_setVariable_4 : decode cX1_setVariable 4 = .ok (.iload_n 1, 1) := by decide +kernel
theorem dX1_setVariable_5 : decode cX1_setVariable 5 = .ok (.iload_n 2, 1) := by decide +kernel
theorem dX1_setVariable_6 : decode cX1_setVariable 6 = .ok (.iastore, 1) := by decide +kernel
theorem dX1_setVariable_7 : decode cX1_setVariable 7 = .ok (.aload_n 0, 1) := by decide +kernel
theorem dX1_setVariable_8 : decode cX1_setVariable 8 = .ok (.iload_n 1, 1) := by decide +kernel
theorem dX1_setVariable_9 : decode cX1_setVariable 9 = .ok (.putfield 60, 3) := by decide +kernel
theorem dX1_setVariable_12 : decode cX1_setVariable 12 = .ok (.return_, 1) := by decide +kernel
theorem dX1_goTo_0 : decode cX1_goTo 0 = .ok (.iload_n 1, 1) := by decide +kernel
theorem dX1_goTo_1 : decode cX1_goTo 1 = .ok (.ifCond .lt 11, 3) := by decide +kernel
theorem dX1_goTo_4 : decode cX1_goTo 4 = .ok (.iload_n 1, 1) := by decide +kernel
theorem dX1_goTo_5 : decode cX1_goTo 5 = .ok (.aload_n 0, 1) := by decide +kernel
theorem dX1_goTo_6 : decode cX1_goTo 6 = .ok (.invokevirtual 49, 3) := by decide +kernel
theorem dX1_goTo_9 : decode cX1_goTo 9 = .ok (.if_icmp .le 5, 3) := by decide +kernel
theorem dX1_goTo_12 : decode cX1_goTo 12 = .ok (.iconst (-1), 1) := by decide +kernel
theorem dX1_goTo_13 : decode cX1_goTo 13 = .ok (.ireturn, 1) := by decide +kernel
theorem dX1_goTo_14 : decode cX1_goTo 14 = .ok (.aload_n 0, 1) := by decide +kernel
theorem dX1_goTo_15 : decode cX1_goTo 15 = .ok (.iload_n 1, 1) := by decide +kernel
theorem dX1_goTo_16 : decode cX1_goTo 16 = .ok (.putfield 29, 3) := by decide +kernel
theorem dX1_goTo_19 : decode cX1_goTo 19 = .ok (.aload_n 0, 1) := by decide +kernel
theorem dX1_goTo_20 : decode cX1_goTo 20 = .ok (.iload_n 1, 1) := by decide +kernel
theorem dX1_goTo_21 : decode cX1_goTo 21 = .ok (.invokevirtual 80, 3) := by decide +kernel
theorem dX1_goTo_24 : decode cX1_goTo 24 = .ok (.aload_n 0, 1) := by decide +kernel
theorem dX1_goTo_25 : decode cX1_goTo 25 = .ok (.getfield 53, 3) := by decide +kernel
theorem dX1_goTo_28 : decode cX1_goTo 28 = .ok (.ireturn, 1) := by decide +kernel
theorem dX1_state_0 : decode cX1_state 0 = .ok (.aload_n 0, 1) := by decide +kernel
theorem dX1_state_1 : decode cX1_state 1 = .ok (.invokevirtual 70, 3) := by decide +kernel
theorem dX1_state_4 : decode cX1_state 4 = .ok (.iconst 0, 1) := by decide +kernel
theorem dX1_state_5 : decode cX1_state 5 = .ok (.istore_n 2, 1) := by decide +kernel
theorem dX1_state_6 : decode cX1_state 6 = .ok (.iload_n 2, 1) := by decide +kernel
theorem dX1_state_7 : decode cX1_state 7 = .ok (.iload_n 1, 1) := by decide +kernel
theorem dX1_state_8 : decode cX1_state 8 = .ok (.if_icmp .ge 13, 3) := by decide +kernel
theorem dX1_state_11 : decode cX1_state 11 = .ok (.aload_n 0, 1) := by decide +kernel
theorem dX1_state_12 : decode cX1_state 12 = .ok (.invokevirtual 73, 3) := by decide +kernel
theorem dX1_state_15 : decode cX1_state 15 = .ok (.iinc 2 1, 3) := by decide +kernel
theorem dX1_state_18 : decode cX1_state 18 = .ok (.goto (-12), 3) := by decide +kernel
theorem dX1_state_21 : decode cX1_state 21 = .ok (.return_, 1) := by decide +kernel
theorem dX1_time_0 : decode cX1_time 0 = .ok (.aload_n 0, 1) := by decide +kernel
theorem dX1_time_1 : decode cX1_time 1 = .ok (.getfield 29, 3) := by decide +kernel
theorem dX1_time_4 : decode cX1_time 4 = .ok (.ireturn, 1) := by decide +kernel
theorem dX1_variable_0 : decode cX1_variable 0 = .ok (.aload_n 0, 1) := by decide +kernel
theorem dX1_variable_1 : decode cX1_variable 1 = .ok (.aload_n 0, 1) := by decide +kernel
theorem dX1_variable_2 : decode cX1_variable 2 = .ok (.getfield 29, 3) := by decide +kernel
theorem dX1_variable_5 : decode cX1_variable 5 = .ok (.invokevirtual 80, 3) := by decide +kernel
theorem dX1_variable_8 : decode cX1_variable 8 = .ok (.aload_n 0, 1) := by decide +kernel
theorem dX1_variable_9 : decode cX1_variable 9 = .ok (.iload_n 1, 1) := by decide +kernel
theorem dX1_variable_10 : decode cX1_variable 10 = .ok (.invokevirtual 42, 3) := by decide +kernel
theorem dX1_variable_13 : decode cX1_variable 13 = .ok (.ifCond .eq 12, 3) := by decide +kernel
theorem dX1_variable_16 : decode cX1_variable 16 = .ok (.aload_n 0, 1) := by decide +kernel
theorem dX1_variable_17 : decode cX1_variable 17 = .ok (.getfield 32, 3) := by decide +kernel
theorem dX1_variable_20 : decode cX1_variable 20 = .ok (.iload_n 1, 1) := by decide +kernel
theorem dX1_variable_21 : decode cX1_variable 21 = .ok (.iaload, 1) := by decide +kernel
theorem dX1_variable_22 : decode cX1_variable 22 = .ok (.goto 4, 3) := by decide +kernel
theorem dX1_variable_25 : decode cX1_variable 25 = .ok (.iconst 0, 1) := by decide +kernel
theorem dX1_variable_26 : decode cX1_variable 26 = .ok (.ireturn, 1) := by decide +kernel
theorem dX1_cell_0 : decode cX1_cell 0 = .ok (.aload_n 0, 1) := by decide +kernel
theorem dX1_cell_1 : decode cX1_cell 1 = .ok (.aload_n 0, 1) := by decide +kernel
theorem dX1_cell_2 : decode cX1_cell 2 = .ok (.getfield 29, 3) := by decide +kernel
theorem dX1_cell_5 : decode cX1_cell 5 = .ok (.invokevirtual 80, 3) := by decide +kernel
theorem dX1_cell_8 : decode cX1_cell 8 = .ok (.iload_n 1, 1) := by decide +kernel
theorem dX1_cell_9 : decode cX1_cell 9 = .ok (.ifCond .lt 18, 3) := by decide +kernel
theorem dX1_cell_12 : decode cX1_cell 12 = .ok (.iload_n 1, 1) := by decide +kernel
theorem dX1_cell_13 : decode cX1_cell 13 = .ok (.bipush 7, 2) := by decide +kernel
theorem dX1_cell_15 : decode cX1_cell 15 = .ok (.if_icmp .gt 12, 3) := by decide +kernel
theorem dX1_cell_18 : decode cX1_cell 18 = .ok (.aload_n 0, 1) := by decide +kernel
theorem dX1_cell_19 : decode cX1_cell 19 = .ok (.getfield 35, 3) := by decide +kernel
theorem dX1_cell_22 : decode cX1_cell 22 = .ok (.iload_n 1, 1) := by decide +kernel
theorem dX1_cell_23 : decode cX1_cell 23 = .ok (.iaload, 1) := by decide +kernel
theorem dX1_cell_24 : decode cX1_cell 24 = .ok (.goto 4, 3) := by decide +kernel
theorem dX1_cell_27 : decode cX1_cell 27 = .ok (.iconst 0, 1) := by decide +kernel
theorem dX1_cell_28 : decode cX1_cell 28 = .ok (.ireturn, 1) := by decide +kernel
theorem dX1_lastWrite_0 : decode cX1_lastWrite 0 = .ok (.iload_n 1, 1) := by decide +kernel
theorem dX1_lastWrite_1 : decode cX1_lastWrite 1 = .ok (.ifCond .eq 8, 3) := by decide +kernel
theorem dX1_lastWrite_4 : decode cX1_lastWrite 4 = .ok (.iload_n 1, 1) := by decide +kernel
theorem dX1_lastWrite_5 : decode cX1_lastWrite 5 = .ok (.iconst 1, 1) := by decide +kernel
theorem dX1_lastWrite_6 : decode cX1_lastWrite 6 = .ok (.if_icmp .ne 21, 3) := by decide +kernel
theorem dX1_lastWrite_9 : decode cX1_lastWrite 9 = .ok (.iload_n 2, 1) := by decide +kernel
theorem dX1_lastWrite_10 : decode cX1_lastWrite 10 = .ok (.ifCond .lt 17, 3) := by decide +kernel
theorem dX1_lastWrite_13 : decode cX1_lastWrite 13 = .ok (.iload_n 2, 1) := by decide +kernel
theorem dX1_lastWrite_14 : decode cX1_lastWrite 14 = .ok (.iload_n 1, 1) := by decide +kernel
theorem dX1_lastWrite_15 : decode cX1_lastWrite 15 = .ok (.ifCond .ne 7, 3) := by decide +kernel
theorem dX1_lastWrite_18 : decode cX1_lastWrite 18 = .ok (.iconst 5, 1) := by decide +kernel
theorem dX1_lastWrite_19 : decode cX1_lastWrite 19 = .ok (.goto 5, 3) := by decide +kernel
theorem dX1_lastWrite_22 : decode cX1_lastWrite 22 = .ok (.bipush 7, 2) := by decide +kernel
theorem dX1_lastWrite_24 : decode cX1_lastWrite 24 = .ok (.if_icmp .le 5, 3) := by decide +kernel
theorem dX1_lastWrite_27 : decode cX1_lastWrite 27 = .ok (.iconst (-1), 1) := by decide +kernel
theorem dX1_lastWrite_28 : decode cX1_lastWrite 28 = .ok (.ireturn, 1) := by decide +kernel
theorem dX1_lastWrite_29 : decode cX1_lastWrite 29 = .ok (.iconst 0, 1) := by decide +kernel
theorem dX1_lastWrite_30 : decode cX1_lastWrite 30 = .ok (.istore_n 3, 1) := by decide +kernel
theorem dX1_lastWrite_31 : decode cX1_lastWrite 31 = .ok (.aload_n 0, 1) := by decide +kernel
theorem dX1_lastWrite_32 : decode cX1_lastWrite 32 = .ok (.invokevirtual 70, 3) := by decide +kernel
theorem dX1_lastWrite_35 : decode cX1_lastWrite 35 = .ok (.iconst 1, 1) := by decide +kernel
theorem dX1_lastWrite_36 : decode cX1_lastWrite 36 = .ok (.istore 4, 2) := by decide +kernel
theorem dX1_lastWrite_38 : decode cX1_lastWrite 38 = .ok (.iload 4, 2) := by decide +kernel
theorem dX1_lastWrite_40 : decode cX1_lastWrite 40 = .ok (.aload_n 0, 1) := by decide +kernel
theorem dX1_lastWrite_41 : decode cX1_lastWrite 41 = .ok (.getfield 29, 3) := by decide +kernel
theorem dX1_lastWrite_44 : decode cX1_lastWrite 44 = .ok (.if_icmp .gt 35, 3) := by decide +kernel
theorem dX1_lastWrite_47 : decode cX1_lastWrite 47 = .ok (.aload_n 0, 1) := by decide +kernel
theorem dX1_lastWrite_48 : decode cX1_lastWrite 48 = .ok (.invokevirtual 73, 3) := by decide +kernel
theorem dX1_lastWrite_51 : decode cX1_lastWrite 51 = .ok (.iload_n 1, 1) := by decide +kernel
theorem dX1_lastWrite_52 : decode cX1_lastWrite 52 = .ok (.ifCond .ne 10, 3) := by decide +kernel
theorem dX1_lastWrite_55 : decode cX1_lastWrite 55 = .ok (.aload_n 0, 1) := by decide +kernel
theorem dX1_lastWrite_56 : decode cX1_lastWrite 56 = .ok (.getfield 60, 3) := by decide +kernel
theorem dX1_lastWrite_59 : decode cX1_lastWrite 59 = .ok (.goto 7, 3) := by decide +kernel
theorem dX1_lastWrite_62 : decode cX1_lastWrite 62 = .ok (.aload_n 0, 1) := by decide +kernel
theorem dX1_lastWrite_63 : decode cX1_lastWrite 63 = .ok (.getfield 63, 3) := by decide +kernel
theorem dX1_lastWrite_66 : decode cX1_lastWrite 66 = .ok (.iload_n 2, 1) := by decide +kernel
theorem dX1_lastWrite_67 : decode cX1_lastWrite 67 = .ok (.if_icmp .ne 6, 3) := by decide +kernel
theorem dX1_lastWrite_70 : decode cX1_lastWrite 70 = .ok (.iload 4, 2) := by decide +kernel
theorem dX1_lastWrite_72 : decode cX1_lastWrite 72 = .ok (.istore_n 3, 1) := by decide +kernel
theorem dX1_lastWrite_73 : decode cX1_lastWrite 73 = .ok (.iinc 4 1, 3) := by decide +kernel
theorem dX1_lastWrite_76 : decode cX1_lastWrite 76 = .ok (.goto (-38), 3) := by decide +kernel
theorem dX1_lastWrite_79 : decode cX1_lastWrite 79 = .ok (.iload_n 3, 1) := by decide +kernel
theorem dX1_lastWrite_80 : decode cX1_lastWrite 80 = .ok (.ireturn, 1) := by decide +kernel
theorem dX1_runTo_0 : decode cX1_runTo 0 = .ok (.aload_n 0, 1) := by decide +kernel
theorem dX1_runTo_1 : decode cX1_runTo 1 = .ok (.iload_n 1, 1) := by decide +kernel
theorem dX1_runTo_2 : decode cX1_runTo 2 = .ok (.invokevirtual 38, 3) := by decide +kernel
theorem dX1_runTo_5 : decode cX1_runTo 5 = .ok (.ifCond .ne 5, 3) := by decide +kernel
theorem dX1_runTo_8 : decode cX1_runTo 8 = .ok (.iconst (-1), 1) := by decide +kernel
theorem dX1_runTo_9 : decode cX1_runTo 9 = .ok (.ireturn, 1) := by decide +kernel
theorem dX1_runTo_10 : decode cX1_runTo 10 = .ok (.aload_n 0, 1) := by decide +kernel
theorem dX1_runTo_11 : decode cX1_runTo 11 = .ok (.invokevirtual 49, 3) := by decide +kernel
theorem dX1_runTo_14 : decode cX1_runTo 14 = .ok (.istore_n 2, 1) := by decide +kernel
theorem dX1_runTo_15 : decode cX1_runTo 15 = .ok (.aload_n 0, 1) := by decide +kernel
theorem dX1_runTo_16 : decode cX1_runTo 16 = .ok (.getfield 29, 3) := by decide +kernel
theorem dX1_runTo_19 : decode cX1_runTo 19 = .ok (.iconst 1, 1) := by decide +kernel
theorem dX1_runTo_20 : decode cX1_runTo 20 = .ok (.iadd, 1) := by decide +kernel
theorem dX1_runTo_21 : decode cX1_runTo 21 = .ok (.istore_n 3, 1) := by decide +kernel
theorem dX1_runTo_22 : decode cX1_runTo 22 = .ok (.iload_n 3, 1) := by decide +kernel
theorem dX1_runTo_23 : decode cX1_runTo 23 = .ok (.iload_n 2, 1) := by decide +kernel
theorem dX1_runTo_24 : decode cX1_runTo 24 = .ok (.if_icmp .gt 29, 3) := by decide +kernel
theorem dX1_runTo_27 : decode cX1_runTo 27 = .ok (.aload_n 0, 1) := by decide +kernel
theorem dX1_runTo_28 : decode cX1_runTo 28 = .ok (.iload_n 3, 1) := by decide +kernel
theorem dX1_runTo_29 : decode cX1_runTo 29 = .ok (.invokevirtual 80, 3) := by decide +kernel
theorem dX1_runTo_32 : decode cX1_runTo 32 = .ok (.aload_n 0, 1) := by decide +kernel
theorem dX1_runTo_33 : decode cX1_runTo 33 = .ok (.getfield 53, 3) := by decide +kernel
theorem dX1_runTo_36 : decode cX1_runTo 36 = .ok (.iload_n 1, 1) := by decide +kernel
theorem dX1_runTo_37 : decode cX1_runTo 37 = .ok (.if_icmp .ne 10, 3) := by decide +kernel
theorem dX1_runTo_40 : decode cX1_runTo 40 = .ok (.aload_n 0, 1) := by decide +kernel
theorem dX1_runTo_41 : decode cX1_runTo 41 = .ok (.iload_n 3, 1) := by decide +kernel
theorem dX1_runTo_42 : decode cX1_runTo 42 = .ok (.putfield 29, 3) := by decide +kernel
theorem dX1_runTo_45 : decode cX1_runTo 45 = .ok (.iload_n 3, 1) := by decide +kernel
theorem dX1_runTo_46 : decode cX1_runTo 46 = .ok (.ireturn, 1) := by decide +kernel
theorem dX1_runTo_47 : decode cX1_runTo 47 = .ok (.iinc 3 1, 3) := by decide +kernel
theorem dX1_runTo_50 : decode cX1_runTo 50 = .ok (.goto (-28), 3) := by decide +kernel
theorem dX1_runTo_53 : decode cX1_runTo 53 = .ok (.bipush (-3), 2) := by decide +kernel
theorem dX1_runTo_55 : decode cX1_runTo 55 = .ok (.ireturn, 1) := by decide +kernel
theorem dX1_backTo_0 : decode cX1_backTo 0 = .ok (.aload_n 0, 1) := by decide +kernel
theorem dX1_backTo_1 : decode cX1_backTo 1 = .ok (.iload_n 1, 1) := by decide +kernel
theorem dX1_backTo_2 : decode cX1_backTo 2 = .ok (.invokevirtual 38, 3) := by decide +kernel
theorem dX1_backTo_5 : decode cX1_backTo 5 = .ok (.ifCond .ne 5, 3) := by decide +kernel
theorem dX1_backTo_8 : decode cX1_backTo 8 = .ok (.iconst (-1), 1) := by decide +kernel
theorem dX1_backTo_9 : decode cX1_backTo 9 = .ok (.ireturn, 1) := by decide +kernel
theorem dX1_backTo_10 : decode cX1_backTo 10 = .ok (.aload_n 0, 1) := by decide +kernel
theorem dX1_backTo_11 : decode cX1_backTo 11 = .ok (.getfield 29, 3) := by decide +kernel
theorem dX1_backTo_14 : decode cX1_backTo 14 = .ok (.iconst 1, 1) := by decide +kernel
theorem dX1_backTo_15 : decode cX1_backTo 15 = .ok (.isub, 1) := by decide +kernel
theorem dX1_backTo_16 : decode cX1_backTo 16 = .ok (.istore_n 2, 1) := by decide +kernel
theorem dX1_backTo_17 : decode cX1_backTo 17 = .ok (.iload_n 2, 1) := by decide +kernel
theorem dX1_backTo_18 : decode cX1_backTo 18 = .ok (.ifCond .lt 29, 3) := by decide +kernel
theorem dX1_backTo_21 : decode cX1_backTo 21 = .ok (.aload_n 0, 1) := by decide +kernel
theorem dX1_backTo_22 : decode cX1_backTo 22 = .ok (.iload_n 2, 1) := by decide +kernel
theorem dX1_backTo_23 : decode cX1_backTo 23 = .ok (.invokevirtual 80, 3) := by decide +kernel
theorem dX1_backTo_26 : decode cX1_backTo 26 = .ok (.aload_n 0, 1) := by decide +kernel
theorem dX1_backTo_27 : decode cX1_backTo 27 = .ok (.getfield 53, 3) := by decide +kernel
theorem dX1_backTo_30 : decode cX1_backTo 30 = .ok (.iload_n 1, 1) := by decide +kernel
theorem dX1_backTo_31 : decode cX1_backTo 31 = .ok (.if_icmp .ne 10, 3) := by decide +kernel
theorem dX1_backTo_34 : decode cX1_backTo 34 = .ok (.aload_n 0, 1) := by decide +kernel
theorem dX1_backTo_35 : decode cX1_backTo 35 = .ok (.iload_n 2, 1) := by decide +kernel
theorem dX1_backTo_36 : decode cX1_backTo 36 = .ok (.putfield 29, 3) := by decide +kernel
theorem dX1_backTo_39 : decode cX1_backTo 39 = .ok (.iload_n 2, 1) := by decide +kernel
theorem dX1_backTo_40 : decode cX1_backTo 40 = .ok (.ireturn, 1) := by decide +kernel
theorem dX1_backTo_41 : decode cX1_backTo 41 = .ok (.iinc 2 (-1), 3) := by decide +kernel
theorem dX1_backTo_44 : decode cX1_backTo 44 = .ok (.goto (-27), 3) := by decide +kernel
theorem dX1_backTo_47 : decode cX1_backTo 47 = .ok (.bipush (-3), 2) := by decide +kernel
theorem dX1_backTo_49 : decode cX1_backTo 49 = .ok (.ireturn, 1) := by decide +kernel
theorem dX1_backBeforeWrite_0 : decode cX1_backBeforeWrite 0 = .ok (.aload_n 0, 1) := by decide +kernel
theorem dX1_backBeforeWrite_1 : decode cX1_backBeforeWrite 1 = .ok (.iload_n 1, 1) := by decide +kernel
theorem dX1_backBeforeWrite_2 : decode cX1_backBeforeWrite 2 = .ok (.invokevirtual 42, 3) := by decide +kernel
theorem dX1_backBeforeWrite_5 : decode cX1_backBeforeWrite 5 = .ok (.ifCond .ne 5, 3) := by decide +kernel
end
section
set_option maxRecDepth 100000
theorem dX1_backBeforeWrite_8 : decode cX1_backBeforeWrite 8 = .ok (.iconst (-1), 1) := by decide +kernel
theorem dX1_backBeforeWrite_9 : decode cX1_backBeforeWrite 9 = .ok (.ireturn, 1) := by decide +kernel
theorem dX1_backBeforeWrite_10 : decode cX1_backBeforeWrite 10 = .ok (.aload_n 0, 1) := by decide +kernel
theorem dX1_backBeforeWrite_11 : decode cX1_backBeforeWrite 11 = .ok (.iconst 0, 1) := by decide +kernel
theorem dX1_backBeforeWrite_12 : decode cX1_backBeforeWrite 12 = .ok (.iload_n 1, 1) := by decide +kernel
theorem dX1_backBeforeWrite_13 : decode cX1_backBeforeWrite 13 = .ok (.invokevirtual 84, 3) := by decide +kernel
theorem dX1_backBeforeWrite_16 : decode cX1_backBeforeWrite 16 = .ok (.istore_n 2, 1) := by decide +kernel
theorem dX1_backBeforeWrite_17 : decode cX1_backBeforeWrite 17 = .ok (.iload_n 2, 1) := by decide +kernel
theorem dX1_backBeforeWrite_18 : decode cX1_backBeforeWrite 18 = .ok (.ifCond .ne 6, 3) := by decide +kernel
theorem dX1_backBeforeWrite_21 : decode cX1_backBeforeWrite 21 = .ok (.bipush (-3), 2) := by decide +kernel
theorem dX1_backBeforeWrite_23 : decode cX1_backBeforeWrite 23 = .ok (.ireturn, 1) := by decide +kernel
theorem dX1_backBeforeWrite_24 : decode cX1_backBeforeWrite 24 = .ok (.aload_n 0, 1) := by decide +kernel
theorem dX1_backBeforeWrite_25 : decode cX1_backBeforeWrite 25 = .ok (.iload_n 2, 1) := by decide +kernel
theorem dX1_backBeforeWrite_26 : decode cX1_backBeforeWrite 26 = .ok (.iconst 1, 1) := by decide +kernel
theorem dX1_backBeforeWrite_27 : decode cX1_backBeforeWrite 27 = .ok (.isub, 1) := by decide +kernel
theorem dX1_backBeforeWrite_28 : decode cX1_backBeforeWrite 28 = .ok (.putfield 29, 3) := by decide +kernel
theorem dX1_backBeforeWrite_31 : decode cX1_backBeforeWrite 31 = .ok (.aload_n 0, 1) := by decide +kernel
theorem dX1_backBeforeWrite_32 : decode cX1_backBeforeWrite 32 = .ok (.getfield 29, 3) := by decide +kernel
theorem dX1_backBeforeWrite_35 : decode cX1_backBeforeWrite 35 = .ok (.ireturn, 1) := by decide +kernel
end
section
set_option maxRecDepth 100000
theorem dL_law_0 : decode cL_law 0 = .ok (.new 7, 3) := by decide +kernel
theorem dL_law_3 : decode cL_law 3 = .ok (.dup, 1) := by decide +kernel
theorem dL_law_4 : decode cL_law 4 = .ok (.invokespecial 9, 3) := by decide +kernel
theorem dL_law_7 : decode cL_law 7 = .ok (.astore_n 1, 1) := by decide +kernel
theorem dL_law_8 : decode cL_law 8 = .ok (.new 10, 3) := by decide +kernel
theorem dL_law_11 : decode cL_law 11 = .ok (.dup, 1) := by decide +kernel
theorem dL_law_12 : decode cL_law 12 = .ok (.invokespecial 12, 3) := by decide +kernel
theorem dL_law_15 : decode cL_law 15 = .ok (.astore_n 2, 1) := by decide +kernel
theorem dL_law_16 : decode cL_law 16 = .ok (.iconst 0, 1) := by decide +kernel
theorem dL_law_17 : decode cL_law 17 = .ok (.istore_n 3, 1) := by decide +kernel
theorem dL_law_18 : decode cL_law 18 = .ok (.iload_n 3, 1) := by decide +kernel
theorem dL_law_19 : decode cL_law 19 = .ok (.aload_n 0, 1) := by decide +kernel
theorem dL_law_20 : decode cL_law 20 = .ok (.arraylength, 1) := by decide +kernel
theorem dL_law_21 : decode cL_law 21 = .ok (.iconst 5, 1) := by decide +kernel
theorem dL_law_22 : decode cL_law 22 = .ok (.isub, 1) := by decide +kernel
theorem dL_law_23 : decode cL_law 23 = .ok (.if_icmp .gt 348, 3) := by decide +kernel
theorem dL_law_26 : decode cL_law 26 = .ok (.aload_n 0, 1) := by decide +kernel
theorem dL_law_27 : decode cL_law 27 = .ok (.iload_n 3, 1) := by decide +kernel
theorem dL_law_28 : decode cL_law 28 = .ok (.iaload, 1) := by decide +kernel
theorem dL_law_29 : decode cL_law 29 = .ok (.bipush 15, 2) := by decide +kernel
theorem dL_law_31 : decode cL_law 31 = .ok (.iand, 1) := by decide +kernel
theorem dL_law_32 : decode cL_law 32 = .ok (.tableswitch 333 0 10 #[60, 113, 136, 149, 172, 185, 208, 231, 264, 287, 310], 60) := by decide +kernel
theorem dL_law_92 : decode cL_law 92 = .ok (.aload_n 1, 1) := by decide +kernel
theorem dL_law_93 : decode cL_law 93 = .ok (.aload_n 0, 1) := by decide +kernel
theorem dL_law_94 : decode cL_law 94 = .ok (.iload_n 3, 1) := by decide +kernel
theorem dL_law_95 : decode cL_law 95 = .ok (.iconst 1, 1) := by decide +kernel
theorem dL_law_96 : decode cL_law 96 = .ok (.iadd, 1) := by decide +kernel
theorem dL_law_97 : decode cL_law 97 = .ok (.iaload, 1) := by decide +kernel
theorem dL_law_98 : decode cL_law 98 = .ok (.aload_n 0, 1) := by decide +kernel
theorem dL_law_99 : decode cL_law 99 = .ok (.iload_n 3, 1) := by decide +kernel
theorem dL_law_100 : decode cL_law 100 = .ok (.iconst 2, 1) := by decide +kernel
theorem dL_law_101 : decode cL_law 101 = .ok (.iadd, 1) := by decide +kernel
theorem dL_law_102 : decode cL_law 102 = .ok (.iaload, 1) := by decide +kernel
theorem dL_law_103 : decode cL_law 103 = .ok (.aload_n 0, 1) := by decide +kernel
theorem dL_law_104 : decode cL_law 104 = .ok (.iload_n 3, 1) := by decide +kernel
theorem dL_law_105 : decode cL_law 105 = .ok (.iconst 3, 1) := by decide +kernel
theorem dL_law_106 : decode cL_law 106 = .ok (.iadd, 1) := by decide +kernel
theorem dL_law_107 : decode cL_law 107 = .ok (.iaload, 1) := by decide +kernel
theorem dL_law_108 : decode cL_law 108 = .ok (.aload_n 0, 1) := by decide +kernel
theorem dL_law_109 : decode cL_law 109 = .ok (.iload_n 3, 1) := by decide +kernel
theorem dL_law_110 : decode cL_law 110 = .ok (.iconst 4, 1) := by decide +kernel
theorem dL_law_111 : decode cL_law 111 = .ok (.iadd, 1) := by decide +kernel
theorem dL_law_112 : decode cL_law 112 = .ok (.iaload, 1) := by decide +kernel
theorem dL_law_113 : decode cL_law 113 = .ok (.invokevirtual 13, 3) := by decide +kernel
theorem dL_law_116 : decode cL_law 116 = .ok (.aload_n 2, 1) := by decide +kernel
theorem dL_law_117 : decode cL_law 117 = .ok (.aload_n 0, 1) := by decide +kernel
theorem dL_law_118 : decode cL_law 118 = .ok (.iload_n 3, 1) := by decide +kernel
theorem dL_law_119 : decode cL_law 119 = .ok (.iconst 1, 1) := by decide +kernel
theorem dL_law_120 : decode cL_law 120 = .ok (.iadd, 1) := by decide +kernel
theorem dL_law_121 : decode cL_law 121 = .ok (.iaload, 1) := by decide +kernel
theorem dL_law_122 : decode cL_law 122 = .ok (.aload_n 0, 1) := by decide +kernel
theorem dL_law_123 : decode cL_law 123 = .ok (.iload_n 3, 1) := by decide +kernel
theorem dL_law_124 : decode cL_law 124 = .ok (.iconst 2, 1) := by decide +kernel
theorem dL_law_125 : decode cL_law 125 = .ok (.iadd, 1) := by decide +kernel
theorem dL_law_126 : decode cL_law 126 = .ok (.iaload, 1) := by decide +kernel
theorem dL_law_127 : decode cL_law 127 = .ok (.aload_n 0, 1) := by decide +kernel
theorem dL_law_128 : decode cL_law 128 = .ok (.iload_n 3, 1) := by decide +kernel
theorem dL_law_129 : decode cL_law 129 = .ok (.iconst 3, 1) := by decide +kernel
theorem dL_law_130 : decode cL_law 130 = .ok (.iadd, 1) := by decide +kernel
theorem dL_law_131 : decode cL_law 131 = .ok (.iaload, 1) := by decide +kernel
theorem dL_law_132 : decode cL_law 132 = .ok (.aload_n 0, 1) := by decide +kernel
theorem dL_law_133 : decode cL_law 133 = .ok (.iload_n 3, 1) := by decide +kernel
theorem dL_law_134 : decode cL_law 134 = .ok (.iconst 4, 1) := by decide +kernel
theorem dL_law_135 : decode cL_law 135 = .ok (.iadd, 1) := by decide +kernel
theorem dL_law_136 : decode cL_law 136 = .ok (.iaload, 1) := by decide +kernel
theorem dL_law_137 : decode cL_law 137 = .ok (.invokevirtual 17, 3) := by decide +kernel
theorem dL_law_140 : decode cL_law 140 = .ok (.if_icmp .eq 225, 3) := by decide +kernel
theorem dL_law_143 : decode cL_law 143 = .ok (.iconst 0, 1) := by decide +kernel
theorem dL_law_144 : decode cL_law 144 = .ok (.ireturn, 1) := by decide +kernel
theorem dL_law_145 : decode cL_law 145 = .ok (.aload_n 1, 1) := by decide +kernel
theorem dL_law_146 : decode cL_law 146 = .ok (.aload_n 0, 1) := by decide +kernel
theorem dL_law_147 : decode cL_law 147 = .ok (.iload_n 3, 1) := by decide +kernel
theorem dL_law_148 : decode cL_law 148 = .ok (.iconst 1, 1) := by decide +kernel
theorem dL_law_149 : decode cL_law 149 = .ok (.iadd, 1) := by decide +kernel
theorem dL_law_150 : decode cL_law 150 = .ok (.iaload, 1) := by decide +kernel
theorem dL_law_151 : decode cL_law 151 = .ok (.invokevirtual 18, 3) := by decide +kernel
theorem dL_law_154 : decode cL_law 154 = .ok (.aload_n 2, 1) := by decide +kernel
theorem dL_law_155 : decode cL_law 155 = .ok (.aload_n 0, 1) := by decide +kernel
theorem dL_law_156 : decode cL_law 156 = .ok (.iload_n 3, 1) := by decide +kernel
theorem dL_law_157 : decode cL_law 157 = .ok (.iconst 1, 1) := by decide +kernel
theorem dL_law_158 : decode cL_law 158 = .ok (.iadd, 1) := by decide +kernel
theorem dL_law_159 : decode cL_law 159 = .ok (.iaload, 1) := by decide +kernel
theorem dL_law_160 : decode cL_law 160 = .ok (.invokevirtual 22, 3) := by decide +kernel
theorem dL_law_163 : decode cL_law 163 = .ok (.if_icmp .eq 202, 3) := by decide +kernel
theorem dL_law_166 : decode cL_law 166 = .ok (.iconst 0, 1) := by decide +kernel
theorem dL_law_167 : decode cL_law 167 = .ok (.ireturn, 1) := by decide +kernel
theorem dL_law_168 : decode cL_law 168 = .ok (.aload_n 1, 1) := by decide +kernel
theorem dL_law_169 : decode cL_law 169 = .ok (.invokevirtual 23, 3) := by decide +kernel
theorem dL_law_172 : decode cL_law 172 = .ok (.aload_n 2, 1) := by decide +kernel
theorem dL_law_173 : decode cL_law 173 = .ok (.invokevirtual 27, 3) := by decide +kernel
theorem dL_law_176 : decode cL_law 176 = .ok (.if_icmp .eq 189, 3) := by decide +kernel
theorem dL_law_179 : decode cL_law 179 = .ok (.iconst 0, 1) := by decide +kernel
theorem dL_law_180 : decode cL_law 180 = .ok (.ireturn, 1) := by decide +kernel
theorem dL_law_181 : decode cL_law 181 = .ok (.aload_n 1, 1) := by decide +kernel
theorem dL_law_182 : decode cL_law 182 = .ok (.aload_n 0, 1) := by decide +kernel
theorem dL_law_183 : decode cL_law 183 = .ok (.iload_n 3, 1) := by decide +kernel
theorem dL_law_184 : decode cL_law 184 = .ok (.iconst 1, 1) := by decide +kernel
theorem dL_law_185 : decode cL_law 185 = .ok (.iadd, 1) := by decide +kernel
theorem dL_law_186 : decode cL_law 186 = .ok (.iaload, 1) := by decide +kernel
theorem dL_law_187 : decode cL_law 187 = .ok (.invokevirtual 28, 3) := by decide +kernel
theorem dL_law_190 : decode cL_law 190 = .ok (.aload_n 2, 1) := by decide +kernel
theorem dL_law_191 : decode cL_law 191 = .ok (.aload_n 0, 1) := by decide +kernel
theorem dL_law_192 : decode cL_law 192 = .ok (.iload_n 3, 1) := by decide +kernel
theorem dL_law_193 : decode cL_law 193 = .ok (.iconst 1, 1) := by decide +kernel
theorem dL_law_194 : decode cL_law 194 = .ok (.iadd, 1) := by decide +kernel
theorem dL_law_195 : decode cL_law 195 = .ok (.iaload, 1) := by decide +kernel
theorem dL_law_196 : decode cL_law 196 = .ok (.invokevirtual 31, 3) := by decide +kernel
theorem dL_law_199 : decode cL_law 199 = .ok (.if_icmp .eq 166, 3) := by decide +kernel
theorem dL_law_202 : decode cL_law 202 = .ok (.iconst 0, 1) := by decide +kernel
theorem dL_law_203 : decode cL_law 203 = .ok (.ireturn, 1) := by decide +kernel
theorem dL_law_204 : decode cL_law 204 = .ok (.aload_n 1, 1) := by decide +kernel
theorem dL_law_205 : decode cL_law 205 = .ok (.invokevirtual 32, 3) := by decide +kernel
theorem dL_law_208 : decode cL_law 208 = .ok (.aload_n 2, 1) := by decide +kernel
theorem dL_law_209 : decode cL_law 209 = .ok (.invokevirtual 35, 3) := by decide +kernel
theorem dL_law_212 : decode cL_law 212 = .ok (.if_icmp .eq 153, 3) := by decide +kernel
theorem dL_law_215 : decode cL_law 215 = .ok (.iconst 0, 1) := by decide +kernel
theorem dL_law_216 : decode cL_law 216 = .ok (.ireturn, 1) := by decide +kernel
theorem dL_law_217 : decode cL_law 217 = .ok (.aload_n 1, 1) := by decide +kernel
theorem dL_law_218 : decode cL_law 218 = .ok (.aload_n 0, 1) := by decide +kernel
theorem dL_law_219 : decode cL_law 219 = .ok (.iload_n 3, 1) := by decide +kernel
end
section
set_option maxRecDepth 100000
theorem dL_law_220 : decode cL_law 220 = .ok (.iconst 1, 1) := by decide +kernel
theorem dL_law_221 : decode cL_law 221 = .ok (.iadd, 1) := by decide +kernel
theorem dL_law_222 : decode cL_law 222 = .ok (.iaload, 1) := by decide +kernel
theorem dL_law_223 : decode cL_law 223 = .ok (.invokevirtual 36, 3) := by decide +kernel
theorem dL_law_226 : decode cL_law 226 = .ok (.aload_n 2, 1) := by decide +kernel
theorem dL_law_227 : decode cL_law 227 = .ok (.aload_n 0, 1) := by decide +kernel
theorem dL_law_228 : decode cL_law 228 = .ok (.iload_n 3, 1) := by decide +kernel
theorem dL_law_229 : decode cL_law 229 = .ok (.iconst 1, 1) := by decide +kernel
theorem dL_law_230 : decode cL_law 230 = .ok (.iadd, 1) := by decide +kernel
theorem dL_law_231 : decode cL_law 231 = .ok (.iaload, 1) := by decide +kernel
theorem dL_law_232 : decode cL_law 232 = .ok (.invokevirtual 39, 3) := by decide +kernel
theorem dL_law_235 : decode cL_law 235 = .ok (.if_icmp .eq 130, 3) := by decide +kernel
theorem dL_law_238 : decode cL_law 238 = .ok (.iconst 0, 1) := by decide +kernel
theorem dL_law_239 : decode cL_law 239 = .ok (.ireturn, 1) := by decide +kernel
theorem dL_law_240 : decode cL_law 240 = .ok (.aload_n 1, 1) := by decide +kernel
theorem dL_law_241 : decode cL_law 241 = .ok (.aload_n 0, 1) := by decide +kernel
theorem dL_law_242 : decode cL_law 242 = .ok (.iload_n 3, 1) := by decide +kernel
theorem dL_law_243 : decode cL_law 243 = .ok (.iconst 1, 1) := by decide +kernel
theorem dL_law_244 : decode cL_law 244 = .ok (.iadd, 1) := by decide +kernel
theorem dL_law_245 : decode cL_law 245 = .ok (.iaload, 1) := by decide +kernel
theorem dL_law_246 : decode cL_law 246 = .ok (.invokevirtual 40, 3) := by decide +kernel
theorem dL_law_249 : decode cL_law 249 = .ok (.aload_n 2, 1) := by decide +kernel
theorem dL_law_250 : decode cL_law 250 = .ok (.aload_n 0, 1) := by decide +kernel
theorem dL_law_251 : decode cL_law 251 = .ok (.iload_n 3, 1) := by decide +kernel
theorem dL_law_252 : decode cL_law 252 = .ok (.iconst 1, 1) := by decide +kernel
theorem dL_law_253 : decode cL_law 253 = .ok (.iadd, 1) := by decide +kernel
theorem dL_law_254 : decode cL_law 254 = .ok (.iaload, 1) := by decide +kernel
theorem dL_law_255 : decode cL_law 255 = .ok (.invokevirtual 43, 3) := by decide +kernel
theorem dL_law_258 : decode cL_law 258 = .ok (.if_icmp .eq 107, 3) := by decide +kernel
theorem dL_law_261 : decode cL_law 261 = .ok (.iconst 0, 1) := by decide +kernel
theorem dL_law_262 : decode cL_law 262 = .ok (.ireturn, 1) := by decide +kernel
theorem dL_law_263 : decode cL_law 263 = .ok (.aload_n 1, 1) := by decide +kernel
theorem dL_law_264 : decode cL_law 264 = .ok (.aload_n 0, 1) := by decide +kernel
theorem dL_law_265 : decode cL_law 265 = .ok (.iload_n 3, 1) := by decide +kernel
theorem dL_law_266 : decode cL_law 266 = .ok (.iconst 1, 1) := by decide +kernel
theorem dL_law_267 : decode cL_law 267 = .ok (.iadd, 1) := by decide +kernel
theorem dL_law_268 : decode cL_law 268 = .ok (.iaload, 1) := by decide +kernel
theorem dL_law_269 : decode cL_law 269 = .ok (.aload_n 0, 1) := by decide +kernel
theorem dL_law_270 : decode cL_law 270 = .ok (.iload_n 3, 1) := by decide +kernel
theorem dL_law_271 : decode cL_law 271 = .ok (.iconst 2, 1) := by decide +kernel
theorem dL_law_272 : decode cL_law 272 = .ok (.iadd, 1) := by decide +kernel
theorem dL_law_273 : decode cL_law 273 = .ok (.iaload, 1) := by decide +kernel
theorem dL_law_274 : decode cL_law 274 = .ok (.invokevirtual 44, 3) := by decide +kernel
theorem dL_law_277 : decode cL_law 277 = .ok (.aload_n 2, 1) := by decide +kernel
theorem dL_law_278 : decode cL_law 278 = .ok (.aload_n 0, 1) := by decide +kernel
theorem dL_law_279 : decode cL_law 279 = .ok (.iload_n 3, 1) := by decide +kernel
theorem dL_law_280 : decode cL_law 280 = .ok (.iconst 1, 1) := by decide +kernel
theorem dL_law_281 : decode cL_law 281 = .ok (.iadd, 1) := by decide +kernel
theorem dL_law_282 : decode cL_law 282 = .ok (.iaload, 1) := by decide +kernel
theorem dL_law_283 : decode cL_law 283 = .ok (.aload_n 0, 1) := by decide +kernel
theorem dL_law_284 : decode cL_law 284 = .ok (.iload_n 3, 1) := by decide +kernel
theorem dL_law_285 : decode cL_law 285 = .ok (.iconst 2, 1) := by decide +kernel
theorem dL_law_286 : decode cL_law 286 = .ok (.iadd, 1) := by decide +kernel
theorem dL_law_287 : decode cL_law 287 = .ok (.iaload, 1) := by decide +kernel
theorem dL_law_288 : decode cL_law 288 = .ok (.invokevirtual 48, 3) := by decide +kernel
theorem dL_law_291 : decode cL_law 291 = .ok (.if_icmp .eq 74, 3) := by decide +kernel
theorem dL_law_294 : decode cL_law 294 = .ok (.iconst 0, 1) := by decide +kernel
theorem dL_law_295 : decode cL_law 295 = .ok (.ireturn, 1) := by decide +kernel
theorem dL_law_296 : decode cL_law 296 = .ok (.aload_n 1, 1) := by decide +kernel
theorem dL_law_297 : decode cL_law 297 = .ok (.aload_n 0, 1) := by decide +kernel
theorem dL_law_298 : decode cL_law 298 = .ok (.iload_n 3, 1) := by decide +kernel
theorem dL_law_299 : decode cL_law 299 = .ok (.iconst 1, 1) := by decide +kernel
theorem dL_law_300 : decode cL_law 300 = .ok (.iadd, 1) := by decide +kernel
theorem dL_law_301 : decode cL_law 301 = .ok (.iaload, 1) := by decide +kernel
theorem dL_law_302 : decode cL_law 302 = .ok (.invokevirtual 49, 3) := by decide +kernel
theorem dL_law_305 : decode cL_law 305 = .ok (.aload_n 2, 1) := by decide +kernel
theorem dL_law_306 : decode cL_law 306 = .ok (.aload_n 0, 1) := by decide +kernel
theorem dL_law_307 : decode cL_law 307 = .ok (.iload_n 3, 1) := by decide +kernel
theorem dL_law_308 : decode cL_law 308 = .ok (.iconst 1, 1) := by decide +kernel
theorem dL_law_309 : decode cL_law 309 = .ok (.iadd, 1) := by decide +kernel
theorem dL_law_310 : decode cL_law 310 = .ok (.iaload, 1) := by decide +kernel
theorem dL_law_311 : decode cL_law 311 = .ok (.invokevirtual 52, 3) := by decide +kernel
theorem dL_law_314 : decode cL_law 314 = .ok (.if_icmp .eq 51, 3) := by decide +kernel
theorem dL_law_317 : decode cL_law 317 = .ok (.iconst 0, 1) := by decide +kernel
theorem dL_law_318 : decode cL_law 318 = .ok (.ireturn, 1) := by decide +kernel
theorem dL_law_319 : decode cL_law 319 = .ok (.aload_n 1, 1) := by decide +kernel
theorem dL_law_320 : decode cL_law 320 = .ok (.aload_n 0, 1) := by decide +kernel
theorem dL_law_321 : decode cL_law 321 = .ok (.iload_n 3, 1) := by decide +kernel
theorem dL_law_322 : decode cL_law 322 = .ok (.iconst 1, 1) := by decide +kernel
theorem dL_law_323 : decode cL_law 323 = .ok (.iadd, 1) := by decide +kernel
theorem dL_law_324 : decode cL_law 324 = .ok (.iaload, 1) := by decide +kernel
theorem dL_law_325 : decode cL_law 325 = .ok (.invokevirtual 53, 3) := by decide +kernel
theorem dL_law_328 : decode cL_law 328 = .ok (.aload_n 2, 1) := by decide +kernel
theorem dL_law_329 : decode cL_law 329 = .ok (.aload_n 0, 1) := by decide +kernel
theorem dL_law_330 : decode cL_law 330 = .ok (.iload_n 3, 1) := by decide +kernel
theorem dL_law_331 : decode cL_law 331 = .ok (.iconst 1, 1) := by decide +kernel
theorem dL_law_332 : decode cL_law 332 = .ok (.iadd, 1) := by decide +kernel
theorem dL_law_333 : decode cL_law 333 = .ok (.iaload, 1) := by decide +kernel
theorem dL_law_334 : decode cL_law 334 = .ok (.invokevirtual 56, 3) := by decide +kernel
theorem dL_law_337 : decode cL_law 337 = .ok (.if_icmp .eq 28, 3) := by decide +kernel
theorem dL_law_340 : decode cL_law 340 = .ok (.iconst 0, 1) := by decide +kernel
theorem dL_law_341 : decode cL_law 341 = .ok (.ireturn, 1) := by decide +kernel
theorem dL_law_342 : decode cL_law 342 = .ok (.aload_n 1, 1) := by decide +kernel
theorem dL_law_343 : decode cL_law 343 = .ok (.aload_n 0, 1) := by decide +kernel
theorem dL_law_344 : decode cL_law 344 = .ok (.iload_n 3, 1) := by decide +kernel
theorem dL_law_345 : decode cL_law 345 = .ok (.iconst 1, 1) := by decide +kernel
theorem dL_law_346 : decode cL_law 346 = .ok (.iadd, 1) := by decide +kernel
theorem dL_law_347 : decode cL_law 347 = .ok (.iaload, 1) := by decide +kernel
theorem dL_law_348 : decode cL_law 348 = .ok (.invokevirtual 57, 3) := by decide +kernel
theorem dL_law_351 : decode cL_law 351 = .ok (.aload_n 2, 1) := by decide +kernel
theorem dL_law_352 : decode cL_law 352 = .ok (.aload_n 0, 1) := by decide +kernel
theorem dL_law_353 : decode cL_law 353 = .ok (.iload_n 3, 1) := by decide +kernel
theorem dL_law_354 : decode cL_law 354 = .ok (.iconst 1, 1) := by decide +kernel
theorem dL_law_355 : decode cL_law 355 = .ok (.iadd, 1) := by decide +kernel
theorem dL_law_356 : decode cL_law 356 = .ok (.iaload, 1) := by decide +kernel
theorem dL_law_357 : decode cL_law 357 = .ok (.invokevirtual 60, 3) := by decide +kernel
theorem dL_law_360 : decode cL_law 360 = .ok (.if_icmp .eq 5, 3) := by decide +kernel
theorem dL_law_363 : decode cL_law 363 = .ok (.iconst 0, 1) := by decide +kernel
theorem dL_law_364 : decode cL_law 364 = .ok (.ireturn, 1) := by decide +kernel
theorem dL_law_365 : decode cL_law 365 = .ok (.iinc 3 5, 3) := by decide +kernel
theorem dL_law_368 : decode cL_law 368 = .ok (.goto (-350), 3) := by decide +kernel
theorem dL_law_371 : decode cL_law 371 = .ok (.iconst 1, 1) := by decide +kernel
theorem dL_law_372 : decode cL_law 372 = .ok (.ireturn, 1) := by decide +kernel
end
section
/-! PURE: the machine that both classes run, its tables, and what the calls must answer; no program in sight -/
set_option maxRecDepth 100000
abbrev zq_St : Type := Nat → Nat → Int32
def zq_var (v : Int32) : Prop := ∃ k : Nat, k < 6 ∧ v = nI k
def zq_plc (v : Int32) : Prop := ∃ k : Nat, k < 20 ∧ v = nI k
def zq_ok (o x y z : Int32) : Prop := o = 8 ∨ (o = 7 ∧ zq_plc x) ∨ (zq_var x ∧ (o = 0 ∨ (o = 6 ∧ zq_plc y) ∨ (zq_var y ∧ (o = 4 ∨ o = 5 ∨ ((o = 1 ∨ o = 2 ∨ o = 3) ∧ zq_var z)))))
theorem zq_ok_c {o x y z : Int32} (h : zq_ok o x y z) : o = 8 ∨ (o = 7 ∧ zq_plc x) ∨ (o = 6 ∧ zq_var x ∧ zq_plc y) ∨ (o = 5 ∧ zq_var x ∧ zq_var y) ∨ (o = 4 ∧ zq_var x ∧ zq_var y) ∨ (o = 0 ∧ zq_var x) ∨ ((o = 1 ∨ o = 2 ∨ o = 3) ∧ zq_var x ∧ zq_var y ∧ zq_var z) := by
  rcases h with h | ⟨h, h2⟩ | ⟨hx, h | ⟨h, h2⟩ | ⟨hy, h | h | ⟨h, hz⟩⟩⟩
  · exact Or.inl h
  · exact Or.inr (Or.inl ⟨h, h2⟩)
  · exact Or.inr (Or.inr (Or.inr (Or.inr (Or.inr (Or.inl ⟨h, hx⟩)))))
  · exact Or.inr (Or.inr (Or.inl ⟨h, hx, h2⟩))
  · exact Or.inr (Or.inr (Or.inr (Or.inr (Or.inl ⟨h, hx, hy⟩))))
  · exact Or.inr (Or.inr (Or.inr (Or.inl ⟨h, hx, hy⟩)))
  · exact Or.inr (Or.inr (Or.inr (Or.inr (Or.inr (Or.inr ⟨h, hx, hy, hz⟩)))))
theorem zq_ok_b {o x y z : Int32} (h : zq_ok o x y z) : ∃ k : Nat, k ≤ 8 ∧ o = nI k := by
  rcases zq_ok_c h with e | ⟨e, -⟩ | ⟨e, -⟩ | ⟨e, -⟩ | ⟨e, -⟩ | ⟨e, -⟩ | ⟨e | e | e, -⟩
  · exact ⟨8, by omega, e⟩
  · exact ⟨7, by omega, e⟩
  · exact ⟨6, by omega, e⟩
  · exact ⟨5, by omega, e⟩
  · exact ⟨4, by omega, e⟩
  · exact ⟨0, by omega, e⟩
  · exact ⟨1, by omega, e⟩
  · exact ⟨2, by omega, e⟩
  · exact ⟨3, by omega, e⟩
def zq_m7 (x : Int32) : Nat := (x &&& 7).toNatClampNeg
theorem zq_m7_lt (x : Int32) : zq_m7 x < 8 := by
  obtain ⟨j, h1, h2⟩ := pk_andE x (m := 7) 3 (by decide)
  unfold zq_m7
  rw [h2, nI_clamp (by omega)]
  exact h1
theorem zq_m7_eq (x : Int32) : x &&& 7 = nI (zq_m7 x) := by
  obtain ⟨j, h1, h2⟩ := pk_andE x (m := 7) 3 (by decide)
  unfold zq_m7
  rw [h2, nI_clamp (by omega)]
theorem zq_b8 : ∀ n, n < 128 → (nI n).toInt8.toInt32 = nI n := by decide +kernel
theorem zq_s16 : ∀ n, n < 256 → (nI n).toInt16.toInt32 = nI n := by decide +kernel
theorem zq_nb {n : Nat} (h : n < 128) : vp_nar .byte (nI n) = nI n := by rw [vp_nar_byte]; exact zq_b8 n h
theorem zq_ns {n : Nat} (h : n < 256) : vp_nar .short (nI n) = nI n := by rw [vp_nar_short]; exact zq_s16 n h
theorem zq_nb1 : vp_nar .byte (-1) = -1 := by rw [vp_nar_byte]; decide
theorem zq_ns1 : vp_nar .short (-1) = -1 := by rw [vp_nar_short]; decide
theorem zq_ns0 : vp_nar .short 0 = 0 := by rw [vp_nar_short]; decide
-- ===== one step of the machine: the place written (14: none), the value, the next number =====
def zq_wp (P : zq_St) (c : Nat → Int32) (i : Nat) : Nat := if P 1 i = 8 ∨ P 1 i = 7 ∨ P 1 i = 6 then 14 else if P 1 i = 5 then 6 + zq_m7 (c (P 3 i).toNatClampNeg) else (P 2 i).toNatClampNeg
def zq_wv (P : zq_St) (c : Nat → Int32) (i : Nat) : Int32 := if P 1 i = 0 then P 3 i else if P 1 i = 1 then c (P 3 i).toNatClampNeg + c (P 4 i).toNatClampNeg else if P 1 i = 2 then c (P 3 i).toNatClampNeg - c (P 4 i).toNatClampNeg else if P 1 i = 3 then c (P 3 i).toNatClampNeg * c (P 4 i).toNatClampNeg else if P 1 i = 4 then c (6 + zq_m7 (c (P 3 i).toNatClampNeg)) else if P 1 i = 5 then c (P 2 i).toNatClampNeg else 0
def zq_nx (P : zq_St) (c : Nat → Int32) (i : Nat) : Nat := if P 1 i = 8 then i else if P 1 i = 7 then (P 2 i).toNatClampNeg else if P 1 i = 6 then (if c (P 2 i).toNatClampNeg ≤ 0 then i + 1 else (P 3 i).toNatClampNeg) else i + 1
def zq_rn (P : zq_St) : Nat → (Nat → Int32) × Nat × Bool
  | 0 => (fun i => if i = 5 then P 5 0 else 0, 0, false)
  | t + 1 => (upd (zq_rn P t).1 (zq_wp P (zq_rn P t).1 (zq_rn P t).2.1) (zq_wv P (zq_rn P t).1 (zq_rn P t).2.1), zq_nx P (zq_rn P t).1 (zq_rn P t).2.1, decide (P 1 (zq_rn P t).2.1 = 8))
def zq_M (P : zq_St) (t : Nat) : Nat → Int32 := (zq_rn P t).1
def zq_N (P : zq_St) (t : Nat) : Nat := (zq_rn P t).2.1
def zq_h (P : zq_St) (t : Nat) : Bool := (zq_rn P t).2.2
def zq_w (P : zq_St) : Nat → Nat
  | 0 => 14
  | t + 1 => zq_wp P (zq_M P t) (zq_N P t)
theorem zq_M_s (P : zq_St) (t : Nat) : zq_M P (t + 1) = upd (zq_M P t) (zq_w P (t + 1)) (zq_wv P (zq_M P t) (zq_N P t)) := rfl
theorem zq_N_s (P : zq_St) (t : Nat) : zq_N P (t + 1) = zq_nx P (zq_M P t) (zq_N P t) := rfl
theorem zq_h_s (P : zq_St) (t : Nat) : zq_h P (t + 1) = decide (P 1 (zq_N P t) = 8) := rfl
theorem zq_w_s (P : zq_St) (t : Nat) : zq_w P (t + 1) = zq_wp P (zq_M P t) (zq_N P t) := rfl
theorem zq_N_0 (P : zq_St) : zq_N P 0 = 0 := rfl
theorem zq_h_0 (P : zq_St) : zq_h P 0 = false := rfl
theorem zq_M_0 (P : zq_St) (i : Nat) : zq_M P 0 i = if i = 5 then P 5 0 else 0 := rfl
def zq_E (P : zq_St) (n t : Nat) : Prop := zq_h P t = true ∨ n ≤ zq_N P t
def zq_T (P : zq_St) (n T : Nat) : Prop := T ≤ 200 ∧ (∀ t, t < T → ¬ zq_E P n t) ∧ (T = 200 ∨ zq_E P n T)
theorem zq_T_u {P : zq_St} {n T S : Nat} (h1 : zq_T P n T) (h2 : zq_T P n S) : T = S := by
  rcases Nat.lt_trichotomy T S with h | h | h
  · rcases h1.2.2 with e | e
    · have := h2.1
      omega
    · exact absurd e (h2.2.1 T h)
  · exact h
  · rcases h2.2.2 with e | e
    · have := h1.1
      omega
    · exact absurd e (h1.2.1 S h)
def zq_okP (P : zq_St) (n : Nat) : Prop := P 0 0 = nI n ∧ n ≤ 20 ∧ ∀ i, i < n → zq_ok (P 1 i) (P 2 i) (P 3 i) (P 4 i)
theorem zq_c20 {k : Nat} (h : k < 20) : (nI k).toNatClampNeg = k := nI_clamp (by omega)
theorem zq_nx_le {P : zq_St} {n i : Nat} (c : Nat → Int32) (h : zq_okP P n) (hi : i < n) : zq_nx P c i ≤ 20 := by
  have h20 := h.2.1
  rcases zq_ok_c (h.2.2 i hi) with e | ⟨e, k, hk, ex⟩ | ⟨e, -, k, hk, ey⟩ | ⟨e, -⟩ | ⟨e, -⟩ | ⟨e, -⟩ | ⟨e | e | e, -⟩
  · simp +decide only [zq_nx, e, if_true, if_false]; omega
  · simp +decide only [zq_nx, e, if_true, if_false, ex, zq_c20 hk]; omega
  · simp +decide only [zq_nx, e, if_true, if_false, ey, zq_c20 hk]
    split <;> omega
  · simp +decide only [zq_nx, e, if_true, if_false]; omega
  · simp +decide only [zq_nx, e, if_true, if_false]; omega
  · simp +decide only [zq_nx, e, if_true, if_false]; omega
  · simp +decide only [zq_nx, e, if_true, if_false]; omega
  · simp +decide only [zq_nx, e, if_true, if_false]; omega
  · simp +decide only [zq_nx, e, if_true, if_false]; omega
theorem zq_wp_le {P : zq_St} {n i : Nat} (c : Nat → Int32) (h : zq_okP P n) (hi : i < n) : zq_wp P c i ≤ 14 := by
  have h7 := zq_m7_lt (c (P 3 i).toNatClampNeg)
  rcases zq_ok_c (h.2.2 i hi) with e | ⟨e, k, hk, ex⟩ | ⟨e, -, k, hk, ey⟩ | ⟨e, -⟩ | ⟨e, ⟨k, hk, ex⟩, -⟩ | ⟨e, k, hk, ex⟩ | ⟨e | e | e, ⟨k, hk, ex⟩, -⟩
  · simp +decide [zq_wp, e]
  · simp +decide [zq_wp, e]
  · simp +decide [zq_wp, e]
  · simp +decide only [zq_wp, e, if_true, if_false]; omega
  · simp +decide only [zq_wp, e, if_true, if_false, ex, nI_clamp (show k < 2 ^ 31 by omega)]; omega
  · simp +decide only [zq_wp, e, if_true, if_false, ex, nI_clamp (show k < 2 ^ 31 by omega)]; omega
  · simp +decide only [zq_wp, e, if_true, if_false, ex, nI_clamp (show k < 2 ^ 31 by omega)]; omega
  · simp +decide only [zq_wp, e, if_true, if_false, ex, nI_clamp (show k < 2 ^ 31 by omega)]; omega
  · simp +decide only [zq_wp, e, if_true, if_false, ex, nI_clamp (show k < 2 ^ 31 by omega)]; omega
/-- the step looks at the first fourteen places alone -/
theorem zq_cong {P : zq_St} {n i : Nat} {c c' : Nat → Int32} (h : zq_okP P n) (hi : i < n) (hc : ∀ j, j < 14 → c j = c' j) : zq_wp P c i = zq_wp P c' i ∧ zq_wv P c i = zq_wv P c' i ∧ zq_nx P c i = zq_nx P c' i := by
  have h7 := zq_m7_lt (c' (P 3 i).toNatClampNeg)
  rcases zq_ok_c (h.2.2 i hi) with e | ⟨e, k, hk, ex⟩ | ⟨e, ⟨k, hk, ex⟩, -⟩ | ⟨e, ⟨k, hk, ex⟩, k2, hk2, ey⟩ | ⟨e, -, k2, hk2, ey⟩ | ⟨e, -⟩ | ⟨e | e | e, -, ⟨k2, hk2, ey⟩, k3, hk3, ez⟩
  · simp +decide [zq_wp, zq_wv, zq_nx, e]
  · simp +decide [zq_wp, zq_wv, zq_nx, e]
  · simp +decide [zq_wp, zq_wv, zq_nx, e, ex, nI_clamp (show k < 2 ^ 31 by omega), hc k (by omega)]
  · simp +decide [zq_wp, zq_wv, zq_nx, e, ex, ey, nI_clamp (show k < 2 ^ 31 by omega), nI_clamp (show k2 < 2 ^ 31 by omega), hc k (by omega), hc k2 (by omega)]
  · rw [ey, nI_clamp (show k2 < 2 ^ 31 by omega)] at h7
    simp +decide [zq_wp, zq_wv, zq_nx, e, ey, nI_clamp (show k2 < 2 ^ 31 by omega), hc k2 (by omega), hc (6 + zq_m7 (c' k2)) (by omega)]
  · simp +decide [zq_wp, zq_wv, zq_nx, e]
  · simp +decide [zq_wp, zq_wv, zq_nx, e, ey, ez, nI_clamp (show k2 < 2 ^ 31 by omega), nI_clamp (show k3 < 2 ^ 31 by omega), hc k2 (by omega), hc k3 (by omega)]
  · simp +decide [zq_wp, zq_wv, zq_nx, e, ey, ez, nI_clamp (show k2 < 2 ^ 31 by omega), nI_clamp (show k3 < 2 ^ 31 by omega), hc k2 (by omega), hc k3 (by omega)]
  · simp +decide [zq_wp, zq_wv, zq_nx, e, ey, ez, nI_clamp (show k2 < 2 ^ 31 by omega), nI_clamp (show k3 < 2 ^ 31 by omega), hc k2 (by omega), hc k3 (by omega)]
-- ===== the latest time before t with the number i; the latest write to p up to t =====
def zq_lt (P : zq_St) (i : Nat) : Nat → Int32
  | 0 => -1
  | t + 1 => if zq_N P t = i then nI t else zq_lt P i t
def zq_lw (P : zq_St) (p : Nat) : Nat → Nat
  | 0 => 0
  | t + 1 => if zq_w P (t + 1) = p then t + 1 else zq_lw P p t
theorem zq_lt_c (P : zq_St) (i : Nat) : ∀ t : Nat, (zq_lt P i t = -1 ∧ ∀ r, r < t → zq_N P r ≠ i) ∨ ∃ r, r < t ∧ zq_lt P i t = nI r ∧ zq_N P r = i ∧ ∀ r', r < r' → r' < t → zq_N P r' ≠ i
  | 0 => Or.inl ⟨rfl, fun r h => absurd h (by omega)⟩
  | t + 1 => by
    by_cases h : zq_N P t = i
    · exact Or.inr ⟨t, by omega, by simp [zq_lt, h], h, fun r' h1 h2 => absurd h2 (by omega)⟩
    · rcases zq_lt_c P i t with ⟨h1, h2⟩ | ⟨r, h1, h2, h3, h4⟩
      · refine Or.inl ⟨by simp [zq_lt, h, h1], fun r hr => ?_⟩
        by_cases e : r = t
        · rw [e]; exact h
        · exact h2 r (by omega)
      · refine Or.inr ⟨r, by omega, by simp [zq_lt, h, h2], h3, fun r' g1 g2 => ?_⟩
        by_cases e : r' = t
        · rw [e]; exact h
        · exact h4 r' g1 (by omega)
theorem zq_lt_ns {P : zq_St} {i t : Nat} (h : t ≤ 201) : vp_nar .short (zq_lt P i t) = zq_lt P i t := by
  rcases zq_lt_c P i t with ⟨e, -⟩ | ⟨r, h1, e, -⟩
  · rw [e]; exact zq_ns1
  · rw [e]; exact zq_ns (by omega)
theorem zq_lw_le (P : zq_St) (p : Nat) : ∀ t : Nat, zq_lw P p t ≤ t
  | 0 => Nat.le_refl 0
  | t + 1 => by
    have := zq_lw_le P p t
    unfold zq_lw
    split <;> omega
theorem zq_lw_w (P : zq_St) (p : Nat) : ∀ t : Nat, 0 < zq_lw P p t → zq_w P (zq_lw P p t) = p
  | 0, h => absurd h (by simp [zq_lw])
  | t + 1, h => by
    unfold zq_lw at h ⊢
    split
    · next e => exact e
    · next e =>
      rw [if_neg e] at h
      exact zq_lw_w P p t h
theorem zq_lw_eq (P : zq_St) (p q : Nat) : ∀ t : Nat, q ≤ t → zq_lw P p t ≤ q → zq_lw P p q = zq_lw P p t
  | 0, h, _ => by rw [show q = 0 by omega]
  | t + 1, h, hl => by
    by_cases e : q = t + 1
    · rw [e]
    · unfold zq_lw at hl ⊢
      split at hl
      · omega
      · next g =>
        have := zq_lw_eq P p q t (by omega) hl
        rw [if_neg g, ← this]
        cases q <;> rfl
def zq_pj (p : Nat) : Int32 := if p < 14 then nI p else -1
theorem zq_pj_lt {p : Nat} (h : p < 14) : zq_pj p = nI p := if_pos h
theorem zq_pj_ge {p : Nat} (h : ¬ p < 14) : zq_pj p = -1 := if_neg h
theorem zq_pj_neg {p : Nat} (h : zq_pj p < 0) : ¬ p < 14 := by
  intro g
  rw [zq_pj_lt g] at h
  exact nI_pos (by omega) h
theorem zq_pj_pos {p : Nat} (h : ¬ zq_pj p < 0) : p < 14 := by
  rcases Nat.lt_or_ge p 14 with g | g
  · exact g
  · rw [zq_pj_ge (by omega)] at h
    exact absurd (by decide) h
-- ===== the tables of the class: right up to the time t =====
def zq_R9 (P : zq_St) (t : Nat) (u : zq_St) : Prop := ∀ s, 1 ≤ s → s ≤ t → u 9 s = zq_pj (zq_w P s) ∧ (zq_w P s < 14 → u 10 s = zq_M P (s - 1) (zq_w P s) ∧ u 11 s = zq_M P s (zq_w P s) ∧ u 12 s = nI (zq_lw P (zq_w P s) (s - 1)))
def zq_G (P : zq_St) (t : Nat) (u : zq_St) : Prop := (∀ s, s ≤ t → u 13 s = nI (zq_N P s) ∧ u 14 s = zq_lt P (zq_N P s) s) ∧ (∀ i, i ≤ 20 → u 16 i = zq_lt P i (t + 1)) ∧ zq_R9 P t u ∧ (∀ p, p < 14 → u 15 p = nI (zq_lw P p t)) ∧ (∀ k i, 50 * k ≤ t → i < 14 → u 17 (14 * k + i) = zq_M P (50 * k) i)
def zq_now (P : zq_St) (q : Nat) (u : zq_St) : Prop := ∀ i, i < 14 → u 6 i = zq_M P q i
/-- the same, ahead of the note of the time t -/
def zq_GH (P : zq_St) (t : Nat) (u : zq_St) : Prop := (∀ s, s < t → u 13 s = nI (zq_N P s) ∧ u 14 s = zq_lt P (zq_N P s) s) ∧ (∀ i, i ≤ 20 → u 16 i = zq_lt P i t) ∧ zq_R9 P t u ∧ (∀ p, p < 14 → u 15 p = nI (zq_lw P p t)) ∧ (∀ k i, 50 * k < t → i < 14 → u 17 (14 * k + i) = zq_M P (50 * k) i) ∧ zq_now P t u
def zq_A (P : zq_St) (u : zq_St) : Prop := u 0 0 = P 0 0 ∧ u 1 = P 1 ∧ u 2 = P 2 ∧ u 3 = P 3 ∧ u 4 = P 4 ∧ u 5 0 = P 5 0
def zq_I0 (P : zq_St) (n T q : Nat) (u : zq_St) : Prop := zq_okP P n ∧ zq_T P n T ∧ q ≤ T ∧ zq_A P u ∧ zq_G P T u ∧ zq_now P q u ∧ u 7 0 = nI q ∧ u 8 0 = nI T
def zq_I1 (P : zq_St) (q : Nat) (v : zq_St) : Prop := zq_A P v ∧ v 6 0 = nI q
-- ===== what store, noteTime, perform do to the cells =====
def zq_sto (u : zq_St) (T p : Nat) (v : Int32) : zq_St := va_up (va_up (va_up (va_up (va_up (va_up u 9 (upd (u 9) T (nI p))) 10 (upd (u 10) T (u 6 p))) 11 (upd (u 11) T v)) 12 (upd (u 12) T (u 15 p))) 15 (upd (u 15) p (nI T))) 6 (upd (u 6) p v)
def zq_sav (f g : Nat → Int32) (k m : Nat) : Nat → Int32 := fun i => if 14 * k ≤ i ∧ i < 14 * k + m then g (i - 14 * k) else f i
def zq_no1 (u : zq_St) (t c : Nat) : zq_St := va_up (va_up (va_up u 13 (upd (u 13) t (nI c))) 14 (upd (u 14) t (u 16 c))) 16 (upd (u 16) c (nI t))
def zq_not (u : zq_St) (t c : Nat) : zq_St := if t % 50 = 0 then va_up (zq_no1 u t c) 17 (zq_sav (u 17) (u 6) (t / 50) 14) else zq_no1 u t c
def zq_pf (u : zq_St) (T p : Nat) (v : Int32) : zq_St := if p < 14 then zq_sto u T p v else u
theorem zq_sav_0 (f g : Nat → Int32) (k : Nat) : zq_sav f g k 0 = f := by
  funext i
  unfold zq_sav
  rw [if_neg (by omega)]
theorem zq_sav_s (f g : Nat → Int32) (k m : Nat) : upd (zq_sav f g k m) (14 * k + m) (g m) = zq_sav f g k (m + 1) := by
  funext i
  unfold zq_sav upd
  by_cases h : i = 14 * k + m
  · rw [if_pos h, if_pos (by omega), h, show 14 * k + m - 14 * k = m by omega]
  · rw [if_neg h]
    dsimp only
    by_cases g1 : 14 * k ≤ i ∧ i < 14 * k + m
    · rw [if_pos g1, if_pos (by omega)]
    · rw [if_neg g1, if_neg (by omega)]
theorem zq_sav_in (f g : Nat → Int32) (k i : Nat) (h : i < 14) : zq_sav f g k 14 (14 * k + i) = g i := by
  unfold zq_sav
  rw [if_pos (by omega), show 14 * k + i - 14 * k = i by omega]
theorem zq_sav_out (f g : Nat → Int32) {k j i : Nat} (h : i < 14) (hk : j ≠ k) : zq_sav f g k 14 (14 * j + i) = f (14 * j + i) := by
  unfold zq_sav
  rw [if_neg (by omega)]
theorem zq_no1_e (u : zq_St) (t c k : Nat) (h : k ≠ 13) (h2 : k ≠ 14) (h3 : k ≠ 16) : zq_no1 u t c k = u k := by
  unfold zq_no1
  rw [va_up_ne _ _ h3, va_up_ne _ _ h2, va_up_ne _ _ h]
theorem zq_not_e (u : zq_St) (t c k : Nat) (h : k ≠ 13) (h2 : k ≠ 14) (h3 : k ≠ 16) (h4 : k ≠ 17) : zq_not u t c k = u k := by
  unfold zq_not
  split
  · rw [va_up_ne _ _ h4, zq_no1_e u t c k h h2 h3]
  · exact zq_no1_e u t c k h h2 h3
theorem zq_not_n (u : zq_St) (t c k : Nat) (h4 : k ≠ 17) : zq_not u t c k = zq_no1 u t c k := by
  unfold zq_not
  split
  · rw [va_up_ne _ _ h4]
  · rfl
theorem zq_sto_e (u : zq_St) (T p k : Nat) (v : Int32) (h1 : k ≠ 9) (h2 : k ≠ 10) (h3 : k ≠ 11) (h4 : k ≠ 12) (h5 : k ≠ 15) (h6 : k ≠ 6) : zq_sto u T p v k = u k := by
  unfold zq_sto
  rw [va_up_ne _ _ h6, va_up_ne _ _ h5, va_up_ne _ _ h4, va_up_ne _ _ h3, va_up_ne _ _ h2, va_up_ne _ _ h1]
theorem zq_pf_e (u : zq_St) (T p k : Nat) (v : Int32) (h1 : k ≠ 9) (h2 : k ≠ 10) (h3 : k ≠ 11) (h4 : k ≠ 12) (h5 : k ≠ 15) (h6 : k ≠ 6) : zq_pf u T p v k = u k := by
  unfold zq_pf
  split
  · exact zq_sto_e u T p k v h1 h2 h3 h4 h5 h6
  · rfl
theorem zq_upd_s (f : Nat → Int32) (k : Nat) (x : Int32) : upd f k x k = x := by simp [upd]
theorem zq_upd_n (f : Nat → Int32) {k j : Nat} (x : Int32) (h : j ≠ k) : upd f k x j = f j := by simp [upd, h]
/-- the note of the time t -/
theorem zq_note {P u : zq_St} {t : Nat} (h : zq_GH P t u) (hN : zq_N P t ≤ 20) : zq_G P t (zq_not u t (zq_N P t)) ∧ zq_now P t (zq_not u t (zq_N P t)) := by
  obtain ⟨h1, h2, h3, h4, h5, h6⟩ := h
  have e6 : zq_not u t (zq_N P t) 6 = u 6 := zq_not_e u t _ 6 (by decide) (by decide) (by decide) (by decide)
  have e9 : zq_not u t (zq_N P t) 9 = u 9 := zq_not_e u t _ 9 (by decide) (by decide) (by decide) (by decide)
  have e10 : zq_not u t (zq_N P t) 10 = u 10 := zq_not_e u t _ 10 (by decide) (by decide) (by decide) (by decide)
  have e11 : zq_not u t (zq_N P t) 11 = u 11 := zq_not_e u t _ 11 (by decide) (by decide) (by decide) (by decide)
  have e12 : zq_not u t (zq_N P t) 12 = u 12 := zq_not_e u t _ 12 (by decide) (by decide) (by decide) (by decide)
  have e15 : zq_not u t (zq_N P t) 15 = u 15 := zq_not_e u t _ 15 (by decide) (by decide) (by decide) (by decide)
  have e13 : zq_not u t (zq_N P t) 13 = upd (u 13) t (nI (zq_N P t)) := by rw [zq_not_n u t _ 13 (by decide)]; rfl
  have e14 : zq_not u t (zq_N P t) 14 = upd (u 14) t (u 16 (zq_N P t)) := by rw [zq_not_n u t _ 14 (by decide)]; rfl
  have e16 : zq_not u t (zq_N P t) 16 = upd (u 16) (zq_N P t) (nI t) := by rw [zq_not_n u t _ 16 (by decide)]; rfl
  refine ⟨⟨fun s hs => ?_, fun i hi => ?_, fun s g1 g2 => ?_, fun p hp => ?_, fun k i hk hi => ?_⟩, fun i hi => ?_⟩
  · rw [e13, e14]
    by_cases e : s = t
    · subst e
      rw [zq_upd_s, zq_upd_s]
      exact ⟨rfl, h2 _ hN⟩
    · rw [zq_upd_n _ _ e, zq_upd_n _ _ e]
      exact h1 s (by omega)
  · rw [e16]
    unfold zq_lt
    by_cases e : zq_N P t = i
    · rw [if_pos e, ← e, zq_upd_s]
    · rw [if_neg e, zq_upd_n _ _ (Ne.symm e)]
      exact h2 i hi
  · rw [e9, e10, e11, e12]
    exact h3 s g1 g2
  · rw [e15]
    exact h4 p hp
  · by_cases e : t % 50 = 0
    · have e17 : zq_not u t (zq_N P t) 17 = zq_sav (u 17) (u 6) (t / 50) 14 := by
        unfold zq_not
        rw [if_pos e, va_up_self]
      rw [e17]
      by_cases ek : k = t / 50
      · rw [ek, zq_sav_in _ _ _ _ hi, show 50 * (t / 50) = t by omega]
        exact h6 i hi
      · rw [zq_sav_out _ _ hi ek]
        exact h5 k i (by omega) hi
    · have e17 : zq_not u t (zq_N P t) 17 = u 17 := by
        unfold zq_not
        rw [if_neg e]
        exact zq_no1_e u t _ 17 (by decide) (by decide) (by decide)
      rw [e17]
      exact h5 k i (by omega) hi
  · rw [e6]
    exact h6 i hi
/-- one step of the machine, in the tables, ahead of its note -/
theorem zq_step {P u : zq_St} {t : Nat} (h : zq_G P t u) (hn : zq_now P t u) : zq_GH P (t + 1) (zq_pf (va_up (va_up u 8 (fun _ => nI (t + 1))) 9 (upd (u 9) (t + 1) (-1))) (t + 1) (zq_w P (t + 1)) (zq_wv P (zq_M P t) (zq_N P t))) := by
  obtain ⟨h1, h2, h3, h4, h5⟩ := h
  generalize hv : zq_wv P (zq_M P t) (zq_N P t) = v
  have hM := zq_M_s P t
  rw [hv] at hM
  generalize hU : zq_pf (va_up (va_up u 8 (fun _ => nI (t + 1))) 9 (upd (u 9) (t + 1) (-1))) (t + 1) (zq_w P (t + 1)) v = U
  have ek : ∀ k, k ≠ 8 → k ≠ 9 → k ≠ 10 → k ≠ 11 → k ≠ 12 → k ≠ 15 → k ≠ 6 → U k = u k := by
    intro k g8 g9 g10 g11 g12 g15 g6
    rw [← hU, zq_pf_e _ _ _ _ _ g9 g10 g11 g12 g15 g6, va_up_ne _ _ g9, va_up_ne _ _ g8]
  have e13 := ek 13 (by decide) (by decide) (by decide) (by decide) (by decide) (by decide) (by decide)
  have e14 := ek 14 (by decide) (by decide) (by decide) (by decide) (by decide) (by decide) (by decide)
  have e16 := ek 16 (by decide) (by decide) (by decide) (by decide) (by decide) (by decide) (by decide)
  have e17 := ek 17 (by decide) (by decide) (by decide) (by decide) (by decide) (by decide) (by decide)
  by_cases hw : zq_w P (t + 1) < 14
  · have hU2 : U = zq_sto (va_up (va_up u 8 (fun _ => nI (t + 1))) 9 (upd (u 9) (t + 1) (-1))) (t + 1) (zq_w P (t + 1)) v := by
      rw [← hU]
      exact if_pos hw
    have e9 : U 9 = upd (upd (u 9) (t + 1) (-1)) (t + 1) (nI (zq_w P (t + 1))) := by rw [hU2]; rfl
    have e10 : U 10 = upd (u 10) (t + 1) (u 6 (zq_w P (t + 1))) := by rw [hU2]; rfl
    have e11 : U 11 = upd (u 11) (t + 1) v := by rw [hU2]; rfl
    have e12 : U 12 = upd (u 12) (t + 1) (u 15 (zq_w P (t + 1))) := by rw [hU2]; rfl
    have e15 : U 15 = upd (u 15) (zq_w P (t + 1)) (nI (t + 1)) := by rw [hU2]; rfl
    have e6 : U 6 = upd (u 6) (zq_w P (t + 1)) v := by rw [hU2]; rfl
    refine ⟨fun s hs => ?_, fun i hi => ?_, fun s g1 g2 => ?_, fun p hp => ?_, fun k i hk hi => ?_, fun i hi => ?_⟩
    · rw [e13, e14]
      exact h1 s (by omega)
    · rw [e16]
      exact h2 i hi
    · rw [e9, e10, e11, e12]
      by_cases e : s = t + 1
      · subst e
        rw [zq_upd_s, zq_upd_s, zq_upd_s, zq_upd_s]
        refine ⟨(zq_pj_lt hw).symm, fun _ => ⟨hn _ hw, ?_, h4 _ hw⟩⟩
        rw [hM, zq_upd_s]
      · rw [zq_upd_n _ _ e, zq_upd_n _ _ e, zq_upd_n _ _ e, zq_upd_n _ _ e, zq_upd_n _ _ e]
        exact h3 s g1 (by omega)
    · rw [e15]
      unfold zq_lw
      by_cases e : zq_w P (t + 1) = p
      · rw [if_pos e, e, zq_upd_s]
      · rw [if_neg e, zq_upd_n _ _ (Ne.symm e)]
        exact h4 p hp
    · rw [e17]
      exact h5 k i (by omega) hi
    · rw [e6, hM]
      by_cases e : i = zq_w P (t + 1)
      · rw [e, zq_upd_s, zq_upd_s]
      · rw [zq_upd_n _ _ e, zq_upd_n _ _ e]
        exact hn i hi
  · have hU2 : U = va_up (va_up u 8 (fun _ => nI (t + 1))) 9 (upd (u 9) (t + 1) (-1)) := by
      rw [← hU]
      exact if_neg hw
    have e9 : U 9 = upd (u 9) (t + 1) (-1) := by rw [hU2]; rfl
    have e10 : U 10 = u 10 := by rw [hU2]; rfl
    have e11 : U 11 = u 11 := by rw [hU2]; rfl
    have e12 : U 12 = u 12 := by rw [hU2]; rfl
    have e15 : U 15 = u 15 := by rw [hU2]; rfl
    have e6 : U 6 = u 6 := by rw [hU2]; rfl
    refine ⟨fun s hs => ?_, fun i hi => ?_, fun s g1 g2 => ?_, fun p hp => ?_, fun k i hk hi => ?_, fun i hi => ?_⟩
    · rw [e13, e14]
      exact h1 s (by omega)
    · rw [e16]
      exact h2 i hi
    · rw [e9, e10, e11, e12]
      by_cases e : s = t + 1
      · subst e
        rw [zq_upd_s]
        exact ⟨(zq_pj_ge hw).symm, fun g => absurd g hw⟩
      · rw [zq_upd_n _ _ e]
        exact h3 s g1 (by omega)
    · rw [e15]
      unfold zq_lw
      rw [if_neg (by omega)]
      exact h4 p hp
    · rw [e17]
      exact h5 k i (by omega) hi
    · rw [e6, hM, zq_upd_n _ _ (by omega)]
      exact hn i hi
theorem zq_A_of {P u U : zq_St} (h : zq_A P u) (e0 : U 0 = u 0) (e1 : U 1 = u 1) (e2 : U 2 = u 2) (e3 : U 3 = u 3) (e4 : U 4 = u 4) (e5 : U 5 = u 5) : zq_A P U := by
  obtain ⟨a0, a1, a2, a3, a4, a5⟩ := h
  exact ⟨by rw [e0]; exact a0, by rw [e1]; exact a1, by rw [e2]; exact a2, by rw [e3]; exact a3, by rw [e4]; exact a4, by rw [e5]; exact a5⟩
theorem zq_G_of {P u U : zq_St} {t : Nat} (h : zq_G P t u) (e : ∀ k, 9 ≤ k → U k = u k) : zq_G P t U := by
  obtain ⟨h1, h2, h3, h4, h5⟩ := h
  refine ⟨?_, ?_, ?_, ?_, ?_⟩
  · rw [e 13 (by omega), e 14 (by omega)]; exact h1
  · rw [e 16 (by omega)]; exact h2
  · unfold zq_R9
    rw [e 9 (by omega), e 10 (by omega), e 11 (by omega), e 12 (by omega)]; exact h3
  · rw [e 15 (by omega)]; exact h4
  · rw [e 17 (by omega)]; exact h5
/-- the present moves: the present's number and the cells of now alone -/
theorem zq_I0_mv {P u : zq_St} {n T q q' : Nat} {f : Nat → Int32} {x : Nat → Int32} (h : zq_I0 P n T q u) (hq : q' ≤ T) (hf : ∀ i, i < 14 → f i = zq_M P q' i) (hx : x 0 = nI q') : zq_I0 P n T q' (va_up (va_up u 6 f) 7 x) := by
  obtain ⟨a1, a2, a3, a4, a5, a6, a7, a8⟩ := h
  exact ⟨a1, a2, hq, zq_A_of a4 rfl rfl rfl rfl rfl rfl, zq_G_of a5 (fun k hk => by rw [va_up_ne _ _ (by omega), va_up_ne _ _ (by omega)]), hf, hx, a8⟩
theorem zq_back {P u : zq_St} {n T q : Nat} (h : zq_I0 P n T (q + 1) u) (hw : zq_w P (q + 1) < 14) : ∀ i, i < 14 → upd (u 6) (zq_w P (q + 1)) (u 10 (q + 1)) i = zq_M P q i := by
  obtain ⟨a1, a2, a3, a4, a5, a6, a7, a8⟩ := h
  intro i hi
  have h9 := (a5.2.2.1 (q + 1) (by omega) a3).2 hw
  by_cases e : i = zq_w P (q + 1)
  · rw [e, zq_upd_s, h9.1]; rfl
  · rw [zq_upd_n _ _ e, a6 i hi, zq_M_s, zq_upd_n _ _ e]
theorem zq_back0 {P u : zq_St} {n T q : Nat} (h : zq_I0 P n T (q + 1) u) (hw : ¬ zq_w P (q + 1) < 14) : ∀ i, i < 14 → u 6 i = zq_M P q i := by
  obtain ⟨a1, a2, a3, a4, a5, a6, a7, a8⟩ := h
  intro i hi
  rw [a6 i hi, zq_M_s, zq_upd_n _ _ (by omega)]
theorem zq_forth {P u : zq_St} {n T q : Nat} (h : zq_I0 P n T q u) (hq : q + 1 ≤ T) (hw : zq_w P (q + 1) < 14) : ∀ i, i < 14 → upd (u 6) (zq_w P (q + 1)) (u 11 (q + 1)) i = zq_M P (q + 1) i := by
  obtain ⟨a1, a2, a3, a4, a5, a6, a7, a8⟩ := h
  intro i hi
  have h9 := (a5.2.2.1 (q + 1) (by omega) hq).2 hw
  by_cases e : i = zq_w P (q + 1)
  · rw [e, zq_upd_s, h9.2.1]
  · rw [zq_upd_n _ _ e, a6 i hi, zq_M_s, zq_upd_n _ _ e]
theorem zq_forth0 {P u : zq_St} {n T q : Nat} (h : zq_I0 P n T q u) (hw : ¬ zq_w P (q + 1) < 14) : ∀ i, i < 14 → u 6 i = zq_M P (q + 1) i := by
  obtain ⟨a1, a2, a3, a4, a5, a6, a7, a8⟩ := h
  intro i hi
  rw [a6 i hi, zq_M_s, zq_upd_n _ _ (by omega)]
end
section
/-! PURE: what each call must answer (r) and at which time it leaves the debugger (q'); each is one answer -/
set_option maxRecDepth 100000
def zq_sGo (P : zq_St) (T q : Nat) (t r : Int32) (q' : Nat) : Prop := (∃ k, k ≤ T ∧ t = nI k ∧ r = nI (zq_N P k) ∧ q' = k) ∨ ((∀ k, k ≤ T → t ≠ nI k) ∧ r = -1 ∧ q' = q)
def zq_sVa (P : zq_St) (q : Nat) (v r : Int32) : Prop := (∃ k, k < 6 ∧ v = nI k ∧ r = zq_M P q k) ∨ ((∀ k, k < 6 → v ≠ nI k) ∧ r = 0)
def zq_sCe (P : zq_St) (q : Nat) (v r : Int32) : Prop := (∃ k, k < 8 ∧ v = nI k ∧ r = zq_M P q (6 + k)) ∨ ((∀ k, k < 8 → v ≠ nI k) ∧ r = 0)
def zq_sLw (P : zq_St) (q : Nat) (w v r : Int32) : Prop := (∃ k, k < 6 ∧ w = 0 ∧ v = nI k ∧ r = nI (zq_lw P k q)) ∨ (∃ k, k < 8 ∧ w = 1 ∧ v = nI k ∧ r = nI (zq_lw P (6 + k) q)) ∨ ((∀ k, k < 6 → w = 0 → v ≠ nI k) ∧ (∀ k, k < 8 → w = 1 → v ≠ nI k) ∧ r = -1)
def zq_sRu (P : zq_St) (T q : Nat) (i r : Int32) (q' : Nat) : Prop := (∃ k t, k < 20 ∧ i = nI k ∧ q < t ∧ t ≤ T ∧ zq_N P t = k ∧ (∀ t', q < t' → t' < t → zq_N P t' ≠ k) ∧ r = nI t ∧ q' = t) ∨ (∃ k, k < 20 ∧ i = nI k ∧ (∀ t', q < t' → t' ≤ T → zq_N P t' ≠ k) ∧ r = -3 ∧ q' = q) ∨ ((∀ k, k < 20 → i ≠ nI k) ∧ r = -1 ∧ q' = q)
def zq_sBa (P : zq_St) (q : Nat) (i r : Int32) (q' : Nat) : Prop := (∃ k t, k < 20 ∧ i = nI k ∧ t < q ∧ zq_N P t = k ∧ (∀ t', t < t' → t' < q → zq_N P t' ≠ k) ∧ r = nI t ∧ q' = t) ∨ (∃ k, k < 20 ∧ i = nI k ∧ (∀ t', t' < q → zq_N P t' ≠ k) ∧ r = -3 ∧ q' = q) ∨ ((∀ k, k < 20 → i ≠ nI k) ∧ r = -1 ∧ q' = q)
def zq_sBw (P : zq_St) (q : Nat) (v r : Int32) (q' : Nat) : Prop := (∃ k, k < 6 ∧ v = nI k ∧ zq_lw P k q = 0 ∧ r = -3 ∧ q' = q) ∨ (∃ k, k < 6 ∧ v = nI k ∧ 0 < zq_lw P k q ∧ r = nI (zq_lw P k q - 1) ∧ q' = zq_lw P k q - 1) ∨ ((∀ k, k < 6 → v ≠ nI k) ∧ r = -1 ∧ q' = q)
def zq_pe (P : zq_St) (n : Nat) (o x y z : Int32) : zq_St := va_up (va_up (va_up (va_up (va_up P 1 (upd (P 1) n o)) 2 (upd (P 2) n x)) 3 (upd (P 3) n y)) 4 (upd (P 4) n z)) 0 (fun _ => nI (n + 1))
def zq_pi (P : zq_St) (v : Int32) : zq_St := va_up P 5 (fun _ => v)
def zq_sEm (P : zq_St) (n q : Nat) (o x y z r : Int32) (P' : zq_St) (n' q' : Nat) : Prop := (n = 20 ∧ r = -2 ∧ P' = P ∧ n' = n ∧ q' = q) ∨ (n ≠ 20 ∧ ¬ zq_ok o x y z ∧ r = -1 ∧ P' = P ∧ n' = n ∧ q' = q) ∨ (n ≠ 20 ∧ zq_ok o x y z ∧ r = nI (n + 1) ∧ P' = zq_pe P n o x y z ∧ n' = n + 1 ∧ q' = 0)
theorem zq_nIj {a b : Nat} (ha : a < 1000) (hb : b < 1000) (h : nI a = nI b) : a = b := (nI_eq (by omega) (by omega)).mp h
theorem zq_sGo_u {P : zq_St} {T q : Nat} {t r r2 : Int32} {q' q2 : Nat} (hT : T ≤ 200) (h1 : zq_sGo P T q t r q') (h2 : zq_sGo P T q t r2 q2) : r = r2 ∧ q' = q2 := by
  rcases h1 with ⟨k, hk, et, er, eq⟩ | ⟨hn, er, eq⟩ <;> rcases h2 with ⟨k2, hk2, et2, er2, eq2⟩ | ⟨hn2, er2, eq2⟩
  · have e := zq_nIj (by omega) (by omega) (et.symm.trans et2)
    subst e
    exact ⟨er.trans er2.symm, eq.trans eq2.symm⟩
  · exact absurd et (hn2 k hk)
  · exact absurd et2 (hn k2 hk2)
  · exact ⟨er.trans er2.symm, eq.trans eq2.symm⟩
theorem zq_sVa_u {P : zq_St} {q : Nat} {v r r2 : Int32} (h1 : zq_sVa P q v r) (h2 : zq_sVa P q v r2) : r = r2 := by
  rcases h1 with ⟨k, hk, et, er⟩ | ⟨hn, er⟩ <;> rcases h2 with ⟨k2, hk2, et2, er2⟩ | ⟨hn2, er2⟩
  · have e := zq_nIj (by omega) (by omega) (et.symm.trans et2)
    subst e
    exact er.trans er2.symm
  · exact absurd et (hn2 k hk)
  · exact absurd et2 (hn k2 hk2)
  · exact er.trans er2.symm
theorem zq_sCe_u {P : zq_St} {q : Nat} {v r r2 : Int32} (h1 : zq_sCe P q v r) (h2 : zq_sCe P q v r2) : r = r2 := by
  rcases h1 with ⟨k, hk, et, er⟩ | ⟨hn, er⟩ <;> rcases h2 with ⟨k2, hk2, et2, er2⟩ | ⟨hn2, er2⟩
  · have e := zq_nIj (by omega) (by omega) (et.symm.trans et2)
    subst e
    exact er.trans er2.symm
  · exact absurd et (hn2 k hk)
  · exact absurd et2 (hn k2 hk2)
  · exact er.trans er2.symm
theorem zq_sLw_u {P : zq_St} {q : Nat} {w v r r2 : Int32} (h1 : zq_sLw P q w v r) (h2 : zq_sLw P q w v r2) : r = r2 := by
  rcases h1 with ⟨k, hk, ew, et, er⟩ | ⟨k, hk, ew, et, er⟩ | ⟨hn, hm, er⟩ <;> rcases h2 with ⟨k2, hk2, ew2, et2, er2⟩ | ⟨k2, hk2, ew2, et2, er2⟩ | ⟨hn2, hm2, er2⟩
  · have e := zq_nIj (by omega) (by omega) (et.symm.trans et2)
    subst e
    exact er.trans er2.symm
  · exact absurd (ew.symm.trans ew2) (by decide)
  · exact absurd et (hn2 k hk ew)
  · exact absurd (ew.symm.trans ew2) (by decide)
  · have e := zq_nIj (by omega) (by omega) (et.symm.trans et2)
    subst e
    exact er.trans er2.symm
  · exact absurd et (hm2 k hk ew)
  · exact absurd et2 (hn k2 hk2 ew2)
  · exact absurd et2 (hm k2 hk2 ew2)
  · exact er.trans er2.symm
theorem zq_sRu_u {P : zq_St} {T q : Nat} {i r r2 : Int32} {q' q2 : Nat} (h1 : zq_sRu P T q i r q') (h2 : zq_sRu P T q i r2 q2) : r = r2 ∧ q' = q2 := by
  rcases h1 with ⟨k, t, hk, ei, h3, h4, h5, h6, er, eq⟩ | ⟨k, hk, ei, h6, er, eq⟩ | ⟨hn, er, eq⟩ <;> rcases h2 with ⟨k2, t2, hk2, ei2, g3, g4, g5, g6, er2, eq2⟩ | ⟨k2, hk2, ei2, g6, er2, eq2⟩ | ⟨hn2, er2, eq2⟩
  · have e := zq_nIj (by omega) (by omega) (ei.symm.trans ei2)
    subst e
    have et : t = t2 := by
      rcases Nat.lt_trichotomy t t2 with h | h | h
      · exact absurd h5 (g6 t h3 h)
      · exact h
      · exact absurd g5 (h6 t2 g3 h)
    subst et
    exact ⟨er.trans er2.symm, eq.trans eq2.symm⟩
  · have e := zq_nIj (by omega) (by omega) (ei.symm.trans ei2)
    subst e
    exact absurd h5 (g6 t h3 h4)
  · exact absurd ei (hn2 k hk)
  · have e := zq_nIj (by omega) (by omega) (ei.symm.trans ei2)
    subst e
    exact absurd g5 (h6 t2 g3 g4)
  · exact ⟨er.trans er2.symm, eq.trans eq2.symm⟩
  · exact absurd ei (hn2 k hk)
  · exact absurd ei2 (hn k2 hk2)
  · exact absurd ei2 (hn k2 hk2)
  · exact ⟨er.trans er2.symm, eq.trans eq2.symm⟩
theorem zq_sBa_u {P : zq_St} {q : Nat} {i r r2 : Int32} {q' q2 : Nat} (h1 : zq_sBa P q i r q') (h2 : zq_sBa P q i r2 q2) : r = r2 ∧ q' = q2 := by
  rcases h1 with ⟨k, t, hk, ei, h3, h5, h6, er, eq⟩ | ⟨k, hk, ei, h6, er, eq⟩ | ⟨hn, er, eq⟩ <;> rcases h2 with ⟨k2, t2, hk2, ei2, g3, g5, g6, er2, eq2⟩ | ⟨k2, hk2, ei2, g6, er2, eq2⟩ | ⟨hn2, er2, eq2⟩
  · have e := zq_nIj (by omega) (by omega) (ei.symm.trans ei2)
    subst e
    have et : t = t2 := by
      rcases Nat.lt_trichotomy t t2 with h | h | h
      · exact absurd g5 (h6 t2 h g3)
      · exact h
      · exact absurd h5 (g6 t h h3)
    subst et
    exact ⟨er.trans er2.symm, eq.trans eq2.symm⟩
  · have e := zq_nIj (by omega) (by omega) (ei.symm.trans ei2)
    subst e
    exact absurd h5 (g6 t h3)
  · exact absurd ei (hn2 k hk)
  · have e := zq_nIj (by omega) (by omega) (ei.symm.trans ei2)
    subst e
    exact absurd g5 (h6 t2 g3)
  · exact ⟨er.trans er2.symm, eq.trans eq2.symm⟩
  · exact absurd ei (hn2 k hk)
  · exact absurd ei2 (hn k2 hk2)
  · exact absurd ei2 (hn k2 hk2)
  · exact ⟨er.trans er2.symm, eq.trans eq2.symm⟩
theorem zq_sBw_u {P : zq_St} {q : Nat} {v r r2 : Int32} {q' q2 : Nat} (h1 : zq_sBw P q v r q') (h2 : zq_sBw P q v r2 q2) : r = r2 ∧ q' = q2 := by
  rcases h1 with ⟨k, hk, ei, h6, er, eq⟩ | ⟨k, hk, ei, h6, er, eq⟩ | ⟨hn, er, eq⟩ <;> rcases h2 with ⟨k2, hk2, ei2, g6, er2, eq2⟩ | ⟨k2, hk2, ei2, g6, er2, eq2⟩ | ⟨hn2, er2, eq2⟩
  · exact ⟨er.trans er2.symm, eq.trans eq2.symm⟩
  · have e := zq_nIj (by omega) (by omega) (ei.symm.trans ei2)
    subst e
    omega
  · exact absurd ei (hn2 k hk)
  · have e := zq_nIj (by omega) (by omega) (ei.symm.trans ei2)
    subst e
    omega
  · have e := zq_nIj (by omega) (by omega) (ei.symm.trans ei2)
    subst e
    exact ⟨er.trans er2.symm, eq.trans eq2.symm⟩
  · exact absurd ei (hn2 k hk)
  · exact absurd ei2 (hn k2 hk2)
  · exact absurd ei2 (hn k2 hk2)
  · exact ⟨er.trans er2.symm, eq.trans eq2.symm⟩
theorem zq_sEm_u {P : zq_St} {n q : Nat} {o x y z r r2 : Int32} {P' P2 : zq_St} {n' q' n2 q2 : Nat} (h1 : zq_sEm P n q o x y z r P' n' q') (h2 : zq_sEm P n q o x y z r2 P2 n2 q2) : r = r2 ∧ P' = P2 ∧ n' = n2 ∧ q' = q2 := by
  rcases h1 with ⟨h, a1, a2, a3, a4⟩ | ⟨h, ho, a1, a2, a3, a4⟩ | ⟨h, ho, a1, a2, a3, a4⟩ <;> rcases h2 with ⟨g, b1, b2, b3, b4⟩ | ⟨g, go, b1, b2, b3, b4⟩ | ⟨g, go, b1, b2, b3, b4⟩
  · exact ⟨a1.trans b1.symm, a2.trans b2.symm, a3.trans b3.symm, a4.trans b4.symm⟩
  · exact absurd h g
  · exact absurd h g
  · exact absurd g h
  · exact ⟨a1.trans b1.symm, a2.trans b2.symm, a3.trans b3.symm, a4.trans b4.symm⟩
  · exact absurd go ho
  · exact absurd g h
  · exact absurd ho go
  · exact ⟨a1.trans b1.symm, a2.trans b2.symm, a3.trans b3.symm, a4.trans b4.symm⟩
theorem zq_pe_ok {P : zq_St} {n : Nat} {o x y z : Int32} (h : zq_okP P n) (hn : n < 20) (ho : zq_ok o x y z) : zq_okP (zq_pe P n o x y z) (n + 1) := by
  refine ⟨rfl, by omega, fun i hi => ?_⟩
  have e1 : zq_pe P n o x y z 1 = upd (P 1) n o := rfl
  have e2 : zq_pe P n o x y z 2 = upd (P 2) n x := rfl
  have e3 : zq_pe P n o x y z 3 = upd (P 3) n y := rfl
  have e4 : zq_pe P n o x y z 4 = upd (P 4) n z := rfl
  rw [e1, e2, e3, e4]
  by_cases e : i = n
  · rw [e, zq_upd_s, zq_upd_s, zq_upd_s, zq_upd_s]
    exact ho
  · rw [zq_upd_n _ _ e, zq_upd_n _ _ e, zq_upd_n _ _ e, zq_upd_n _ _ e]
    exact h.2.2 i (by omega)
theorem zq_pi_ok {P : zq_St} {n : Nat} {v : Int32} (h : zq_okP P n) : zq_okP (zq_pi P v) n := ⟨h.1, h.2.1, h.2.2⟩
/-- a number below n, or none -/
theorem zq_rng (x : Int32) (n : Nat) (hn : n < 1000) : (∃ k, k < n ∧ x = nI k) ∨ (∀ k, k < n → x ≠ nI k) := by
  by_cases h : ∃ k, k < n ∧ x = nI k
  · exact Or.inl h
  · exact Or.inr fun k hk e => h ⟨k, hk, e⟩
theorem zq_rng_of {x M : Int32} {n : Nat} (hM : M.toInt = n) (h : ¬ x < 0) (h5 : x ≤ M) : ∃ k, k < n + 1 ∧ x = nI k := by
  obtain ⟨j, h1, h2⟩ := nI_of2 hM h h5
  exact ⟨j, by omega, h2⟩
theorem zq_rng_neg {x : Int32} {n : Nat} (h : x < 0) (hn : n < 1000) : ∀ k, k < n → x ≠ nI k := fun k hk e => nI_pos (n := k) (by omega) (by rw [← e]; exact h)
theorem zq_rng_big {x M : Int32} {n : Nat} (hM : M = nI n) (h : ¬ x ≤ M) (hn : n < 1000) : ∀ k, k < n + 1 → x ≠ nI k := fun k hk e => h (by rw [e, hM]; exact nI_le (by omega) (by omega))
end
section
/-! ROWS: the worlds of the two classes, contracts over a whole object, and a row an instruction over them -/
set_option maxRecDepth 100000
abbrev zq_cl : List vw_C := [(RX0, TX0, 18), (RX1, TX1, 13)]
def zq_rm (k : Nat) : Room := { frames := k, cells := 0, slots := 0, locals := 30 * k }
def zq_f0 (a : Nat → Nat) (u : zq_St) : List Value := [.int (u 0 0), .ref (a 1), .ref (a 2), .ref (a 3), .ref (a 4), .int (u 5 0), .ref (a 6), .int (u 7 0), .int (u 8 0), .ref (a 9), .ref (a 10), .ref (a 11), .ref (a 12), .ref (a 13), .ref (a 14), .ref (a 15), .ref (a 16), .ref (a 17)]
def zq_w0 (a : Nat → Nat) (ca : Nat → ClassId) (u : zq_St) : va_W := [(a 0, .inr (0, zq_f0 a u)), (a 1, .inl (ca 1, 20, .inl (u 1))), (a 2, .inl (ca 2, 20, .inl (u 2))), (a 3, .inl (ca 3, 20, .inl (u 3))), (a 4, .inl (ca 4, 20, .inl (u 4))), (a 6, .inl (ca 6, 14, .inl (u 6))), (a 9, .inl (ca 9, 201, .inl (u 9))), (a 10, .inl (ca 10, 201, .inl (u 10))), (a 11, .inl (ca 11, 201, .inl (u 11))), (a 12, .inl (ca 12, 201, .inl (u 12))), (a 13, .inl (ca 13, 201, .inl (u 13))), (a 14, .inl (ca 14, 201, .inl (u 14))), (a 15, .inl (ca 15, 14, .inl (u 15))), (a 16, .inl (ca 16, 21, .inl (u 16))), (a 17, .inl (ca 17, 70, .inl (u 17)))]
def zq_t0 (ca : Nat → ClassId) : List (ClassId × FieldType) := [(ca 1, .byte), (ca 2, .int), (ca 3, .int), (ca 4, .int), (ca 6, .int), (ca 9, .byte), (ca 10, .int), (ca 11, .int), (ca 12, .short), (ca 13, .byte), (ca 14, .short), (ca 15, .short), (ca 16, .short), (ca 17, .int)]
def zq_f1 (a : Nat → Nat) (u : zq_St) : List Value := [.int (u 0 0), .ref (a 1), .ref (a 2), .ref (a 3), .ref (a 4), .int (u 5 0), .int (u 6 0), .ref (a 7), .ref (a 8), .int (u 9 0), .int (u 10 0), .int (u 11 0), .int (u 12 0)]
def zq_w1 (a : Nat → Nat) (ca : Nat → ClassId) (u : zq_St) : va_W := [(a 0, .inr (1, zq_f1 a u)), (a 1, .inl (ca 1, 20, .inl (u 1))), (a 2, .inl (ca 2, 20, .inl (u 2))), (a 3, .inl (ca 3, 20, .inl (u 3))), (a 4, .inl (ca 4, 20, .inl (u 4))), (a 7, .inl (ca 7, 6, .inl (u 7))), (a 8, .inl (ca 8, 8, .inl (u 8)))]
def zq_t1 (ca : Nat → ClassId) : List (ClassId × FieldType) := [(ca 1, .int), (ca 2, .int), (ca 3, .int), (ca 4, .int), (ca 7, .int), (ca 8, .int)]
/-- the world in a method: the tables, the cells, apart, the frame so far -/
def zq_IW (D : va_G) (tys : List (ClassId × FieldType)) (A : Nat → Prop) (s : State) (ws : va_W) (H : Heap) (locs : List Loc) : Prop := va_K D zq_cl tys s ∧ va_P D zq_cl ws H ∧ va_D A ws ∧ va_S A s.heap H locs ∧ ∀ q : Nat, s.heap.size ≤ q → A q
/-- a contract of a method with an int (or boolean) answer: over the whole object, at h, of world w; no cell is made -/
def zq_Ci (l : Launch) (y : MethodName) (b : ByteArray) (L : Nat) (r : FieldType) (lev : Nat) (h : Nat) (As : List Value) (tys : List (ClassId × FieldType)) (w : zq_St → va_W) (u : zq_St) (post : Int32 → zq_St → Prop) : Prop :=
  ∀ (D : va_G) (sz : Nat), Met l y (ws_ y b L (some r)) (zq_rm lev) (va_Pc (.ref h :: As) (fun U => U.heap.size = sz ∧ va_P D zq_cl (w u) U.heap ∧ va_K D zq_cl tys U ∧ va_D (fun _ => True) (w u))) (va_Qi post (fun u' t => va_P D zq_cl (w u') t.heap) (va_A (w u) sz)) 0 0 (va_A (w u) sz)
def zq_Cv (l : Launch) (y : MethodName) (b : ByteArray) (L : Nat) (lev : Nat) (h : Nat) (As : List Value) (tys : List (ClassId × FieldType)) (w : zq_St → va_W) (u : zq_St) (post : zq_St → Prop) : Prop :=
  ∀ (D : va_G) (sz : Nat), Met l y (ws_ y b L none) (zq_rm lev) (va_Pc (.ref h :: As) (fun U => U.heap.size = sz ∧ va_P D zq_cl (w u) U.heap ∧ va_K D zq_cl tys U ∧ va_D (fun _ => True) (w u))) (va_Qv post (fun u' t => va_P D zq_cl (w u') t.heap) (va_A (w u) sz)) 0 0 (va_A (w u) sz)
theorem zq_starti {l : Launch} {y : MethodName} {b : ByteArray} {L : Nat} {r : FieldType} {lev h : Nat} {As : List Value} {tys : List (ClassId × FieldType)} {w : zq_St → va_W} {u : zq_St} {post : Int32 → zq_St → Prop} (hy : plainName y.cls = true) (hL : (lg_sl (.ref h :: As)).length ≤ L)
    (body : ∀ (p : Program) (e : Env) (s : State) (m : MethodId) (args : Array Value) (below : List Frame) (meth : Method) (c : Code) (D : va_G) (A : Nat → Prop) (Q : State → Prop) (ls : Array Slot), CallFix p m c b L s args lw_all y.cls →
      (∀ (H : Heap) (locs : List Loc) (v : Int32) (u' : zq_St) (pc : Nat) (ls : Array Slot), narrow r (.int v) = .int v → zq_IW D tys A s (w u') H locs → post v u' → decode b pc = .ok (.ireturn, 1) → W p l e (zq_rm lev) s m args below meth c H locs 0 0 Q (F0 m pc ls [.int v])) →
      zq_IW D tys A s (w u) s.heap [] → lv_has ls L (lv_args 0 (.ref h :: As)) → W p l e (zq_rm lev) s m args below meth c s.heap [] 0 0 Q (F0 m 0 ls [])) : zq_Ci l y b L r lev h As tys w u post := by
  intro D sz
  refine Met.ofW (cc := b) (maxL := L) (ret := some r) hy rfl ?_
  intro p e s m args below meth c s₁ B hml hv
  obtain ⟨rfl, hsz, hP, hK, hD0⟩ := hv
  have hts := atoms_spec (ws := ws_ y b L (some r)) B.pre
  have hts : ∀ w ∈ lw_all, w.before _ s = true := fun w h => hts w (List.mem_cons_of_mem _ h)
  have hown : s.vm.findClass y.cls = some m.cls := findClass_of_methodNamed B.named
  subst hsz
  have hD := hD0.self (sz := s.heap.size)
  generalize hAe : va_A (w u) s.heap.size = A at hD ⊢
  have hA : ∀ q : Nat, s.heap.size ≤ q → A q := fun q h => by rw [← hAe]; exact Or.inr h
  have hl := lv_entry (.ref h :: As) (n := L) hL
  rw [lg_entry_eq]
  generalize (lg_sl (.ref h :: As) ++ List.replicate (L - (lg_sl (.ref h :: As)).length) Slot.unset).toArray = ls at hl ⊢
  refine body p e s m _ below meth c D A _ ls ⟨B.exec, B.bytes, hml, hown, hts⟩ ?_ ⟨hK, hP, hD, va_S.rf, hA⟩ hl
  intro H locs v u' pc ls hn hI hp hd
  exact W.zret (v := v) B.exec B.bytes B.returns hn (fun t ht hW => ⟨⟨v, u', rfl, hp, by show va_P D zq_cl (w u') t.heap; rw [ht]; exact hI.2.1⟩, hI.2.2.2.1.F ht⟩) hI.2.2.2.1.2.2 hd B.notSynchronized
theorem zq_startv {l : Launch} {y : MethodName} {b : ByteArray} {L : Nat} {lev h : Nat} {As : List Value} {tys : List (ClassId × FieldType)} {w : zq_St → va_W} {u : zq_St} {post : zq_St → Prop} (hy : plainName y.cls = true) (hL : (lg_sl (.ref h :: As)).length ≤ L)
    (body : ∀ (p : Program) (e : Env) (s : State) (m : MethodId) (args : Array Value) (below : List Frame) (meth : Method) (c : Code) (D : va_G) (A : Nat → Prop) (Q : State → Prop) (ls : Array Slot), CallFix p m c b L s args lw_all y.cls →
      (∀ (H : Heap) (locs : List Loc) (u' : zq_St) (pc : Nat) (ls : Array Slot), zq_IW D tys A s (w u') H locs → post u' → decode b pc = .ok (.return_, 1) → W p l e (zq_rm lev) s m args below meth c H locs 0 0 Q (F0 m pc ls [])) →
      zq_IW D tys A s (w u) s.heap [] → lv_has ls L (lv_args 0 (.ref h :: As)) → W p l e (zq_rm lev) s m args below meth c s.heap [] 0 0 Q (F0 m 0 ls [])) : zq_Cv l y b L lev h As tys w u post := by
  intro D sz
  refine Met.ofW (cc := b) (maxL := L) (ret := none) hy rfl ?_
  intro p e s m args below meth c s₁ B hml hv
  obtain ⟨rfl, hsz, hP, hK, hD0⟩ := hv
  have hts := atoms_spec (ws := ws_ y b L none) B.pre
  have hts : ∀ w ∈ lw_all, w.before _ s = true := fun w h => hts w (List.mem_cons_of_mem _ h)
  have hown : s.vm.findClass y.cls = some m.cls := findClass_of_methodNamed B.named
  subst hsz
  have hD := hD0.self (sz := s.heap.size)
  generalize hAe : va_A (w u) s.heap.size = A at hD ⊢
  have hA : ∀ q : Nat, s.heap.size ≤ q → A q := fun q h => by rw [← hAe]; exact Or.inr h
  have hl := lv_entry (.ref h :: As) (n := L) hL
  rw [lg_entry_eq]
  generalize (lg_sl (.ref h :: As) ++ List.replicate (L - (lg_sl (.ref h :: As)).length) Slot.unset).toArray = ls at hl ⊢
  refine body p e s m _ below meth c D A _ ls ⟨B.exec, B.bytes, hml, hown, hts⟩ ?_ ⟨hK, hP, hD, va_S.rf, hA⟩ hl
  intro H locs u' pc ls hI hp hd
  exact W.vret B.exec B.bytes B.returns (fun t ht hW => ⟨⟨u', rfl, hp, by show va_P D zq_cl (w u') t.heap; rw [ht]; exact hI.2.1⟩, hI.2.2.2.1.F ht⟩) hI.2.2.2.1.2.2 hd B.notSynchronized
/-- apart or not, by the addresses alone -/
theorem zq_Dmap {A : Nat → Prop} {ws ws' : va_W} (h : va_D A ws) (e : ws.map (fun q => q.1) = ws'.map (fun q => q.1)) : va_D A ws' := by
  have key : ∀ (k : Nat) (q : Nat × va_E), ws'[k]? = some q → ∃ q0, ws[k]? = some q0 ∧ q0.1 = q.1 := by
    intro k q hk
    have h1 : (ws'.map (fun q => q.1))[k]? = some q.1 := by rw [List.getElem?_map, hk]; rfl
    rw [← e, List.getElem?_map] at h1
    cases hi : ws[k]? with
    | none => rw [hi] at h1; cases h1
    | some z => rw [hi] at h1; exact ⟨z, rfl, Option.some.inj h1⟩
  refine ⟨fun i j x y hi hj hxy => ?_, fun k q hk => ?_⟩
  · obtain ⟨x0, h1, h2⟩ := key i x hi
    obtain ⟨y0, h3, h4⟩ := key j y hj
    exact h.1 i j x0 y0 h1 h3 (h2.trans (hxy.trans h4.symm))
  · obtain ⟨q0, h1, h2⟩ := key k q hk
    rw [← h2]
    exact h.2 k q0 h1
theorem zq_keep {D : va_G} {cl : List vw_C} {A : Nat → Prop} {w1 w2 : va_W} {H H1 : Heap} (hD : va_D A (w1 ++ w2)) (hP : va_P D cl w2 H) (hk : ∀ q : Nat, q < H.size → ¬ va_A w1 H.size q → H1[q]? = H[q]?) : va_P D cl w2 H1 := by
  refine hP.kept (fun k q hq => hk q.1 (hP k q hq).lt (fun h => ?_))
  rcases h with ⟨i, e, hi⟩ | h
  · have hl : i < w1.length := (List.getElem?_eq_some_iff.mp hi).1
    have g1 : (w1 ++ w2)[i]? = some (q.1, e) := by rw [List.getElem?_append_left hl]; exact hi
    have g2 : (w1 ++ w2)[w1.length + k]? = some q := by rw [List.getElem?_append_right (by omega), show w1.length + k - w1.length = k by omega]; exact hq
    have := hD.1 _ _ _ _ g1 g2 rfl
    omega
  · have := (hP k q hq).lt
    omega
theorem zq_keep2 {D : va_G} {cl : List vw_C} {A : Nat → Prop} {w1 w2 : va_W} {H H1 : Heap} (hD : va_D A (w1 ++ w2)) (hP : va_P D cl w1 H) (hk : ∀ q : Nat, q < H.size → ¬ va_A w2 H.size q → H1[q]? = H[q]?) : va_P D cl w1 H1 := by
  refine hP.kept (fun k q hq => hk q.1 (hP k q hq).lt (fun h => ?_))
  rcases h with ⟨i, e, hi⟩ | h
  · have hl : k < w1.length := (List.getElem?_eq_some_iff.mp hq).1
    have g1 : (w1 ++ w2)[k]? = some q := by rw [List.getElem?_append_left hl]; exact hq
    have g2 : (w1 ++ w2)[w1.length + i]? = some (q.1, e) := by rw [List.getElem?_append_right (by omega), show w1.length + i - w1.length = i by omega]; exact hi
    have := hD.1 _ _ _ _ g1 g2 rfl
    omega
  · have := (hP k q hq).lt
    omega
section ZQ
variable {p : Program} {l : Launch} {e : Env} {R : Room} {s : State} {m : MethodId} {args : Array Value} {below : List Frame} {meth : Method} {c : Code} {H : Heap} {locs : List Loc} {cells slots : Nat} {Q : State → Prop}
variable {cc : ByteArray} {pc nL : Nat} {ls : Array Slot} {rest st0 : List Value} {D : va_G} {A : Nat → Prop} {tys : List (ClassId × FieldType)} {ws ws' : va_W} {own : String}
variable {y : MethodName} {bb : ByteArray} {L lev h idx : Nat} {r : FieldType} {As : List Value} {w : zq_St → va_W} {u : zq_St}
theorem zq_top {x z : Int32} (h : x = z) (k : W p l e R s m args below meth c H locs cells slots Q (F0 m pc ls (.int z :: rest))) : W p l e R s m args below meth c H locs cells slots Q (F0 m pc ls (.int x :: rest)) := by
  rw [h]
  exact k
/-- a call over an object whose cells are apart from the rest -/
theorem zq_calli {post : Int32 → zq_St → Prop} (F : CallFix p m c cc nL s args lw_all own) (hM : zq_Ci l y bb L r lev h As tys w u post) (hV : GoodIn lw_all (wsV own idx y.cls y (ws_ y bb L (some r)))) (hd : y.cls = y.cls ∧ y.cls ≠ "java/lang/invoke/MethodHandle" ∧ y.cls ≠ "java/lang/invoke/VarHandle" ∧ (parseMethodDescriptor y.desc).map (fun d => d.parameters.length) = some As.length) (hR : lev + 1 ≤ R.frames ∧ 8 + (L + 11) + 30 * lev ≤ R.locals)
    (hK : va_K D zq_cl tys s) (hP : va_P D zq_cl (w u) H) (hD : va_D A (w u)) (hS : va_S A s.heap H locs) (hA : ∀ q : Nat, s.heap.size ≤ q → A q) {ci N : Nat} {T : u_T} {fs : List Value} (hc : zq_cl[ci]? = some (y.cls, T, N)) (he : (w u)[0]? = some (h, .inr (ci, fs))) (hsize : ls.size = nL) (hstack : st0 = As.reverse ++ .ref h :: rest) (hW : (rest.map fun v => v.category).sum ≤ 8) (hdg : decode cc pc = .ok (.invokevirtual idx, 3)) (hf : cells ≤ R.cells ∧ slots ≤ R.slots)
    (kk : ∀ (v : Int32) (u' : zq_St) (H1 : Heap) (locs1 : List Loc), post v u' → va_P D zq_cl (w u') H1 → H.size ≤ H1.size → (∀ q : Nat, q < H.size → ¬ va_A (w u) H.size q → H1[q]? = H[q]?) → va_S A s.heap H1 locs1 → W p l e R s m args below meth c H1 locs1 cells slots Q (F0 m (pc + 3) ls (.int v :: rest))) : W p l e R s m args below meth c H locs cells slots Q (F0 m pc ls st0) := by
  have hFc : ∀ q, va_A (w u) H.size q → A q := by
    intro q hq
    rcases hq with ⟨k, e, hq⟩ | hq
    · exact hD.2 k _ hq
    · exact hA q (Nat.le_trans hS.1 hq)
  refine va_calli (va_runV (As := As) (rest := rest) F (hM D H.size) (cwV As.length F.2.2.2.2 hV rfl rfl rfl hd hR) ⟨fun a U g mk q => by obtain ⟨q0, q1, qP, qK, qD⟩ := q; exact ⟨q0, q1, qP, va_K.moved (u := U) (U := U.calling g mk a) (Vm.Alike.refl U.vm) qK, qD⟩, va_recv hK hP hc he, fun U hU hW => ⟨rfl, by rw [hU], by rw [hU]; exact hP, va_K.moved hW.alike hK, hD.weaken (fun _ _ _ _ => trivial)⟩⟩ rfl rfl hsize hstack (lv_room hW) hdg hf) hS (fun q _ h => hFc q h) hFc (fun v u' t H1 locs1 ht hvm hp hB hz1 hk1 hS1 => ?_)
  exact kk v u' H1 locs1 hp (by rw [← ht]; exact hB) hz1 hk1 hS1
theorem zq_callv {post : zq_St → Prop} (F : CallFix p m c cc nL s args lw_all own) (hM : zq_Cv l y bb L lev h As tys w u post) (hV : GoodIn lw_all (wsV own idx y.cls y (ws_ y bb L none))) (hd : y.cls = y.cls ∧ y.cls ≠ "java/lang/invoke/MethodHandle" ∧ y.cls ≠ "java/lang/invoke/VarHandle" ∧ (parseMethodDescriptor y.desc).map (fun d => d.parameters.length) = some As.length) (hR : lev + 1 ≤ R.frames ∧ 8 + (L + 11) + 30 * lev ≤ R.locals)
    (hK : va_K D zq_cl tys s) (hP : va_P D zq_cl (w u) H) (hD : va_D A (w u)) (hS : va_S A s.heap H locs) (hA : ∀ q : Nat, s.heap.size ≤ q → A q) {ci N : Nat} {T : u_T} {fs : List Value} (hc : zq_cl[ci]? = some (y.cls, T, N)) (he : (w u)[0]? = some (h, .inr (ci, fs))) (hsize : ls.size = nL) (hstack : st0 = As.reverse ++ .ref h :: rest) (hW : (rest.map fun v => v.category).sum ≤ 8) (hdg : decode cc pc = .ok (.invokevirtual idx, 3)) (hf : cells ≤ R.cells ∧ slots ≤ R.slots)
    (kk : ∀ (u' : zq_St) (H1 : Heap) (locs1 : List Loc), post u' → va_P D zq_cl (w u') H1 → H.size ≤ H1.size → (∀ q : Nat, q < H.size → ¬ va_A (w u) H.size q → H1[q]? = H[q]?) → va_S A s.heap H1 locs1 → W p l e R s m args below meth c H1 locs1 cells slots Q (F0 m (pc + 3) ls rest)) : W p l e R s m args below meth c H locs cells slots Q (F0 m pc ls st0) := by
  have hFc : ∀ q, va_A (w u) H.size q → A q := by
    intro q hq
    rcases hq with ⟨k, e, hq⟩ | hq
    · exact hD.2 k _ hq
    · exact hA q (Nat.le_trans hS.1 hq)
  refine va_callv (va_runV (As := As) (rest := rest) F (hM D H.size) (cwV As.length F.2.2.2.2 hV rfl rfl rfl hd hR) ⟨fun a U g mk q => by obtain ⟨q0, q1, qP, qK, qD⟩ := q; exact ⟨q0, q1, qP, va_K.moved (u := U) (U := U.calling g mk a) (Vm.Alike.refl U.vm) qK, qD⟩, va_recv hK hP hc he, fun U hU hW => ⟨rfl, by rw [hU], by rw [hU]; exact hP, va_K.moved hW.alike hK, hD.weaken (fun _ _ _ _ => trivial)⟩⟩ rfl rfl hsize hstack (lv_room hW) hdg hf) hS (fun q _ h => hFc q h) hFc (fun u' t H1 locs1 ht hvm hp hB hz1 hk1 hS1 => ?_)
  exact kk u' H1 locs1 hp (by rw [← ht]; exact hB) hz1 hk1 hS1
-- ===== calls within the one object =====
theorem zq_c0i {post : Int32 → zq_St → Prop} {a : Nat → Nat} {ca : Nat → ClassId} (F : CallFix p m c cc nL s args lw_all RX0) (hI : zq_IW D (zq_t0 ca) A s (zq_w0 a ca u) H locs) (hM : zq_Ci l y bb L r lev (a 0) As (zq_t0 ca) (zq_w0 a ca) u post) (h1 : Cond.methodLink RX0 idx y ∈ lw_all) (h2 : Cond.instanceMethod y ∈ lw_all) (h3 : Cond.selects y.cls y y ∈ lw_all) (h4 : Cond.initialized y.cls ∈ lw_all) (h5 : Cond.code y bb L (some r) ∈ lw_all) (hy : (y.cls, TX0, 18) = (RX0, TX0, 18)) (hd : y.cls = y.cls ∧ y.cls ≠ "java/lang/invoke/MethodHandle" ∧ y.cls ≠ "java/lang/invoke/VarHandle" ∧ (parseMethodDescriptor y.desc).map (fun d => d.parameters.length) = some As.length) (hR : lev + 1 ≤ R.frames ∧ 8 + (L + 11) + 30 * lev ≤ R.locals) (hsize : ls.size = nL) (hstack : st0 = As.reverse ++ .ref (a 0) :: rest) (hW : (rest.map fun v => v.category).sum ≤ 8) (hdg : decode cc pc = .ok (.invokevirtual idx, 3)) (hf : cells ≤ R.cells ∧ slots ≤ R.slots)
    (kk : ∀ (v : Int32) (u' : zq_St) (H1 : Heap) (locs1 : List Loc), post v u' → zq_IW D (zq_t0 ca) A s (zq_w0 a ca u') H1 locs1 → W p l e R s m args below meth c H1 locs1 cells slots Q (F0 m (pc + 3) ls (.int v :: rest))) : W p l e R s m args below meth c H locs cells slots Q (F0 m pc ls st0) := by
  obtain ⟨hK, hP, hD, hS, hA⟩ := hI
  refine zq_calli (ci := 0) (N := 18) (T := TX0) F hM (lw_V h1 h2 h3 h4 h5) hd hR hK hP hD hS hA (congrArg some hy.symm) rfl hsize hstack hW hdg hf (fun v u' H1 locs1 hp hP1 hz hk hS1 => ?_)
  exact kk v u' H1 locs1 hp ⟨hK, hP1, zq_Dmap hD rfl, hS1, hA⟩
theorem zq_c0v {post : zq_St → Prop} {a : Nat → Nat} {ca : Nat → ClassId} (F : CallFix p m c cc nL s args lw_all RX0) (hI : zq_IW D (zq_t0 ca) A s (zq_w0 a ca u) H locs) (hM : zq_Cv l y bb L lev (a 0) As (zq_t0 ca) (zq_w0 a ca) u post) (h1 : Cond.methodLink RX0 idx y ∈ lw_all) (h2 : Cond.instanceMethod y ∈ lw_all) (h3 : Cond.selects y.cls y y ∈ lw_all) (h4 : Cond.initialized y.cls ∈ lw_all) (h5 : Cond.code y bb L none ∈ lw_all) (hy : (y.cls, TX0, 18) = (RX0, TX0, 18)) (hd : y.cls = y.cls ∧ y.cls ≠ "java/lang/invoke/MethodHandle" ∧ y.cls ≠ "java/lang/invoke/VarHandle" ∧ (parseMethodDescriptor y.desc).map (fun d => d.parameters.length) = some As.length) (hR : lev + 1 ≤ R.frames ∧ 8 + (L + 11) + 30 * lev ≤ R.locals) (hsize : ls.size = nL) (hstack : st0 = As.reverse ++ .ref (a 0) :: rest) (hW : (rest.map fun v => v.category).sum ≤ 8) (hdg : decode cc pc = .ok (.invokevirtual idx, 3)) (hf : cells ≤ R.cells ∧ slots ≤ R.slots)
    (kk : ∀ (u' : zq_St) (H1 : Heap) (locs1 : List Loc), post u' → zq_IW D (zq_t0 ca) A s (zq_w0 a ca u') H1 locs1 → W p l e R s m args below meth c H1 locs1 cells slots Q (F0 m (pc + 3) ls rest)) : W p l e R s m args below meth c H locs cells slots Q (F0 m pc ls st0) := by
  obtain ⟨hK, hP, hD, hS, hA⟩ := hI
  refine zq_callv (ci := 0) (N := 18) (T := TX0) F hM (lw_V h1 h2 h3 h4 h5) hd hR hK hP hD hS hA (congrArg some hy.symm) rfl hsize hstack hW hdg hf (fun u' H1 locs1 hp hP1 hz hk hS1 => ?_)
  exact kk u' H1 locs1 hp ⟨hK, hP1, zq_Dmap hD rfl, hS1, hA⟩
theorem zq_c1i {post : Int32 → zq_St → Prop} {a : Nat → Nat} {ca : Nat → ClassId} (F : CallFix p m c cc nL s args lw_all RX1) (hI : zq_IW D (zq_t1 ca) A s (zq_w1 a ca u) H locs) (hM : zq_Ci l y bb L r lev (a 0) As (zq_t1 ca) (zq_w1 a ca) u post) (h1 : Cond.methodLink RX1 idx y ∈ lw_all) (h2 : Cond.instanceMethod y ∈ lw_all) (h3 : Cond.selects y.cls y y ∈ lw_all) (h4 : Cond.initialized y.cls ∈ lw_all) (h5 : Cond.code y bb L (some r) ∈ lw_all) (hy : (y.cls, TX1, 13) = (RX1, TX1, 13)) (hd : y.cls = y.cls ∧ y.cls ≠ "java/lang/invoke/MethodHandle" ∧ y.cls ≠ "java/lang/invoke/VarHandle" ∧ (parseMethodDescriptor y.desc).map (fun d => d.parameters.length) = some As.length) (hR : lev + 1 ≤ R.frames ∧ 8 + (L + 11) + 30 * lev ≤ R.locals) (hsize : ls.size = nL) (hstack : st0 = As.reverse ++ .ref (a 0) :: rest) (hW : (rest.map fun v => v.category).sum ≤ 8) (hdg : decode cc pc = .ok (.invokevirtual idx, 3)) (hf : cells ≤ R.cells ∧ slots ≤ R.slots)
    (kk : ∀ (v : Int32) (u' : zq_St) (H1 : Heap) (locs1 : List Loc), post v u' → zq_IW D (zq_t1 ca) A s (zq_w1 a ca u') H1 locs1 → W p l e R s m args below meth c H1 locs1 cells slots Q (F0 m (pc + 3) ls (.int v :: rest))) : W p l e R s m args below meth c H locs cells slots Q (F0 m pc ls st0) := by
  obtain ⟨hK, hP, hD, hS, hA⟩ := hI
  refine zq_calli (ci := 1) (N := 13) (T := TX1) F hM (lw_V h1 h2 h3 h4 h5) hd hR hK hP hD hS hA (congrArg some hy.symm) rfl hsize hstack hW hdg hf (fun v u' H1 locs1 hp hP1 hz hk hS1 => ?_)
  exact kk v u' H1 locs1 hp ⟨hK, hP1, zq_Dmap hD rfl, hS1, hA⟩
theorem zq_c1v {post : zq_St → Prop} {a : Nat → Nat} {ca : Nat → ClassId} (F : CallFix p m c cc nL s args lw_all RX1) (hI : zq_IW D (zq_t1 ca) A s (zq_w1 a ca u) H locs) (hM : zq_Cv l y bb L lev (a 0) As (zq_t1 ca) (zq_w1 a ca) u post) (h1 : Cond.methodLink RX1 idx y ∈ lw_all) (h2 : Cond.instanceMethod y ∈ lw_all) (h3 : Cond.selects y.cls y y ∈ lw_all) (h4 : Cond.initialized y.cls ∈ lw_all) (h5 : Cond.code y bb L none ∈ lw_all) (hy : (y.cls, TX1, 13) = (RX1, TX1, 13)) (hd : y.cls = y.cls ∧ y.cls ≠ "java/lang/invoke/MethodHandle" ∧ y.cls ≠ "java/lang/invoke/VarHandle" ∧ (parseMethodDescriptor y.desc).map (fun d => d.parameters.length) = some As.length) (hR : lev + 1 ≤ R.frames ∧ 8 + (L + 11) + 30 * lev ≤ R.locals) (hsize : ls.size = nL) (hstack : st0 = As.reverse ++ .ref (a 0) :: rest) (hW : (rest.map fun v => v.category).sum ≤ 8) (hdg : decode cc pc = .ok (.invokevirtual idx, 3)) (hf : cells ≤ R.cells ∧ slots ≤ R.slots)
    (kk : ∀ (u' : zq_St) (H1 : Heap) (locs1 : List Loc), post u' → zq_IW D (zq_t1 ca) A s (zq_w1 a ca u') H1 locs1 → W p l e R s m args below meth c H1 locs1 cells slots Q (F0 m (pc + 3) ls rest)) : W p l e R s m args below meth c H locs cells slots Q (F0 m pc ls st0) := by
  obtain ⟨hK, hP, hD, hS, hA⟩ := hI
  refine zq_callv (ci := 1) (N := 13) (T := TX1) F hM (lw_V h1 h2 h3 h4 h5) hd hR hK hP hD hS hA (congrArg some hy.symm) rfl hsize hstack hW hdg hf (fun u' H1 locs1 hp hP1 hz hk hS1 => ?_)
  exact kk u' H1 locs1 hp ⟨hK, hP1, zq_Dmap hD rfl, hS1, hA⟩
-- ===== fields =====
theorem zq_g0 {a : Nat → Nat} {ca : Nat → ClassId} (F : CallFix p m c cc nL s args lw_all RX0) (hI : zq_IW D (zq_t0 ca) A s (zq_w0 a ca u) H locs) (k : Nat) (v : Value) (hv : (zq_f0 a u)[k]? = some v) (hk : k < 18) (hq : Cond.fieldLink RX0 idx (TX0 k).1 (TX0 k).2.1 (TX0 k).2.2.1 ∈ lw_all) (hdg : decode cc pc = .ok (.getfield idx, 3))
    (kk : W p l e R s m args below meth c H locs cells slots Q (F0 m (pc + 3) ls (v :: rest))) : W p l e R s m args below meth c H locs cells slots Q (F0 m pc ls (.ref (a 0) :: rest)) :=
  va_get (D := D) (ci := 0) (v := v) (C := RX0) (T := TX0) (N := 18) F.1 F.2.1 F.2.2.2.2 in_X0 F.2.2.2.1 hI.1 hI.2.1 0 rfl rfl k hk (F.2.2.2.2 _ hq) (fun _ h9 => h9) hv hdg kk
theorem zq_g1 {a : Nat → Nat} {ca : Nat → ClassId} (F : CallFix p m c cc nL s args lw_all RX1) (hI : zq_IW D (zq_t1 ca) A s (zq_w1 a ca u) H locs) (k : Nat) (v : Value) (hv : (zq_f1 a u)[k]? = some v) (hk : k < 13) (hq : Cond.fieldLink RX1 idx (TX1 k).1 (TX1 k).2.1 (TX1 k).2.2.1 ∈ lw_all) (hdg : decode cc pc = .ok (.getfield idx, 3))
    (kk : W p l e R s m args below meth c H locs cells slots Q (F0 m (pc + 3) ls (v :: rest))) : W p l e R s m args below meth c H locs cells slots Q (F0 m pc ls (.ref (a 0) :: rest)) :=
  va_get (D := D) (ci := 1) (v := v) (C := RX1) (T := TX1) (N := 13) F.1 F.2.1 F.2.2.2.2 in_X1 F.2.2.2.1 hI.1 hI.2.1 0 rfl rfl k hk (F.2.2.2.2 _ hq) (fun _ h9 => h9) hv hdg kk
theorem zq_p0 {a : Nat → Nat} {ca : Nat → ClassId} (F : CallFix p m c cc nL s args lw_all RX0) (hI : zq_IW D (zq_t0 ca) A s (zq_w0 a ca u) H locs) (k : Nat) {v : Int32} (hk : k < 18) (hq : Cond.fieldLink RX0 idx (TX0 k).1 (TX0 k).2.1 (TX0 k).2.2.1 ∈ lw_all) (hfin : (TX0 k).2.2.2 = false) (hd : parseFieldDescriptor (TX0 k).2.2.1 = some .int) (hw : (zq_w0 a ca u).set 0 (a 0, .inr (0, (zq_f0 a u).set k (.int v))) = ws') (hdg : decode cc pc = .ok (.putfield idx, 3))
    (kk : ∀ (H1 : Heap) (locs1 : List Loc), zq_IW D (zq_t0 ca) A s ws' H1 locs1 → W p l e R s m args below meth c H1 locs1 cells slots Q (F0 m (pc + 3) ls rest)) : W p l e R s m args below meth c H locs cells slots Q (F0 m pc ls (.int v :: .ref (a 0) :: rest)) := by
  obtain ⟨hK, hP, hD, hS, hA⟩ := hI
  refine va_put (D := D) (ci := 0) (v := .int v) (ty := .int) (C := RX0) (T := TX0) (N := 18) (fs := zq_f0 a u) F.1 F.2.1 F.2.2.2.2 in_X0 tyX0 tyX0_ok nmX0 F.2.2.2.1 hK hP hD hS 0 rfl rfl k hk (F.2.2.2.2 _ hq) (fun _ h9 => h9) hfin hd rfl rfl hk hdg (fun H1 locs1 hP1 hD1 hS1 => ?_)
  rw [hw] at hP1 hD1
  exact kk H1 locs1 ⟨hK, hP1, hD1, hS1, hA⟩
theorem zq_p1 {a : Nat → Nat} {ca : Nat → ClassId} (F : CallFix p m c cc nL s args lw_all RX1) (hI : zq_IW D (zq_t1 ca) A s (zq_w1 a ca u) H locs) (k : Nat) {v : Int32} {ty : FieldType} (hk : k < 13) (hq : Cond.fieldLink RX1 idx (TX1 k).1 (TX1 k).2.1 (TX1 k).2.2.1 ∈ lw_all) (hfin : (TX1 k).2.2.2 = false) (hd : parseFieldDescriptor (TX1 k).2.2.1 = some ty) (hn : narrow ty (.int v) = .int v) (hfit : fits ty (.int v) = true) (hw : (zq_w1 a ca u).set 0 (a 0, .inr (1, (zq_f1 a u).set k (.int v))) = ws') (hdg : decode cc pc = .ok (.putfield idx, 3))
    (kk : ∀ (H1 : Heap) (locs1 : List Loc), zq_IW D (zq_t1 ca) A s ws' H1 locs1 → W p l e R s m args below meth c H1 locs1 cells slots Q (F0 m (pc + 3) ls rest)) : W p l e R s m args below meth c H locs cells slots Q (F0 m pc ls (.int v :: .ref (a 0) :: rest)) := by
  obtain ⟨hK, hP, hD, hS, hA⟩ := hI
  refine va_put (D := D) (ci := 1) (v := .int v) (ty := ty) (C := RX1) (T := TX1) (N := 13) (fs := zq_f1 a u) F.1 F.2.1 F.2.2.2.2 in_X1 tyX1 tyX1_ok nmX1 F.2.2.2.1 hK hP hD hS 0 rfl rfl k hk (F.2.2.2.2 _ hq) (fun _ h9 => h9) hfin hd hn hfit hk hdg (fun H1 locs1 hP1 hD1 hS1 => ?_)
  rw [hw] at hP1 hD1
  exact kk H1 locs1 ⟨hK, hP1, hD1, hS1, hA⟩
-- ===== arrays, by a number =====
theorem zq_ild (hx : p.tables.exec = Jvm.exec) (hb : c.code = cc) (hI : zq_IW D tys A s ws H locs) (q0 t0 : Nat) {cA : ClassId} {n b : Nat} {f : Nat → Int32} (ha : ws[q0]? = some (b, .inl (cA, n, .inl f))) (ht : tys[t0]? = some (cA, .int)) {i : Int32} (j : Nat) (hi : i = nI j) (hj : j < n) (hn : n < 1000) (hdg : decode cc pc = .ok (.iaload, 1))
    (kk : W p l e R s m args below meth c H locs cells slots Q (F0 m (pc + 1) ls (.int (f j) :: rest))) : W p l e R s m args below meth c H locs cells slots Q (F0 m pc ls (.int i :: .ref b :: rest)) := by
  subst hi
  refine va_iald hx hb hI.1 hI.2.1 q0 t0 ha ht (vp_in_nI hj (by omega)) hdg ?_
  rw [nI_clamp (show j < 2 ^ 31 by omega)]
  exact kk
theorem zq_bld (hx : p.tables.exec = Jvm.exec) (hb : c.code = cc) (hI : zq_IW D tys A s ws H locs) (q0 t0 : Nat) {cA : ClassId} {n b : Nat} {f : Nat → Int32} (ha : ws[q0]? = some (b, .inl (cA, n, .inl f))) (ht : tys[t0]? = some (cA, .byte)) {i : Int32} (j : Nat) (hi : i = nI j) (hj : j < n) (hn : n < 1000) (hdg : decode cc pc = .ok (.baload, 1))
    (kk : W p l e R s m args below meth c H locs cells slots Q (F0 m (pc + 1) ls (.int (f j) :: rest))) : W p l e R s m args below meth c H locs cells slots Q (F0 m pc ls (.int i :: .ref b :: rest)) := by
  subst hi
  refine va_bald hx hb hI.1 hI.2.1 q0 t0 ha ht (vp_in_nI hj (by omega)) hdg ?_
  rw [nI_clamp (show j < 2 ^ 31 by omega)]
  exact kk
theorem zq_sld (hx : p.tables.exec = Jvm.exec) (hb : c.code = cc) (hI : zq_IW D tys A s ws H locs) (q0 t0 : Nat) {cA : ClassId} {n b : Nat} {f : Nat → Int32} (ha : ws[q0]? = some (b, .inl (cA, n, .inl f))) (ht : tys[t0]? = some (cA, .short)) {i : Int32} (j : Nat) (hi : i = nI j) (hj : j < n) (hn : n < 1000) (hdg : decode cc pc = .ok (.saload, 1))
    (kk : W p l e R s m args below meth c H locs cells slots Q (F0 m (pc + 1) ls (.int (f j) :: rest))) : W p l e R s m args below meth c H locs cells slots Q (F0 m pc ls (.int i :: .ref b :: rest)) := by
  subst hi
  refine va_sald hx hb hI.1 hI.2.1 q0 t0 ha ht (vp_in_nI hj (by omega)) hdg ?_
  rw [nI_clamp (show j < 2 ^ 31 by omega)]
  exact kk
theorem zq_ist (hx : p.tables.exec = Jvm.exec) (hb : c.code = cc) (hI : zq_IW D tys A s ws H locs) (q0 t0 : Nat) {cA : ClassId} {n b : Nat} {f : Nat → Int32} (ha : ws[q0]? = some (b, .inl (cA, n, .inl f))) (ht : tys[t0]? = some (cA, .int)) {i x : Int32} (j : Nat) (hi : i = nI j) (hj : j < n) (hn : n < 1000) (hw : ws.set q0 (b, .inl (cA, n, .inl (upd f j x))) = ws') (hdg : decode cc pc = .ok (.iastore, 1))
    (kk : ∀ (H1 : Heap) (locs1 : List Loc), zq_IW D tys A s ws' H1 locs1 → W p l e R s m args below meth c H1 locs1 cells slots Q (F0 m (pc + 1) ls rest)) : W p l e R s m args below meth c H locs cells slots Q (F0 m pc ls (.int x :: .int i :: .ref b :: rest)) := by
  subst hi
  obtain ⟨hK, hP, hD, hS, hA⟩ := hI
  refine va_iast hx hb hK hP hD hS q0 t0 ha ht (vp_in_nI hj (by omega)) hdg (fun H1 locs1 hP1 hD1 hS1 => ?_)
  rw [nI_clamp (show j < 2 ^ 31 by omega), hw] at hP1 hD1
  exact kk H1 locs1 ⟨hK, hP1, hD1, hS1, hA⟩
theorem zq_bst (hx : p.tables.exec = Jvm.exec) (hb : c.code = cc) (hI : zq_IW D tys A s ws H locs) (q0 t0 : Nat) {cA : ClassId} {n b : Nat} {f : Nat → Int32} (ha : ws[q0]? = some (b, .inl (cA, n, .inl f))) (ht : tys[t0]? = some (cA, .byte)) {i x : Int32} (j : Nat) (hi : i = nI j) (hj : j < n) (hn : n < 1000) (hxn : vp_nar .byte x = x) (hw : ws.set q0 (b, .inl (cA, n, .inl (upd f j x))) = ws') (hdg : decode cc pc = .ok (.bastore, 1))
    (kk : ∀ (H1 : Heap) (locs1 : List Loc), zq_IW D tys A s ws' H1 locs1 → W p l e R s m args below meth c H1 locs1 cells slots Q (F0 m (pc + 1) ls rest)) : W p l e R s m args below meth c H locs cells slots Q (F0 m pc ls (.int x :: .int i :: .ref b :: rest)) := by
  subst hi
  obtain ⟨hK, hP, hD, hS, hA⟩ := hI
  refine va_bast hx hb hK hP hD hS q0 t0 ha ht (vp_in_nI hj (by omega)) hdg (fun H1 locs1 hP1 hD1 hS1 => ?_)
  rw [nI_clamp (show j < 2 ^ 31 by omega), hxn, hw] at hP1 hD1
  exact kk H1 locs1 ⟨hK, hP1, hD1, hS1, hA⟩
theorem zq_sst (hx : p.tables.exec = Jvm.exec) (hb : c.code = cc) (hI : zq_IW D tys A s ws H locs) (q0 t0 : Nat) {cA : ClassId} {n b : Nat} {f : Nat → Int32} (ha : ws[q0]? = some (b, .inl (cA, n, .inl f))) (ht : tys[t0]? = some (cA, .short)) {i x : Int32} (j : Nat) (hi : i = nI j) (hj : j < n) (hn : n < 1000) (hxn : vp_nar .short x = x) (hw : ws.set q0 (b, .inl (cA, n, .inl (upd f j x))) = ws') (hdg : decode cc pc = .ok (.sastore, 1))
    (kk : ∀ (H1 : Heap) (locs1 : List Loc), zq_IW D tys A s ws' H1 locs1 → W p l e R s m args below meth c H1 locs1 cells slots Q (F0 m (pc + 1) ls rest)) : W p l e R s m args below meth c H locs cells slots Q (F0 m pc ls (.int x :: .int i :: .ref b :: rest)) := by
  subst hi
  obtain ⟨hK, hP, hD, hS, hA⟩ := hI
  refine va_sast hx hb hK hP hD hS q0 t0 ha ht (vp_in_nI hj (by omega)) hdg (fun H1 locs1 hP1 hD1 hS1 => ?_)
  rw [nI_clamp (show j < 2 ^ 31 by omega), hxn, hw] at hP1 hD1
  exact kk H1 locs1 ⟨hK, hP1, hD1, hS1, hA⟩
end ZQ
end
section
/-! PURE: small rows for the walks -/
set_option maxRecDepth 100000
def zq_b (r : Int32) (p : Prop) : Prop := (r = 1 ∧ p) ∨ (r = 0 ∧ ¬ p)
theorem zq_b_n {r : Int32} {p : Prop} (h : zq_b r p) : narrow .boolean (.int r) = .int r := by
  rcases h with ⟨e, -⟩ | ⟨e, -⟩
  · rw [e]; rfl
  · rw [e]; rfl
theorem zq_b_t {r : Int32} {p : Prop} (h : zq_b r p) (h0 : ¬ r = 0) : p := by
  rcases h with ⟨-, g⟩ | ⟨e, -⟩
  · exact g
  · exact absurd e h0
theorem zq_b_f {r : Int32} {p : Prop} (h : zq_b r p) (h0 : r = 0) : ¬ p := by
  rcases h with ⟨e, -⟩ | ⟨-, g⟩
  · rw [e] at h0
    exact absurd h0 (by decide)
  · exact g
theorem zq_b_i {r : Int32} {p q : Prop} (h : zq_b r p) (e : q ↔ p) : zq_b r q := by
  rcases h with ⟨e1, g⟩ | ⟨e1, g⟩
  · exact Or.inl ⟨e1, e.mpr g⟩
  · exact Or.inr ⟨e1, fun x => g (e.mp x)⟩
theorem zq_in_of {x M : Int32} (n : Nat) (hM : M = nI n) (hn : n < 1000) (h : ¬ x < 0) (h2 : ¬ M < x) : ∃ k, k < n + 1 ∧ x = nI k := by
  obtain ⟨j, hj, e⟩ := nI_of h
  refine ⟨j, ?_, e⟩
  rcases Nat.lt_or_ge j (n + 1) with g | g
  · exact g
  · exact absurd (by rw [hM, e]; exact nI_lt (by omega) hj) h2
theorem zq_in_le {x M : Int32} (n : Nat) (hM : M = nI n) (hn : n < 1000) (h : ¬ x < 0) (h2 : x ≤ M) : ∃ k, k < n + 1 ∧ x = nI k := by
  obtain ⟨j, hj, e⟩ := nI_of h
  refine ⟨j, ?_, e⟩
  rcases Nat.lt_or_ge j (n + 1) with g | g
  · exact g
  · rw [hM, e] at h2
    exact absurd h2 (nI_ge (by omega) hj)
theorem zq_out_neg {x : Int32} (n : Nat) (hn : n < 1001) (h : x < 0) : ∀ k, k < n → x ≠ nI k := fun k hk e => nI_pos (n := k) (by omega) (by rw [← e]; exact h)
theorem zq_out_gt {x M : Int32} (n : Nat) (hM : M = nI n) (hn : n < 1000) (h : M < x) : ∀ k, k < n + 1 → x ≠ nI k := fun k hk e => by
  rw [hM, e] at h
  exact nI_nlt (show k ≤ n by omega) (by omega) h
theorem zq_out_nle {x M : Int32} (n : Nat) (hM : M = nI n) (hn : n < 1000) (h : ¬ x ≤ M) : ∀ k, k < n + 1 → x ≠ nI k := fun k hk e => h (by rw [hM, e]; exact nI_le (by omega) (by omega))
theorem zq_no {x : Int32} {n : Nat} (h : ∀ k, k < n → x ≠ nI k) : ¬ ∃ k, k < n ∧ x = nI k := fun ⟨k, hk, e⟩ => h k hk e
theorem zq_no2 {x : Int32} {n : Nat} (h : ¬ ∃ k, k < n ∧ x = nI k) : ∀ k, k < n → x ≠ nI k := fun k hk e => h ⟨k, hk, e⟩
theorem zq_inc1 (n : Nat) : nI n + Int32.ofInt 1 = nI (n + 1) := nI_1 n
theorem zq_dec1 {n : Nat} (h : 0 < n) : nI n + Int32.ofInt (-1) = nI (n - 1) := by
  obtain ⟨k, rfl⟩ : ∃ k, n = k + 1 := ⟨n - 1, by omega⟩
  exact pk_m1 k
theorem zq_sub1 {n : Nat} (h : 0 < n) : nI n - nI 1 = nI (n - 1) := pk_sub h
theorem zq_le {a b : Nat} (ha : a < 100000) (hb : b < 100000) (h : nI a ≤ nI b) : a ≤ b := (nI_leI (by omega) (by omega)).mp h
theorem zq_nle {a b : Nat} (ha : a < 100000) (hb : b < 100000) (h : ¬ nI a ≤ nI b) : b < a := by
  rcases Nat.lt_or_ge b a with g | g
  · exact g
  · exact absurd (nI_le g (by omega)) h
theorem zq_lti {a b : Nat} (ha : a < 100000) (hb : b < 100000) (h : nI a < nI b) : a < b := (nI_ltI (by omega) (by omega)).mp h
theorem zq_nlt {a b : Nat} (ha : a < 100000) (hb : b < 100000) (h : ¬ nI a < nI b) : b ≤ a := by
  rcases Nat.lt_or_ge a b with g | g
  · exact absurd (nI_lt g (by omega)) h
  · exact g
theorem zq_nI0 {a : Nat} (ha : a < 100000) (h : nI a = 0) : a = 0 := (nI_eq (by omega) (by omega)).mp (h.trans nI_0.symm)
theorem zq_nI0n {a : Nat} (h : ¬ nI a = 0) : a ≠ 0 := fun e => h (by rw [e]; exact nI_0)
theorem zq_var_e {x : Int32} (h : zq_var x) : x = nI x.toNatClampNeg ∧ x.toNatClampNeg < 6 := by
  obtain ⟨k, hk, e⟩ := h
  rw [e, nI_clamp (by omega)]
  exact ⟨rfl, hk⟩
theorem zq_plc_e {x : Int32} (h : zq_plc x) : x = nI x.toNatClampNeg ∧ x.toNatClampNeg < 20 := by
  obtain ⟨k, hk, e⟩ := h
  rw [e, nI_clamp (by omega)]
  exact ⟨rfl, hk⟩
-- ===== what an instruction that fits says of its parts =====
theorem zq_ok_7 {o x y z : Int32} (h : zq_ok o x y z) (e : o = 7) : zq_plc x := by
  rcases zq_ok_c h with g | ⟨-, g⟩ | ⟨g, -⟩ | ⟨g, -⟩ | ⟨g, -⟩ | ⟨g, -⟩ | ⟨g | g | g, -⟩
  all_goals first | exact g | exact absurd (e.symm.trans g) (by decide)
theorem zq_ok_6 {o x y z : Int32} (h : zq_ok o x y z) (e : o = 6) : zq_plc y := by
  rcases zq_ok_c h with g | ⟨g, -⟩ | ⟨-, -, g⟩ | ⟨g, -⟩ | ⟨g, -⟩ | ⟨g, -⟩ | ⟨g | g | g, -⟩
  all_goals first | exact g | exact absurd (e.symm.trans g) (by decide)
theorem zq_ok_x {o x y z : Int32} (h : zq_ok o x y z) (e8 : ¬ o = 8) (e7 : ¬ o = 7) : zq_var x := by
  rcases zq_ok_c h with g | ⟨g, -⟩ | ⟨-, g, -⟩ | ⟨-, g, -⟩ | ⟨-, g, -⟩ | ⟨-, g⟩ | ⟨-, g, -⟩
  all_goals first | exact g | exact absurd g e8 | exact absurd g e7
theorem zq_ok_y {o x y z : Int32} (h : zq_ok o x y z) (e8 : ¬ o = 8) (e7 : ¬ o = 7) (e6 : ¬ o = 6) (e0 : ¬ o = 0) : zq_var y := by
  rcases zq_ok_c h with g | ⟨g, -⟩ | ⟨g, -⟩ | ⟨-, -, g⟩ | ⟨-, -, g⟩ | ⟨g, -⟩ | ⟨-, -, g, -⟩
  all_goals first | exact g | exact absurd g e8 | exact absurd g e7 | exact absurd g e6 | exact absurd g e0
theorem zq_ok_z {o x y z : Int32} (h : zq_ok o x y z) (e8 : ¬ o = 8) (e7 : ¬ o = 7) (e6 : ¬ o = 6) (e0 : ¬ o = 0) (e4 : ¬ o = 4) (e5 : ¬ o = 5) : zq_var z ∧ (o = 1 ∨ o = 2 ∨ o = 3) := by
  rcases zq_ok_c h with g | ⟨g, -⟩ | ⟨g, -⟩ | ⟨g, -⟩ | ⟨g, -⟩ | ⟨g, -⟩ | ⟨g1, -, -, g⟩
  all_goals first | exact ⟨g, g1⟩ | exact absurd g e8 | exact absurd g e7 | exact absurd g e6 | exact absurd g e0 | exact absurd g e4 | exact absurd g e5
theorem zq_ok_ge {o x y z : Int32} (h : zq_ok o x y z) : ¬ o < 0 ∧ o ≤ 8 := by
  obtain ⟨k, hk, e⟩ := zq_ok_b h
  rw [e]
  exact ⟨nI_pos (by omega), nI_le (b := 8) hk (by omega)⟩
theorem zq_op {o : Int32} (h : ¬ o < 0) (h8 : o ≤ 8) : o = 0 ∨ o = 1 ∨ o = 2 ∨ o = 3 ∨ o = 4 ∨ o = 5 ∨ o = 6 ∨ o = 7 ∨ o = 8 := by
  obtain ⟨k, hk, e⟩ := zq_in_le 8 rfl (by omega) h h8
  rcases (show k = 0 ∨ k = 1 ∨ k = 2 ∨ k = 3 ∨ k = 4 ∨ k = 5 ∨ k = 6 ∨ k = 7 ∨ k = 8 by omega) with rfl | rfl | rfl | rfl | rfl | rfl | rfl | rfl | rfl
  · exact Or.inl e
  · exact Or.inr (Or.inl e)
  · exact Or.inr (Or.inr (Or.inl e))
  · exact Or.inr (Or.inr (Or.inr (Or.inl e)))
  · exact Or.inr (Or.inr (Or.inr (Or.inr (Or.inl e))))
  · exact Or.inr (Or.inr (Or.inr (Or.inr (Or.inr (Or.inl e)))))
  · exact Or.inr (Or.inr (Or.inr (Or.inr (Or.inr (Or.inr (Or.inl e))))))
  · exact Or.inr (Or.inr (Or.inr (Or.inr (Or.inr (Or.inr (Or.inr (Or.inl e)))))))
  · exact Or.inr (Or.inr (Or.inr (Or.inr (Or.inr (Or.inr (Or.inr (Or.inr e)))))))
theorem zq_ft_7 {o x y z : Int32} (e : o = 7) : zq_ok o x y z ↔ zq_plc x := ⟨fun h => zq_ok_7 h e, fun h => Or.inr (Or.inl ⟨e, h⟩)⟩
theorem zq_ft_6 {o x y z : Int32} (e : o = 6) (hx : zq_var x) : zq_ok o x y z ↔ zq_plc y := ⟨fun h => zq_ok_6 h e, fun h => Or.inr (Or.inr ⟨hx, Or.inr (Or.inl ⟨e, h⟩)⟩)⟩
theorem zq_ft_0 {o x y z : Int32} (e : o = 0) (hx : zq_var x) : zq_ok o x y z := Or.inr (Or.inr ⟨hx, Or.inl e⟩)
theorem zq_ft_45 {o x y z : Int32} (h8 : ¬ o = 8) (h7 : ¬ o = 7) (h6 : ¬ o = 6) (g0 : ¬ o < 0) (g8 : o ≤ 8) (g3 : 3 < o) (hx : zq_var x) (hy : zq_var y) : zq_ok o x y z := by
  refine Or.inr (Or.inr ⟨hx, Or.inr (Or.inr ⟨hy, ?_⟩)⟩)
  rcases zq_op g0 g8 with e | e | e | e | e | e | e | e | e
  · rw [e] at g3; exact absurd g3 (by decide)
  · rw [e] at g3; exact absurd g3 (by decide)
  · rw [e] at g3; exact absurd g3 (by decide)
  · rw [e] at g3; exact absurd g3 (by decide)
  · exact Or.inl e
  · exact Or.inr (Or.inl e)
  · exact absurd e h6
  · exact absurd e h7
  · exact absurd e h8
theorem zq_ft_13 {o x y z : Int32} (h0 : ¬ o = 0) (g0 : ¬ o < 0) (g8 : o ≤ 8) (g3 : ¬ 3 < o) (hx : zq_var x) (hy : zq_var y) : zq_ok o x y z ↔ zq_var z := by
  rcases zq_op g0 g8 with e | e | e | e | e | e | e | e | e
  · exact absurd e h0
  · exact ⟨fun h => (zq_ok_z h (by rw [e]; decide) (by rw [e]; decide) (by rw [e]; decide) (by rw [e]; decide) (by rw [e]; decide) (by rw [e]; decide)).1, fun h => Or.inr (Or.inr ⟨hx, Or.inr (Or.inr ⟨hy, Or.inr (Or.inr ⟨Or.inl e, h⟩)⟩)⟩)⟩
  · exact ⟨fun h => (zq_ok_z h (by rw [e]; decide) (by rw [e]; decide) (by rw [e]; decide) (by rw [e]; decide) (by rw [e]; decide) (by rw [e]; decide)).1, fun h => Or.inr (Or.inr ⟨hx, Or.inr (Or.inr ⟨hy, Or.inr (Or.inr ⟨Or.inr (Or.inl e), h⟩)⟩)⟩)⟩
  · exact ⟨fun h => (zq_ok_z h (by rw [e]; decide) (by rw [e]; decide) (by rw [e]; decide) (by rw [e]; decide) (by rw [e]; decide) (by rw [e]; decide)).1, fun h => Or.inr (Or.inr ⟨hx, Or.inr (Or.inr ⟨hy, Or.inr (Or.inr ⟨Or.inr (Or.inr e), h⟩)⟩)⟩)⟩
  all_goals exact absurd (by rw [e]; decide) g3
-- ===== the step, opcode by opcode =====
theorem zq_k8 {P : zq_St} {c : Nat → Int32} {i : Nat} (e : P 1 i = 8) : zq_nx P c i = i ∧ zq_wp P c i = 14 := by
  simp +decide [zq_nx, zq_wp, e]
theorem zq_k7 {P : zq_St} {c : Nat → Int32} {i : Nat} (e : P 1 i = 7) : zq_nx P c i = (P 2 i).toNatClampNeg ∧ zq_wp P c i = 14 := by
  simp +decide [zq_nx, zq_wp, e]
theorem zq_k6 {P : zq_St} {c : Nat → Int32} {i : Nat} (e : P 1 i = 6) : zq_nx P c i = (if c (P 2 i).toNatClampNeg ≤ 0 then i + 1 else (P 3 i).toNatClampNeg) ∧ zq_wp P c i = 14 := by
  simp +decide [zq_nx, zq_wp, e]
theorem zq_k5 {P : zq_St} {c : Nat → Int32} {i : Nat} (e : P 1 i = 5) : zq_nx P c i = i + 1 ∧ zq_wp P c i = 6 + zq_m7 (c (P 3 i).toNatClampNeg) ∧ zq_wv P c i = c (P 2 i).toNatClampNeg := by
  simp +decide [zq_nx, zq_wp, zq_wv, e]
theorem zq_k4 {P : zq_St} {c : Nat → Int32} {i : Nat} (e : P 1 i = 4) : zq_nx P c i = i + 1 ∧ zq_wp P c i = (P 2 i).toNatClampNeg ∧ zq_wv P c i = c (6 + zq_m7 (c (P 3 i).toNatClampNeg)) := by
  simp +decide [zq_nx, zq_wp, zq_wv, e]
theorem zq_k0 {P : zq_St} {c : Nat → Int32} {i : Nat} (e : P 1 i = 0) : zq_nx P c i = i + 1 ∧ zq_wp P c i = (P 2 i).toNatClampNeg ∧ zq_wv P c i = P 3 i := by
  simp +decide [zq_nx, zq_wp, zq_wv, e]
theorem zq_k123 {P : zq_St} {c : Nat → Int32} {i : Nat} (e : P 1 i = 1 ∨ P 1 i = 2 ∨ P 1 i = 3) : zq_nx P c i = i + 1 ∧ zq_wp P c i = (P 2 i).toNatClampNeg ∧ zq_wv P c i = (if P 1 i = 1 then c (P 3 i).toNatClampNeg + c (P 4 i).toNatClampNeg else if P 1 i = 2 then c (P 3 i).toNatClampNeg - c (P 4 i).toNatClampNeg else c (P 3 i).toNatClampNeg * c (P 4 i).toNatClampNeg) := by
  rcases e with e | e | e
  · simp +decide [zq_nx, zq_wp, zq_wv, e]
  · simp +decide [zq_nx, zq_wp, zq_wv, e]
  · simp +decide [zq_nx, zq_wp, zq_wv, e]
theorem zq_pf_y {u : zq_St} {T p p' : Nat} {v v' : Int32} (h : p < 14) (e : p' = p) (e2 : v' = v) : zq_sto u T p v = zq_pf u T p' v' := by
  rw [e, e2]
  exact (if_pos h).symm
theorem zq_pf_n {u : zq_St} {T p' : Nat} {v' : Int32} (e : p' = 14) : u = zq_pf u T p' v' := by
  rw [e]
  exact (if_neg (by omega)).symm
theorem zq_I0_m7 {P u : zq_St} {n T q q' : Nat} {x : Nat → Int32} (h : zq_I0 P n T q u) (hq : q' ≤ T) (hf : ∀ i, i < 14 → u 6 i = zq_M P q' i) (hx : x 0 = nI q') : zq_I0 P n T q' (va_up u 7 x) := by
  obtain ⟨a1, a2, a3, a4, a5, a6, a7, a8⟩ := h
  exact ⟨a1, a2, hq, zq_A_of a4 rfl rfl rfl rfl rfl rfl, zq_G_of a5 (fun k hk => by rw [va_up_ne _ _ (by omega)]), hf, hx, a8⟩
theorem zq_I0_m76 {P u : zq_St} {n T q q' : Nat} {f : Nat → Int32} {x : Nat → Int32} (h : zq_I0 P n T q u) (hq : q' ≤ T) (hf : ∀ i, i < 14 → f i = zq_M P q' i) (hx : x 0 = nI q') : zq_I0 P n T q' (va_up (va_up u 7 x) 6 f) := by
  obtain ⟨a1, a2, a3, a4, a5, a6, a7, a8⟩ := h
  exact ⟨a1, a2, hq, zq_A_of a4 rfl rfl rfl rfl rfl rfl, zq_G_of a5 (fun k hk => by rw [va_up_ne _ _ (by omega), va_up_ne _ _ (by omega)]), hf, hx, a8⟩
theorem zq_R9_0 (P u : zq_St) : zq_R9 P 0 u := fun s h1 h2 => absurd h1 (by omega)
theorem zq_GH_0 {P u : zq_St} (h6 : ∀ i, i < 14 → u 6 i = zq_M P 0 i) (h15 : ∀ i, i < 14 → u 15 i = 0) (h16 : ∀ i, i < 21 → u 16 i = -1) : zq_GH P 0 u :=
  ⟨fun s hs => absurd hs (by omega), fun i hi => h16 i (by omega), zq_R9_0 P u, fun p hp => (h15 p hp).trans nI_0.symm, fun k i hk => absurd hk (by omega), h6⟩
theorem zq_up_lt {f : Nat → Int32} {j : Nat} {x : Int32} {Z : Nat → Int32} (h : ∀ i, i < j → f i = Z i) (hx : x = Z j) : ∀ i, i < j + 1 → upd f j x i = Z i := by
  intro i hi
  by_cases e : i = j
  · rw [e, zq_upd_s]; exact hx
  · rw [zq_upd_n _ _ e]
    exact h i (by omega)
end
section
/-! what a call asks of a method's name and descriptor -/
set_option maxRecDepth 100000
theorem hdX0_execute : yX0_execute.cls = yX0_execute.cls ∧ yX0_execute.cls ≠ "java/lang/invoke/MethodHandle" ∧ yX0_execute.cls ≠ "java/lang/invoke/VarHandle" ∧ (parseMethodDescriptor yX0_execute.desc).map (fun d => d.parameters.length) = some 0 := by decide +kernel
theorem hdX0_noteTime : yX0_noteTime.cls = yX0_noteTime.cls ∧ yX0_noteTime.cls ≠ "java/lang/invoke/MethodHandle" ∧ yX0_noteTime.cls ≠ "java/lang/invoke/VarHandle" ∧ (parseMethodDescriptor yX0_noteTime.desc).map (fun d => d.parameters.length) = some 2 := by decide +kernel
theorem hdX0_perform : yX0_perform.cls = yX0_perform.cls ∧ yX0_perform.cls ≠ "java/lang/invoke/MethodHandle" ∧ yX0_perform.cls ≠ "java/lang/invoke/VarHandle" ∧ (parseMethodDescriptor yX0_perform.desc).map (fun d => d.parameters.length) = some 1 := by decide +kernel
theorem hdX0_store : yX0_store.cls = yX0_store.cls ∧ yX0_store.cls ≠ "java/lang/invoke/MethodHandle" ∧ yX0_store.cls ≠ "java/lang/invoke/VarHandle" ∧ (parseMethodDescriptor yX0_store.desc).map (fun d => d.parameters.length) = some 2 := by decide +kernel
theorem hdX0_compute : yX0_compute.cls = yX0_compute.cls ∧ yX0_compute.cls ≠ "java/lang/invoke/MethodHandle" ∧ yX0_compute.cls ≠ "java/lang/invoke/VarHandle" ∧ (parseMethodDescriptor yX0_compute.desc).map (fun d => d.parameters.length) = some 4 := by decide +kernel
theorem hdX0_travel : yX0_travel.cls = yX0_travel.cls ∧ yX0_travel.cls ≠ "java/lang/invoke/MethodHandle" ∧ yX0_travel.cls ≠ "java/lang/invoke/VarHandle" ∧ (parseMethodDescriptor yX0_travel.desc).map (fun d => d.parameters.length) = some 1 := by decide +kernel
theorem hdX0_gap : yX0_gap.cls = yX0_gap.cls ∧ yX0_gap.cls ≠ "java/lang/invoke/MethodHandle" ∧ yX0_gap.cls ≠ "java/lang/invoke/VarHandle" ∧ (parseMethodDescriptor yX0_gap.desc).map (fun d => d.parameters.length) = some 2 := by decide +kernel
theorem hdX0_load : yX0_load.cls = yX0_load.cls ∧ yX0_load.cls ≠ "java/lang/invoke/MethodHandle" ∧ yX0_load.cls ≠ "java/lang/invoke/VarHandle" ∧ (parseMethodDescriptor yX0_load.desc).map (fun d => d.parameters.length) = some 1 := by decide +kernel
theorem hdX0_undo : yX0_undo.cls = yX0_undo.cls ∧ yX0_undo.cls ≠ "java/lang/invoke/MethodHandle" ∧ yX0_undo.cls ≠ "java/lang/invoke/VarHandle" ∧ (parseMethodDescriptor yX0_undo.desc).map (fun d => d.parameters.length) = some 0 := by decide +kernel
theorem hdX0_redo : yX0_redo.cls = yX0_redo.cls ∧ yX0_redo.cls ≠ "java/lang/invoke/MethodHandle" ∧ yX0_redo.cls ≠ "java/lang/invoke/VarHandle" ∧ (parseMethodDescriptor yX0_redo.desc).map (fun d => d.parameters.length) = some 0 := by decide +kernel
theorem hdX0_emit : yX0_emit.cls = yX0_emit.cls ∧ yX0_emit.cls ≠ "java/lang/invoke/MethodHandle" ∧ yX0_emit.cls ≠ "java/lang/invoke/VarHandle" ∧ (parseMethodDescriptor yX0_emit.desc).map (fun d => d.parameters.length) = some 4 := by decide +kernel
theorem hdX0_fits : yX0_fits.cls = yX0_fits.cls ∧ yX0_fits.cls ≠ "java/lang/invoke/MethodHandle" ∧ yX0_fits.cls ≠ "java/lang/invoke/VarHandle" ∧ (parseMethodDescriptor yX0_fits.desc).map (fun d => d.parameters.length) = some 4 := by decide +kernel
theorem hdX0_isVariable : yX0_isVariable.cls = yX0_isVariable.cls ∧ yX0_isVariable.cls ≠ "java/lang/invoke/MethodHandle" ∧ yX0_isVariable.cls ≠ "java/lang/invoke/VarHandle" ∧ (parseMethodDescriptor yX0_isVariable.desc).map (fun d => d.parameters.length) = some 1 := by decide +kernel
theorem hdX0_input : yX0_input.cls = yX0_input.cls ∧ yX0_input.cls ≠ "java/lang/invoke/MethodHandle" ∧ yX0_input.cls ≠ "java/lang/invoke/VarHandle" ∧ (parseMethodDescriptor yX0_input.desc).map (fun d => d.parameters.length) = some 1 := by decide +kernel
theorem hdX0_steps : yX0_steps.cls = yX0_steps.cls ∧ yX0_steps.cls ≠ "java/lang/invoke/MethodHandle" ∧ yX0_steps.cls ≠ "java/lang/invoke/VarHandle" ∧ (parseMethodDescriptor yX0_steps.desc).map (fun d => d.parameters.length) = some 0 := by decide +kernel
theorem hdX0_goTo : yX0_goTo.cls = yX0_goTo.cls ∧ yX0_goTo.cls ≠ "java/lang/invoke/MethodHandle" ∧ yX0_goTo.cls ≠ "java/lang/invoke/VarHandle" ∧ (parseMethodDescriptor yX0_goTo.desc).map (fun d => d.parameters.length) = some 1 := by decide +kernel
theorem hdX0_time : yX0_time.cls = yX0_time.cls ∧ yX0_time.cls ≠ "java/lang/invoke/MethodHandle" ∧ yX0_time.cls ≠ "java/lang/invoke/VarHandle" ∧ (parseMethodDescriptor yX0_time.desc).map (fun d => d.parameters.length) = some 0 := by decide +kernel
theorem hdX0_variable : yX0_variable.cls = yX0_variable.cls ∧ yX0_variable.cls ≠ "java/lang/invoke/MethodHandle" ∧ yX0_variable.cls ≠ "java/lang/invoke/VarHandle" ∧ (parseMethodDescriptor yX0_variable.desc).map (fun d => d.parameters.length) = some 1 := by decide +kernel
theorem hdX0_cell : yX0_cell.cls = yX0_cell.cls ∧ yX0_cell.cls ≠ "java/lang/invoke/MethodHandle" ∧ yX0_cell.cls ≠ "java/lang/invoke/VarHandle" ∧ (parseMethodDescriptor yX0_cell.desc).map (fun d => d.parameters.length) = some 1 := by decide +kernel
theorem hdX0_lastWrite : yX0_lastWrite.cls = yX0_lastWrite.cls ∧ yX0_lastWrite.cls ≠ "java/lang/invoke/MethodHandle" ∧ yX0_lastWrite.cls ≠ "java/lang/invoke/VarHandle" ∧ (parseMethodDescriptor yX0_lastWrite.desc).map (fun d => d.parameters.length) = some 2 := by decide +kernel
theorem hdX0_writeUpTo : yX0_writeUpTo.cls = yX0_writeUpTo.cls ∧ yX0_writeUpTo.cls ≠ "java/lang/invoke/MethodHandle" ∧ yX0_writeUpTo.cls ≠ "java/lang/invoke/VarHandle" ∧ (parseMethodDescriptor yX0_writeUpTo.desc).map (fun d => d.parameters.length) = some 1 := by decide +kernel
theorem hdX0_runTo : yX0_runTo.cls = yX0_runTo.cls ∧ yX0_runTo.cls ≠ "java/lang/invoke/MethodHandle" ∧ yX0_runTo.cls ≠ "java/lang/invoke/VarHandle" ∧ (parseMethodDescriptor yX0_runTo.desc).map (fun d => d.parameters.length) = some 1 := by decide +kernel
theorem hdX0_backTo : yX0_backTo.cls = yX0_backTo.cls ∧ yX0_backTo.cls ≠ "java/lang/invoke/MethodHandle" ∧ yX0_backTo.cls ≠ "java/lang/invoke/VarHandle" ∧ (parseMethodDescriptor yX0_backTo.desc).map (fun d => d.parameters.length) = some 1 := by decide +kernel
theorem hdX0_backBeforeWrite : yX0_backBeforeWrite.cls = yX0_backBeforeWrite.cls ∧ yX0_backBeforeWrite.cls ≠ "java/lang/invoke/MethodHandle" ∧ yX0_backBeforeWrite.cls ≠ "java/lang/invoke/VarHandle" ∧ (parseMethodDescriptor yX0_backBeforeWrite.desc).map (fun d => d.parameters.length) = some 1 := by decide +kernel
theorem hdX1_emit : yX1_emit.cls = yX1_emit.cls ∧ yX1_emit.cls ≠ "java/lang/invoke/MethodHandle" ∧ yX1_emit.cls ≠ "java/lang/invoke/VarHandle" ∧ (parseMethodDescriptor yX1_emit.desc).map (fun d => d.parameters.length) = some 4 := by decide +kernel
theorem hdX1_fits : yX1_fits.cls = yX1_fits.cls ∧ yX1_fits.cls ≠ "java/lang/invoke/MethodHandle" ∧ yX1_fits.cls ≠ "java/lang/invoke/VarHandle" ∧ (parseMethodDescriptor yX1_fits.desc).map (fun d => d.parameters.length) = some 4 := by decide +kernel
theorem hdX1_isPlace : yX1_isPlace.cls = yX1_isPlace.cls ∧ yX1_isPlace.cls ≠ "java/lang/invoke/MethodHandle" ∧ yX1_isPlace.cls ≠ "java/lang/invoke/VarHandle" ∧ (parseMethodDescriptor yX1_isPlace.desc).map (fun d => d.parameters.length) = some 1 := by decide +kernel
theorem hdX1_isVariable : yX1_isVariable.cls = yX1_isVariable.cls ∧ yX1_isVariable.cls ≠ "java/lang/invoke/MethodHandle" ∧ yX1_isVariable.cls ≠ "java/lang/invoke/VarHandle" ∧ (parseMethodDescriptor yX1_isVariable.desc).map (fun d => d.parameters.length) = some 1 := by decide +kernel
theorem hdX1_input : yX1_input.cls = yX1_input.cls ∧ yX1_input.cls ≠ "java/lang/invoke/MethodHandle" ∧ yX1_input.cls ≠ "java/lang/invoke/VarHandle" ∧ (parseMethodDescriptor yX1_input.desc).map (fun d => d.parameters.length) = some 1 := by decide +kernel
theorem hdX1_steps : yX1_steps.cls = yX1_steps.cls ∧ yX1_steps.cls ≠ "java/lang/invoke/MethodHandle" ∧ yX1_steps.cls ≠ "java/lang/invoke/VarHandle" ∧ (parseMethodDescriptor yX1_steps.desc).map (fun d => d.parameters.length) = some 0 := by decide +kernel
theorem hdX1_begin : yX1_begin.cls = yX1_begin.cls ∧ yX1_begin.cls ≠ "java/lang/invoke/MethodHandle" ∧ yX1_begin.cls ≠ "java/lang/invoke/VarHandle" ∧ (parseMethodDescriptor yX1_begin.desc).map (fun d => d.parameters.length) = some 0 := by decide +kernel
theorem hdX1_ended : yX1_ended.cls = yX1_ended.cls ∧ yX1_ended.cls ≠ "java/lang/invoke/MethodHandle" ∧ yX1_ended.cls ≠ "java/lang/invoke/VarHandle" ∧ (parseMethodDescriptor yX1_ended.desc).map (fun d => d.parameters.length) = some 0 := by decide +kernel
theorem hdX1_step : yX1_step.cls = yX1_step.cls ∧ yX1_step.cls ≠ "java/lang/invoke/MethodHandle" ∧ yX1_step.cls ≠ "java/lang/invoke/VarHandle" ∧ (parseMethodDescriptor yX1_step.desc).map (fun d => d.parameters.length) = some 0 := by decide +kernel
theorem hdX1_setVariable : yX1_setVariable.cls = yX1_setVariable.cls ∧ yX1_setVariable.cls ≠ "java/lang/invoke/MethodHandle" ∧ yX1_setVariable.cls ≠ "java/lang/invoke/VarHandle" ∧ (parseMethodDescriptor yX1_setVariable.desc).map (fun d => d.parameters.length) = some 2 := by decide +kernel
theorem hdX1_goTo : yX1_goTo.cls = yX1_goTo.cls ∧ yX1_goTo.cls ≠ "java/lang/invoke/MethodHandle" ∧ yX1_goTo.cls ≠ "java/lang/invoke/VarHandle" ∧ (parseMethodDescriptor yX1_goTo.desc).map (fun d => d.parameters.length) = some 1 := by decide +kernel
theorem hdX1_state : yX1_state.cls = yX1_state.cls ∧ yX1_state.cls ≠ "java/lang/invoke/MethodHandle" ∧ yX1_state.cls ≠ "java/lang/invoke/VarHandle" ∧ (parseMethodDescriptor yX1_state.desc).map (fun d => d.parameters.length) = some 1 := by decide +kernel
theorem hdX1_time : yX1_time.cls = yX1_time.cls ∧ yX1_time.cls ≠ "java/lang/invoke/MethodHandle" ∧ yX1_time.cls ≠ "java/lang/invoke/VarHandle" ∧ (parseMethodDescriptor yX1_time.desc).map (fun d => d.parameters.length) = some 0 := by decide +kernel
theorem hdX1_variable : yX1_variable.cls = yX1_variable.cls ∧ yX1_variable.cls ≠ "java/lang/invoke/MethodHandle" ∧ yX1_variable.cls ≠ "java/lang/invoke/VarHandle" ∧ (parseMethodDescriptor yX1_variable.desc).map (fun d => d.parameters.length) = some 1 := by decide +kernel
theorem hdX1_cell : yX1_cell.cls = yX1_cell.cls ∧ yX1_cell.cls ≠ "java/lang/invoke/MethodHandle" ∧ yX1_cell.cls ≠ "java/lang/invoke/VarHandle" ∧ (parseMethodDescriptor yX1_cell.desc).map (fun d => d.parameters.length) = some 1 := by decide +kernel
theorem hdX1_lastWrite : yX1_lastWrite.cls = yX1_lastWrite.cls ∧ yX1_lastWrite.cls ≠ "java/lang/invoke/MethodHandle" ∧ yX1_lastWrite.cls ≠ "java/lang/invoke/VarHandle" ∧ (parseMethodDescriptor yX1_lastWrite.desc).map (fun d => d.parameters.length) = some 2 := by decide +kernel
theorem hdX1_runTo : yX1_runTo.cls = yX1_runTo.cls ∧ yX1_runTo.cls ≠ "java/lang/invoke/MethodHandle" ∧ yX1_runTo.cls ≠ "java/lang/invoke/VarHandle" ∧ (parseMethodDescriptor yX1_runTo.desc).map (fun d => d.parameters.length) = some 1 := by decide +kernel
theorem hdX1_backTo : yX1_backTo.cls = yX1_backTo.cls ∧ yX1_backTo.cls ≠ "java/lang/invoke/MethodHandle" ∧ yX1_backTo.cls ≠ "java/lang/invoke/VarHandle" ∧ (parseMethodDescriptor yX1_backTo.desc).map (fun d => d.parameters.length) = some 1 := by decide +kernel
theorem hdX1_backBeforeWrite : yX1_backBeforeWrite.cls = yX1_backBeforeWrite.cls ∧ yX1_backBeforeWrite.cls ≠ "java/lang/invoke/MethodHandle" ∧ yX1_backBeforeWrite.cls ≠ "java/lang/invoke/VarHandle" ∧ (parseMethodDescriptor yX1_backBeforeWrite.desc).map (fun d => d.parameters.length) = some 1 := by decide +kernel
end
section
/-! TraceDebugger: isVariable, gap, fits, store, compute -/
set_option maxRecDepth 100000
set_option maxHeartbeats 4000000 in
set_option maxRecDepth 100000 in
/-- TraceDebugger.isVariable: within 0..5 -/
theorem m0_isVariable (l : Launch) (a : Nat → Nat) (ca : Nat → ClassId) (u : zq_St) (x1 : Int32) : zq_Ci l yX0_isVariable cX0_isVariable 2 .boolean 0 (a 0) [.int x1] (zq_t0 ca) (zq_w0 a ca) u (fun r u' => u' = u ∧ zq_b r (zq_var x1)) := by
  refine zq_starti (by decide) (Nat.le_of_ble_eq_true rfl) ?_
  intro p e s m args below meth c D A Q ls F hQ hI hl
  have hx := F.1
  have hb := F.2.1
  have hl : lv_has ls 2 [(0, .ref (a 0)), (1, .int x1)] := hl
  refine lv_iload_n hx hb dX0_isVariable_0 rfl (lv_at hl 1 rfl) ?_
  refine lv_if_lt (tgt := 13) hx hb dX0_isVariable_1 (by decide) (fun c1 => ?_) (fun c1 => ?_)
  · refine lv_iconst (v := 0) hx hb dX0_isVariable_13 (by decide) ?_
    exact hQ _ _ 0 u _ _ rfl hI (⟨rfl, Or.inr ⟨rfl, zq_no (zq_out_neg 6 (by omega) c1)⟩⟩) dX0_isVariable_14
  · refine lv_iload_n hx hb dX0_isVariable_4 rfl (lv_at hl 1 rfl) ?_
    refine lv_iconst (v := 5) hx hb dX0_isVariable_5 (by decide) ?_
    refine lv_icmp_gt (tgt := 13) hx hb dX0_isVariable_6 (by decide) (fun c6 => ?_) (fun c6 => ?_)
    · refine lv_iconst (v := 0) hx hb dX0_isVariable_13 (by decide) ?_
      exact hQ _ _ 0 u _ _ rfl hI (⟨rfl, Or.inr ⟨rfl, zq_no (zq_out_gt 5 rfl (by omega) c6)⟩⟩) dX0_isVariable_14
    · refine lv_iconst (v := 1) hx hb dX0_isVariable_9 (by decide) ?_
      refine lv_goto (tgt := 14) hx hb dX0_isVariable_10 (by decide) ?_
      exact hQ _ _ 1 u _ _ rfl hI (⟨rfl, Or.inl ⟨rfl, zq_in_of 5 rfl (by omega) c1 c6⟩⟩) dX0_isVariable_14
set_option maxHeartbeats 4000000 in
set_option maxRecDepth 100000 in
/-- gap: the distance -/
theorem m0_gap (l : Launch) (a : Nat → Nat) (ca : Nat → ClassId) (u : zq_St) (x1 x2 : Int32) (j k : Nat) (h1 : x1 = nI j) (h2 : x2 = nI k) (hj : j < 1000) (hk : k < 1000) : zq_Ci l yX0_gap cX0_gap 3 .int 0 (a 0) [.int x1, .int x2] (zq_t0 ca) (zq_w0 a ca) u (fun r u' => u' = u ∧ r = nI (if j < k then k - j else j - k)) := by
  refine zq_starti (by decide) (Nat.le_of_ble_eq_true rfl) ?_
  intro p e s m args below meth c D A Q ls F hQ hI hl
  have hx := F.1
  have hb := F.2.1
  have hl : lv_has ls 3 [(0, .ref (a 0)), (1, .int x1), (2, .int x2)] := hl
  subst h1
  subst h2
  refine lv_iload_n hx hb dX0_gap_0 rfl (lv_at hl 1 rfl) ?_
  refine lv_iload_n hx hb dX0_gap_1 rfl (lv_at hl 2 rfl) ?_
  refine lv_icmp_ge (tgt := 11) hx hb dX0_gap_2 (by decide) (fun c2 => ?_) (fun c2 => ?_)
  · refine lv_iload_n hx hb dX0_gap_11 rfl (lv_at hl 1 rfl) ?_
    refine lv_iload_n hx hb dX0_gap_12 rfl (lv_at hl 2 rfl) ?_
    refine lv_isub hx hb dX0_gap_13 ?_
    refine zq_top (z := (nI (j - k))) (pk_sub (zq_le (by omega) (by omega) c2)) ?_
    exact hQ _ _ (nI (j - k)) u _ _ rfl hI (⟨rfl, by rw [if_neg (Nat.not_lt.mpr (zq_le (by omega) (by omega) c2))]⟩) dX0_gap_14
  · refine lv_iload_n hx hb dX0_gap_5 rfl (lv_at hl 2 rfl) ?_
    refine lv_iload_n hx hb dX0_gap_6 rfl (lv_at hl 1 rfl) ?_
    refine lv_isub hx hb dX0_gap_7 ?_
    refine zq_top (z := (nI (k - j))) (pk_sub (Nat.le_of_lt (zq_nle (by omega) (by omega) c2))) ?_
    refine lv_goto (tgt := 14) hx hb dX0_gap_8 (by decide) ?_
    exact hQ _ _ (nI (k - j)) u _ _ rfl hI (⟨rfl, by rw [if_pos (zq_nle (by omega) (by omega) c2)]⟩) dX0_gap_14
set_option maxHeartbeats 4000000 in
set_option maxRecDepth 100000 in
/-- fits: the instruction fits -/
theorem m0_fits (l : Launch) (a : Nat → Nat) (ca : Nat → ClassId) (u : zq_St) (o x y z : Int32) (h0 : ¬ o < 0) (h8 : o ≤ 8) : zq_Ci l yX0_fits cX0_fits 5 .boolean 1 (a 0) [.int o, .int x, .int y, .int z] (zq_t0 ca) (zq_w0 a ca) u (fun r u' => u' = u ∧ zq_b r (zq_ok o x y z)) := by
  refine zq_starti (by decide) (Nat.le_of_ble_eq_true rfl) ?_
  intro p e s m args below meth c D A Q ls F hQ hI hl
  have hx := F.1
  have hb := F.2.1
  have hl : lv_has ls 5 [(0, .ref (a 0)), (1, .int o), (2, .int x), (3, .int y), (4, .int z)] := hl
  refine lv_iload_n hx hb dX0_fits_0 rfl (lv_at hl 1 rfl) ?_
  refine lv_bipush (v := 8) hx hb dX0_fits_1 (by decide) ?_
  refine lv_icmp_ne (tgt := 8) hx hb dX0_fits_3 (by decide) (fun c3 => ?_) (fun c3 => ?_)
  · refine lv_iload_n hx hb dX0_fits_8 rfl (lv_at hl 1 rfl) ?_
    refine lv_bipush (v := 7) hx hb dX0_fits_9 (by decide) ?_
    refine lv_icmp_ne (tgt := 30) hx hb dX0_fits_11 (by decide) (fun c11 => ?_) (fun c11 => ?_)
    · refine lv_aload_n hx hb dX0_fits_30 rfl (lv_at hl 0 rfl) ?_
      refine lv_iload_n hx hb dX0_fits_31 rfl (lv_at hl 2 rfl) ?_
      refine zq_c0i (rest := []) F hI (m0_isVariable l a ca u x) q138 q140 qs11 q22 q141 rfl hdX0_isVariable (by decide) hl.1 rfl (Nat.le_of_ble_eq_true rfl) dX0_fits_32 (by decide) (fun r32 u32 H locs hp32 hI => ?_)
      obtain ⟨hu32, hp32⟩ := hp32
      rw [hu32] at hI
      refine lv_if_ne (tgt := 40) hx hb dX0_fits_35 (by decide) (fun c35 => ?_) (fun c35 => ?_)
      · refine lv_iload_n hx hb dX0_fits_40 rfl (lv_at hl 1 rfl) ?_
        refine lv_if_ne (tgt := 46) hx hb dX0_fits_41 (by decide) (fun c41 => ?_) (fun c41 => ?_)
        · refine lv_iload_n hx hb dX0_fits_46 rfl (lv_at hl 1 rfl) ?_
          refine lv_bipush (v := 6) hx hb dX0_fits_47 (by decide) ?_
          refine lv_icmp_ne (tgt := 68) hx hb dX0_fits_49 (by decide) (fun c49 => ?_) (fun c49 => ?_)
          · refine lv_aload_n hx hb dX0_fits_68 rfl (lv_at hl 0 rfl) ?_
            refine lv_iload_n hx hb dX0_fits_69 rfl (lv_at hl 3 rfl) ?_
            refine zq_c0i (rest := []) F hI (m0_isVariable l a ca u y) q138 q140 qs11 q22 q141 rfl hdX0_isVariable (by decide) hl.1 rfl (Nat.le_of_ble_eq_true rfl) dX0_fits_70 (by decide) (fun r70 u70 H locs hp70 hI => ?_)
            obtain ⟨hu70, hp70⟩ := hp70
            rw [hu70] at hI
            refine lv_if_ne (tgt := 78) hx hb dX0_fits_73 (by decide) (fun c73 => ?_) (fun c73 => ?_)
            · refine lv_iload_n hx hb dX0_fits_78 rfl (lv_at hl 1 rfl) ?_
              refine lv_iconst (v := 3) hx hb dX0_fits_79 (by decide) ?_
              refine lv_icmp_gt (tgt := 92) hx hb dX0_fits_80 (by decide) (fun c80 => ?_) (fun c80 => ?_)
              · refine lv_iconst (v := 1) hx hb dX0_fits_92 (by decide) ?_
                refine lv_goto (tgt := 97) hx hb dX0_fits_93 (by decide) ?_
                exact hQ _ _ 1 u _ _ rfl hI (⟨rfl, Or.inl ⟨rfl, zq_ft_45 c3 c11 c49 h0 h8 c80 (zq_b_t hp32 c35) (zq_b_t hp70 c73)⟩⟩) dX0_fits_97
              · refine lv_aload_n hx hb dX0_fits_83 rfl (lv_at hl 0 rfl) ?_
                refine lv_iload hx hb dX0_fits_84 (lv_at hl 4 rfl) ?_
                refine zq_c0i (rest := []) F hI (m0_isVariable l a ca u z) q138 q140 qs11 q22 q141 rfl hdX0_isVariable (by decide) hl.1 rfl (Nat.le_of_ble_eq_true rfl) dX0_fits_86 (by decide) (fun r86 u86 H locs hp86 hI => ?_)
                obtain ⟨hu86, hp86⟩ := hp86
                rw [hu86] at hI
                refine lv_if_eq (tgt := 96) hx hb dX0_fits_89 (by decide) (fun c89 => ?_) (fun c89 => ?_)
                · refine lv_iconst (v := 0) hx hb dX0_fits_96 (by decide) ?_
                  exact hQ _ _ 0 u _ _ rfl hI (⟨rfl, Or.inr ⟨rfl, fun h => zq_b_f hp86 c89 ((zq_ft_13 c41 h0 h8 c80 (zq_b_t hp32 c35) (zq_b_t hp70 c73)).mp h)⟩⟩) dX0_fits_97
                · refine lv_iconst (v := 1) hx hb dX0_fits_92 (by decide) ?_
                  refine lv_goto (tgt := 97) hx hb dX0_fits_93 (by decide) ?_
                  exact hQ _ _ 1 u _ _ rfl hI (⟨rfl, Or.inl ⟨rfl, (zq_ft_13 c41 h0 h8 c80 (zq_b_t hp32 c35) (zq_b_t hp70 c73)).mpr (zq_b_t hp86 c89)⟩⟩) dX0_fits_97
            · refine lv_iconst (v := 0) hx hb dX0_fits_76 (by decide) ?_
              exact hQ _ _ 0 u _ _ rfl hI (⟨rfl, Or.inr ⟨rfl, fun h => zq_b_f hp70 c73 (zq_ok_y h c3 c11 c49 c41)⟩⟩) dX0_fits_77
          · refine lv_iload_n hx hb dX0_fits_52 rfl (lv_at hl 3 rfl) ?_
            refine lv_if_lt (tgt := 66) hx hb dX0_fits_53 (by decide) (fun c53 => ?_) (fun c53 => ?_)
            · refine lv_iconst (v := 0) hx hb dX0_fits_66 (by decide) ?_
              exact hQ _ _ 0 u _ _ rfl hI (⟨rfl, zq_b_i (p := zq_plc y) (Or.inr ⟨rfl, zq_no (zq_out_neg 20 (by omega) c53)⟩) (zq_ft_6 c49 (zq_b_t hp32 c35))⟩) dX0_fits_67
            · refine lv_iload_n hx hb dX0_fits_56 rfl (lv_at hl 3 rfl) ?_
              refine lv_bipush (v := 19) hx hb dX0_fits_57 (by decide) ?_
              refine lv_icmp_gt (tgt := 66) hx hb dX0_fits_59 (by decide) (fun c59 => ?_) (fun c59 => ?_)
              · refine lv_iconst (v := 0) hx hb dX0_fits_66 (by decide) ?_
                exact hQ _ _ 0 u _ _ rfl hI (⟨rfl, zq_b_i (p := zq_plc y) (Or.inr ⟨rfl, zq_no (zq_out_gt 19 rfl (by omega) c59)⟩) (zq_ft_6 c49 (zq_b_t hp32 c35))⟩) dX0_fits_67
              · refine lv_iconst (v := 1) hx hb dX0_fits_62 (by decide) ?_
                refine lv_goto (tgt := 67) hx hb dX0_fits_63 (by decide) ?_
                exact hQ _ _ 1 u _ _ rfl hI (⟨rfl, zq_b_i (p := zq_plc y) (Or.inl ⟨rfl, zq_in_of 19 rfl (by omega) c53 c59⟩) (zq_ft_6 c49 (zq_b_t hp32 c35))⟩) dX0_fits_67
        · refine lv_iconst (v := 1) hx hb dX0_fits_44 (by decide) ?_
          exact hQ _ _ 1 u _ _ rfl hI (⟨rfl, Or.inl ⟨rfl, zq_ft_0 c41 (zq_b_t hp32 c35)⟩⟩) dX0_fits_45
      · refine lv_iconst (v := 0) hx hb dX0_fits_38 (by decide) ?_
        exact hQ _ _ 0 u _ _ rfl hI (⟨rfl, Or.inr ⟨rfl, fun h => zq_b_f hp32 c35 (zq_ok_x h c3 c11)⟩⟩) dX0_fits_39
    · refine lv_iload_n hx hb dX0_fits_14 rfl (lv_at hl 2 rfl) ?_
      refine lv_if_lt (tgt := 28) hx hb dX0_fits_15 (by decide) (fun c15 => ?_) (fun c15 => ?_)
      · refine lv_iconst (v := 0) hx hb dX0_fits_28 (by decide) ?_
        exact hQ _ _ 0 u _ _ rfl hI (⟨rfl, zq_b_i (p := zq_plc x) (Or.inr ⟨rfl, zq_no (zq_out_neg 20 (by omega) c15)⟩) (zq_ft_7 c11)⟩) dX0_fits_29
      · refine lv_iload_n hx hb dX0_fits_18 rfl (lv_at hl 2 rfl) ?_
        refine lv_bipush (v := 19) hx hb dX0_fits_19 (by decide) ?_
        refine lv_icmp_gt (tgt := 28) hx hb dX0_fits_21 (by decide) (fun c21 => ?_) (fun c21 => ?_)
        · refine lv_iconst (v := 0) hx hb dX0_fits_28 (by decide) ?_
          exact hQ _ _ 0 u _ _ rfl hI (⟨rfl, zq_b_i (p := zq_plc x) (Or.inr ⟨rfl, zq_no (zq_out_gt 19 rfl (by omega) c21)⟩) (zq_ft_7 c11)⟩) dX0_fits_29
        · refine lv_iconst (v := 1) hx hb dX0_fits_24 (by decide) ?_
          refine lv_goto (tgt := 29) hx hb dX0_fits_25 (by decide) ?_
          exact hQ _ _ 1 u _ _ rfl hI (⟨rfl, zq_b_i (p := zq_plc x) (Or.inl ⟨rfl, zq_in_of 19 rfl (by omega) c15 c21⟩) (zq_ft_7 c11)⟩) dX0_fits_29
  · refine lv_iconst (v := 1) hx hb dX0_fits_6 (by decide) ?_
    exact hQ _ _ 1 u _ _ rfl hI (⟨rfl, Or.inl ⟨rfl, Or.inl c3⟩⟩) dX0_fits_7
set_option maxHeartbeats 4000000 in
set_option maxRecDepth 100000 in
/-- store: one write of a step -/
theorem m0_store (l : Launch) (a : Nat → Nat) (ca : Nat → ClassId) (u : zq_St) (T pl : Nat) (x1 v : Int32) (h1 : x1 = nI pl) (hT : u 8 0 = nI T) (hT2 : T < 201) (hp : pl < 14) (hs : vp_nar .short (u 15 pl) = u 15 pl) : zq_Cv l yX0_store cX0_store 3 0 (a 0) [.int x1, .int v] (zq_t0 ca) (zq_w0 a ca) u (fun u' => u' = zq_sto u T pl v) := by
  refine zq_startv (by decide) (Nat.le_of_ble_eq_true rfl) ?_
  intro p e s m args below meth c D A Q ls F hQ hI hl
  have hx := F.1
  have hb := F.2.1
  have hl : lv_has ls 3 [(0, .ref (a 0)), (1, .int x1), (2, .int v)] := hl
  subst h1
  refine lv_aload_n hx hb dX0_store_0 rfl (lv_at hl 0 rfl) ?_
  refine zq_g0 F hI 9 (.ref (a 9)) rfl (by decide) q81 dX0_store_1 ?_
  refine lv_aload_n hx hb dX0_store_4 rfl (lv_at hl 0 rfl) ?_
  refine zq_g0 F hI 8 (.int (u 8 0)) rfl (by decide) q80 dX0_store_5 ?_
  refine zq_top (z := (nI T)) hT ?_
  refine lv_iload_n hx hb dX0_store_8 rfl (lv_at hl 1 rfl) ?_
  refine lv_i2b (v := (nI pl)) hx hb dX0_store_9 (zq_b8 pl (by omega)) ?_
  refine zq_bst (ws' := zq_w0 a ca (va_up u 9 (upd (u 9) T (nI pl)))) hx hb hI 6 5 (n := 201) (f := (u 9)) rfl rfl T rfl (by omega) (by decide) (zq_nb (by omega)) rfl dX0_store_10 (fun H locs hI => ?_)
  refine lv_aload_n hx hb dX0_store_11 rfl (lv_at hl 0 rfl) ?_
  refine zq_g0 F hI 10 (.ref (a 10)) rfl (by decide) q82 dX0_store_12 ?_
  refine lv_aload_n hx hb dX0_store_15 rfl (lv_at hl 0 rfl) ?_
  refine zq_g0 F hI 8 (.int (u 8 0)) rfl (by decide) q80 dX0_store_16 ?_
  refine zq_top (z := (nI T)) hT ?_
  refine lv_aload_n hx hb dX0_store_19 rfl (lv_at hl 0 rfl) ?_
  refine zq_g0 F hI 6 (.ref (a 6)) rfl (by decide) q78 dX0_store_20 ?_
  refine lv_iload_n hx hb dX0_store_23 rfl (lv_at hl 1 rfl) ?_
  refine zq_ild hx hb hI 5 4 (n := 14) (f := (u 6)) rfl rfl pl rfl (by omega) (by decide) dX0_store_24 ?_
  refine zq_ist (ws' := zq_w0 a ca (va_up (va_up u 9 (upd (u 9) T (nI pl))) 10 (upd (u 10) T ((u 6) pl)))) hx hb hI 7 6 (n := 201) (f := (u 10)) rfl rfl T rfl (by omega) (by decide) rfl dX0_store_25 (fun H locs hI => ?_)
  refine lv_aload_n hx hb dX0_store_26 rfl (lv_at hl 0 rfl) ?_
  refine zq_g0 F hI 11 (.ref (a 11)) rfl (by decide) q83 dX0_store_27 ?_
  refine lv_aload_n hx hb dX0_store_30 rfl (lv_at hl 0 rfl) ?_
  refine zq_g0 F hI 8 (.int (u 8 0)) rfl (by decide) q80 dX0_store_31 ?_
  refine zq_top (z := (nI T)) hT ?_
  refine lv_iload_n hx hb dX0_store_34 rfl (lv_at hl 2 rfl) ?_
  refine zq_ist (ws' := zq_w0 a ca (va_up (va_up (va_up u 9 (upd (u 9) T (nI pl))) 10 (upd (u 10) T ((u 6) pl))) 11 (upd (u 11) T v))) hx hb hI 8 7 (n := 201) (f := (u 11)) rfl rfl T rfl (by omega) (by decide) rfl dX0_store_35 (fun H locs hI => ?_)
  refine lv_aload_n hx hb dX0_store_36 rfl (lv_at hl 0 rfl) ?_
  refine zq_g0 F hI 12 (.ref (a 12)) rfl (by decide) q84 dX0_store_37 ?_
  refine lv_aload_n hx hb dX0_store_40 rfl (lv_at hl 0 rfl) ?_
  refine zq_g0 F hI 8 (.int (u 8 0)) rfl (by decide) q80 dX0_store_41 ?_
  refine zq_top (z := (nI T)) hT ?_
  refine lv_aload_n hx hb dX0_store_44 rfl (lv_at hl 0 rfl) ?_
  refine zq_g0 F hI 15 (.ref (a 15)) rfl (by decide) q87 dX0_store_45 ?_
  refine lv_iload_n hx hb dX0_store_48 rfl (lv_at hl 1 rfl) ?_
  refine zq_sld hx hb hI 12 11 (n := 14) (f := (u 15)) rfl rfl pl rfl (by omega) (by decide) dX0_store_49 ?_
  refine zq_sst (ws' := zq_w0 a ca (va_up (va_up (va_up (va_up u 9 (upd (u 9) T (nI pl))) 10 (upd (u 10) T ((u 6) pl))) 11 (upd (u 11) T v)) 12 (upd (u 12) T ((u 15) pl)))) hx hb hI 9 8 (n := 201) (f := (u 12)) rfl rfl T rfl (by omega) (by decide) hs rfl dX0_store_50 (fun H locs hI => ?_)
  refine lv_aload_n hx hb dX0_store_51 rfl (lv_at hl 0 rfl) ?_
  refine zq_g0 F hI 15 (.ref (a 15)) rfl (by decide) q87 dX0_store_52 ?_
  refine lv_iload_n hx hb dX0_store_55 rfl (lv_at hl 1 rfl) ?_
  refine lv_aload_n hx hb dX0_store_56 rfl (lv_at hl 0 rfl) ?_
  refine zq_g0 F hI 8 (.int (u 8 0)) rfl (by decide) q80 dX0_store_57 ?_
  refine zq_top (z := (nI T)) hT ?_
  refine lv_i2s (v := (nI T)) hx hb dX0_store_60 (zq_s16 T (by omega)) ?_
  refine zq_sst (ws' := zq_w0 a ca (va_up (va_up (va_up (va_up (va_up u 9 (upd (u 9) T (nI pl))) 10 (upd (u 10) T ((u 6) pl))) 11 (upd (u 11) T v)) 12 (upd (u 12) T ((u 15) pl))) 15 (upd (u 15) pl (nI T)))) hx hb hI 12 11 (n := 14) (f := (u 15)) rfl rfl pl rfl (by omega) (by decide) (zq_ns (by omega)) rfl dX0_store_61 (fun H locs hI => ?_)
  refine lv_aload_n hx hb dX0_store_62 rfl (lv_at hl 0 rfl) ?_
  refine zq_g0 F hI 6 (.ref (a 6)) rfl (by decide) q78 dX0_store_63 ?_
  refine lv_iload_n hx hb dX0_store_66 rfl (lv_at hl 1 rfl) ?_
  refine lv_iload_n hx hb dX0_store_67 rfl (lv_at hl 2 rfl) ?_
  refine zq_ist (ws' := zq_w0 a ca (va_up (va_up (va_up (va_up (va_up (va_up u 9 (upd (u 9) T (nI pl))) 10 (upd (u 10) T ((u 6) pl))) 11 (upd (u 11) T v)) 12 (upd (u 12) T ((u 15) pl))) 15 (upd (u 15) pl (nI T))) 6 (upd (u 6) pl v))) hx hb hI 5 4 (n := 14) (f := (u 6)) rfl rfl pl rfl (by omega) (by decide) rfl dX0_store_68 (fun H locs hI => ?_)
  exact hQ _ _ (va_up (va_up (va_up (va_up (va_up (va_up u 9 (upd (u 9) T (nI pl))) 10 (upd (u 10) T ((u 6) pl))) 11 (upd (u 11) T v)) 12 (upd (u 12) T ((u 15) pl))) 15 (upd (u 15) pl (nI T))) 6 (upd (u 6) pl v)) _ _ hI rfl dX0_store_69
set_option maxHeartbeats 4000000 in
set_option maxRecDepth 100000 in
/-- compute -/
theorem m0_compute (l : Launch) (a : Nat → Nat) (ca : Nat → ClassId) (u : zq_St) (T pl : Nat) (o x2 v z : Int32) (h1 : x2 = nI pl) (hT : u 8 0 = nI T) (hT2 : T < 201) (hp : pl < 14) (hs : vp_nar .short (u 15 pl) = u 15 pl) : zq_Cv l yX0_compute cX0_compute 6 1 (a 0) [.int o, .int x2, .int v, .int z] (zq_t0 ca) (zq_w0 a ca) u (fun u' => u' = zq_sto u T pl (if o = 1 then v + z else if o = 2 then v - z else v * z)) := by
  refine zq_startv (by decide) (Nat.le_of_ble_eq_true rfl) ?_
  intro p e s m args below meth c D A Q ls F hQ hI hl
  have hx := F.1
  have hb := F.2.1
  have hl : lv_has ls 6 [(0, .ref (a 0)), (1, .int o), (2, .int x2), (3, .int v), (4, .int z)] := hl
  refine lv_iload_n hx hb dX0_compute_0 rfl (lv_at hl 1 rfl) ?_
  refine lv_iconst (v := 1) hx hb dX0_compute_1 (by decide) ?_
  refine lv_icmp_ne (tgt := 12) hx hb dX0_compute_2 (by decide) (fun c2 => ?_) (fun c2 => ?_)
  · refine lv_iload_n hx hb dX0_compute_12 rfl (lv_at hl 1 rfl) ?_
    refine lv_iconst (v := 2) hx hb dX0_compute_13 (by decide) ?_
    refine lv_icmp_ne (tgt := 24) hx hb dX0_compute_14 (by decide) (fun c14 => ?_) (fun c14 => ?_)
    · refine lv_iload_n hx hb dX0_compute_24 rfl (lv_at hl 3 rfl) ?_
      refine lv_iload hx hb dX0_compute_25 (lv_at hl 4 rfl) ?_
      refine lv_imul hx hb dX0_compute_27 ?_
      refine lv_istore (lv' := [(5, .int (v * z)), (0, .ref (a 0)), (1, .int o), (2, .int x2), (3, .int v), (4, .int z)]) hx hb dX0_compute_28 hl (by decide) rfl (fun ls hl => ?_)
      refine lv_aload_n hx hb dX0_compute_30 rfl (lv_at hl 1 rfl) ?_
      refine lv_iload_n hx hb dX0_compute_31 rfl (lv_at hl 3 rfl) ?_
      refine lv_iload hx hb dX0_compute_32 (lv_at hl 0 rfl) ?_
      refine zq_c0v (rest := []) F hI (m0_store l a ca u T pl x2 (v * z) h1 hT hT2 hp hs) q44 q46 qs3 q22 q47 rfl hdX0_store (by decide) hl.1 rfl (Nat.le_of_ble_eq_true rfl) dX0_compute_34 (by decide) (fun u34 H locs hp34 hI => ?_)
      exact hQ _ _ u34 _ _ hI (by rw [hp34, if_neg c2, if_neg c14]) dX0_compute_37
    · refine lv_iload_n hx hb dX0_compute_17 rfl (lv_at hl 3 rfl) ?_
      refine lv_iload hx hb dX0_compute_18 (lv_at hl 4 rfl) ?_
      refine lv_isub hx hb dX0_compute_20 ?_
      refine lv_goto (tgt := 28) hx hb dX0_compute_21 (by decide) ?_
      refine lv_istore (lv' := [(5, .int (v - z)), (0, .ref (a 0)), (1, .int o), (2, .int x2), (3, .int v), (4, .int z)]) hx hb dX0_compute_28 hl (by decide) rfl (fun ls hl => ?_)
      refine lv_aload_n hx hb dX0_compute_30 rfl (lv_at hl 1 rfl) ?_
      refine lv_iload_n hx hb dX0_compute_31 rfl (lv_at hl 3 rfl) ?_
      refine lv_iload hx hb dX0_compute_32 (lv_at hl 0 rfl) ?_
      refine zq_c0v (rest := []) F hI (m0_store l a ca u T pl x2 (v - z) h1 hT hT2 hp hs) q44 q46 qs3 q22 q47 rfl hdX0_store (by decide) hl.1 rfl (Nat.le_of_ble_eq_true rfl) dX0_compute_34 (by decide) (fun u34 H locs hp34 hI => ?_)
      exact hQ _ _ u34 _ _ hI (by rw [hp34, if_neg c2, if_pos c14]) dX0_compute_37
  · refine lv_iload_n hx hb dX0_compute_5 rfl (lv_at hl 3 rfl) ?_
    refine lv_iload hx hb dX0_compute_6 (lv_at hl 4 rfl) ?_
    refine lv_iadd hx hb dX0_compute_8 ?_
    refine lv_goto (tgt := 28) hx hb dX0_compute_9 (by decide) ?_
    refine lv_istore (lv' := [(5, .int (v + z)), (0, .ref (a 0)), (1, .int o), (2, .int x2), (3, .int v), (4, .int z)]) hx hb dX0_compute_28 hl (by decide) rfl (fun ls hl => ?_)
    refine lv_aload_n hx hb dX0_compute_30 rfl (lv_at hl 1 rfl) ?_
    refine lv_iload_n hx hb dX0_compute_31 rfl (lv_at hl 3 rfl) ?_
    refine lv_iload hx hb dX0_compute_32 (lv_at hl 0 rfl) ?_
    refine zq_c0v (rest := []) F hI (m0_store l a ca u T pl x2 (v + z) h1 hT hT2 hp hs) q44 q46 qs3 q22 q47 rfl hdX0_store (by decide) hl.1 rfl (Nat.le_of_ble_eq_true rfl) dX0_compute_34 (by decide) (fun u34 H locs hp34 hI => ?_)
    exact hQ _ _ u34 _ _ hI (by rw [hp34, if_pos c2]) dX0_compute_37
end
section
/-! TraceDebugger: perform, noteTime -/
set_option maxRecDepth 100000
set_option maxHeartbeats 4000000 in
set_option maxRecDepth 100000 in
/-- perform: one step of the machine -/
theorem m0_perform (l : Launch) (a : Nat → Nat) (ca : Nat → ClassId) (u : zq_St) (P : zq_St) (n i T : Nat) (x1 : Int32) (h1 : x1 = nI i) (hok : zq_okP P n) (hA : zq_A P u) (hi : i < n) (hT : u 8 0 = nI T) (hT2 : T < 201) (hs : ∀ p, p < 14 → vp_nar .short (u 15 p) = u 15 p) : zq_Ci l yX0_perform cX0_perform 5 .int 2 (a 0) [.int x1] (zq_t0 ca) (zq_w0 a ca) u (fun r u' => r = nI (zq_nx P (u 6) i) ∧ u' = zq_pf u T (zq_wp P (u 6) i) (zq_wv P (u 6) i)) := by
  refine zq_starti (by decide) (Nat.le_of_ble_eq_true rfl) ?_
  intro p e s m args below meth c D A Q ls F hQ hI hl
  have hx := F.1
  have hb := F.2.1
  have hl : lv_has ls 5 [(0, .ref (a 0)), (1, .int x1)] := hl
  subst h1
  have hk := hok.2.2 i hi
  have h20 := hok.2.1
  refine lv_aload_n hx hb dX0_perform_0 rfl (lv_at hl 0 rfl) ?_
  refine zq_g0 F hI 1 (.ref (a 1)) rfl (by decide) q73 dX0_perform_1 ?_
  refine lv_iload_n hx hb dX0_perform_4 rfl (lv_at hl 1 rfl) ?_
  refine zq_bld hx hb hI 1 0 (n := 20) (f := (u 1)) rfl rfl i rfl (by omega) (by decide) dX0_perform_5 ?_
  refine zq_top (z := (P 1 i)) (by rw [hA.2.1]) ?_
  refine lv_istore_n (lv' := [(2, .int (P 1 i)), (0, .ref (a 0)), (1, .int (nI i))]) hx hb dX0_perform_6 rfl hl (by decide) rfl (fun ls hl => ?_)
  refine lv_aload_n hx hb dX0_perform_7 rfl (lv_at hl 1 rfl) ?_
  refine zq_g0 F hI 2 (.ref (a 2)) rfl (by decide) q74 dX0_perform_8 ?_
  refine lv_iload_n hx hb dX0_perform_11 rfl (lv_at hl 2 rfl) ?_
  refine zq_ild hx hb hI 2 1 (n := 20) (f := (u 2)) rfl rfl i rfl (by omega) (by decide) dX0_perform_12 ?_
  refine zq_top (z := (P 2 i)) (by rw [hA.2.2.1]) ?_
  refine lv_istore_n (lv' := [(3, .int (P 2 i)), (2, .int (P 1 i)), (0, .ref (a 0)), (1, .int (nI i))]) hx hb dX0_perform_13 rfl hl (by decide) rfl (fun ls hl => ?_)
  refine lv_aload_n hx hb dX0_perform_14 rfl (lv_at hl 2 rfl) ?_
  refine zq_g0 F hI 3 (.ref (a 3)) rfl (by decide) q75 dX0_perform_15 ?_
  refine lv_iload_n hx hb dX0_perform_18 rfl (lv_at hl 3 rfl) ?_
  refine zq_ild hx hb hI 3 2 (n := 20) (f := (u 3)) rfl rfl i rfl (by omega) (by decide) dX0_perform_19 ?_
  refine zq_top (z := (P 3 i)) (by rw [hA.2.2.2.1]) ?_
  refine lv_istore (lv' := [(4, .int (P 3 i)), (3, .int (P 2 i)), (2, .int (P 1 i)), (0, .ref (a 0)), (1, .int (nI i))]) hx hb dX0_perform_20 hl (by decide) rfl (fun ls hl => ?_)
  refine lv_iload_n hx hb dX0_perform_22 rfl (lv_at hl 2 rfl) ?_
  refine lv_bipush (v := 8) hx hb dX0_perform_23 (by decide) ?_
  refine lv_icmp_ne (tgt := 30) hx hb dX0_perform_25 (by decide) (fun c25 => ?_) (fun c25 => ?_)
  · refine lv_iload_n hx hb dX0_perform_30 rfl (lv_at hl 2 rfl) ?_
    refine lv_bipush (v := 7) hx hb dX0_perform_31 (by decide) ?_
    refine lv_icmp_ne (tgt := 38) hx hb dX0_perform_33 (by decide) (fun c33 => ?_) (fun c33 => ?_)
    · have hX := zq_var_e (zq_ok_x hk c25 c33)
      refine lv_iload_n hx hb dX0_perform_38 rfl (lv_at hl 2 rfl) ?_
      refine lv_bipush (v := 6) hx hb dX0_perform_39 (by decide) ?_
      refine lv_icmp_ne (tgt := 62) hx hb dX0_perform_41 (by decide) (fun c41 => ?_) (fun c41 => ?_)
      · refine lv_iload_n hx hb dX0_perform_62 rfl (lv_at hl 2 rfl) ?_
        refine lv_if_ne (tgt := 76) hx hb dX0_perform_63 (by decide) (fun c63 => ?_) (fun c63 => ?_)
        · have hY := zq_var_e (zq_ok_y hk c25 c33 c41 c63)
          refine lv_iload_n hx hb dX0_perform_76 rfl (lv_at hl 2 rfl) ?_
          refine lv_iconst (v := 4) hx hb dX0_perform_77 (by decide) ?_
          refine lv_icmp_ne (tgt := 107) hx hb dX0_perform_78 (by decide) (fun c78 => ?_) (fun c78 => ?_)
          · refine lv_iload_n hx hb dX0_perform_107 rfl (lv_at hl 2 rfl) ?_
            refine lv_iconst (v := 5) hx hb dX0_perform_108 (by decide) ?_
            refine lv_icmp_ne (tgt := 138) hx hb dX0_perform_109 (by decide) (fun c109 => ?_) (fun c109 => ?_)
            · have hz := zq_ok_z hk c25 c33 c41 c63 c78 c109
              have hZ := zq_var_e hz.1
              refine lv_aload_n hx hb dX0_perform_138 rfl (lv_at hl 3 rfl) ?_
              refine lv_iload_n hx hb dX0_perform_139 rfl (lv_at hl 2 rfl) ?_
              refine lv_iload_n hx hb dX0_perform_140 rfl (lv_at hl 1 rfl) ?_
              refine lv_aload_n hx hb dX0_perform_141 rfl (lv_at hl 3 rfl) ?_
              refine zq_g0 F hI 6 (.ref (a 6)) rfl (by decide) q78 dX0_perform_142 ?_
              refine lv_iload hx hb dX0_perform_145 (lv_at hl 0 rfl) ?_
              refine zq_ild hx hb hI 5 4 (n := 14) (f := (u 6)) rfl rfl ((P 3 i).toNatClampNeg) hY.1 (by omega) (by decide) dX0_perform_147 ?_
              refine lv_aload_n hx hb dX0_perform_148 rfl (lv_at hl 3 rfl) ?_
              refine zq_g0 F hI 6 (.ref (a 6)) rfl (by decide) q78 dX0_perform_149 ?_
              refine lv_aload_n hx hb dX0_perform_152 rfl (lv_at hl 3 rfl) ?_
              refine zq_g0 F hI 4 (.ref (a 4)) rfl (by decide) q76 dX0_perform_153 ?_
              refine lv_iload_n hx hb dX0_perform_156 rfl (lv_at hl 4 rfl) ?_
              refine zq_ild hx hb hI 4 3 (n := 20) (f := (u 4)) rfl rfl i rfl (by omega) (by decide) dX0_perform_157 ?_
              refine zq_top (z := (P 4 i)) (by rw [hA.2.2.2.2.1]) ?_
              refine zq_ild hx hb hI 5 4 (n := 14) (f := (u 6)) rfl rfl ((P 4 i).toNatClampNeg) hZ.1 (by omega) (by decide) dX0_perform_158 ?_
              refine zq_c0v (rest := []) F hI (m0_compute l a ca u T (P 2 i).toNatClampNeg (P 1 i) (P 2 i) ((u 6) ((P 3 i).toNatClampNeg)) ((u 6) ((P 4 i).toNatClampNeg)) hX.1 hT hT2 (by omega) (hs _ (by omega))) q48 q50 qs4 q22 q51 rfl hdX0_compute (by decide) hl.1 rfl (Nat.le_of_ble_eq_true rfl) dX0_perform_159 (by decide) (fun u159 H locs hp159 hI => ?_)
              refine lv_iload_n hx hb dX0_perform_162 rfl (lv_at hl 4 rfl) ?_
              refine lv_iconst (v := 1) hx hb dX0_perform_163 (by decide) ?_
              refine lv_iadd hx hb dX0_perform_164 ?_
              refine zq_top (z := (nI (i + 1))) (nI_1 i) ?_
              exact hQ _ _ (nI (i + 1)) u159 _ _ rfl hI (⟨by rw [(zq_k123 hz.2).1], by rw [hp159]; exact zq_pf_y (by omega) (zq_k123 hz.2).2.1 (zq_k123 hz.2).2.2⟩) dX0_perform_165
            · refine lv_aload_n hx hb dX0_perform_112 rfl (lv_at hl 3 rfl) ?_
              refine lv_bipush (v := 6) hx hb dX0_perform_113 (by decide) ?_
              refine lv_aload_n hx hb dX0_perform_115 rfl (lv_at hl 3 rfl) ?_
              refine zq_g0 F hI 6 (.ref (a 6)) rfl (by decide) q78 dX0_perform_116 ?_
              have h7 := zq_m7_lt (u 6 (P 3 i).toNatClampNeg)
              refine lv_iload hx hb dX0_perform_119 (lv_at hl 0 rfl) ?_
              refine zq_ild hx hb hI 5 4 (n := 14) (f := (u 6)) rfl rfl ((P 3 i).toNatClampNeg) hY.1 (by omega) (by decide) dX0_perform_121 ?_
              refine lv_bipush (v := 7) hx hb dX0_perform_122 (by decide) ?_
              refine lv_iand hx hb dX0_perform_124 ?_
              refine zq_top (z := (nI (zq_m7 (u 6 (P 3 i).toNatClampNeg)))) (zq_m7_eq _) ?_
              refine lv_iadd hx hb dX0_perform_125 ?_
              refine zq_top (z := (nI (6 + zq_m7 (u 6 (P 3 i).toNatClampNeg)))) (nI_add 6 _) ?_
              refine lv_aload_n hx hb dX0_perform_126 rfl (lv_at hl 3 rfl) ?_
              refine zq_g0 F hI 6 (.ref (a 6)) rfl (by decide) q78 dX0_perform_127 ?_
              refine lv_iload_n hx hb dX0_perform_130 rfl (lv_at hl 1 rfl) ?_
              refine zq_ild hx hb hI 5 4 (n := 14) (f := (u 6)) rfl rfl ((P 2 i).toNatClampNeg) hX.1 (by omega) (by decide) dX0_perform_131 ?_
              refine zq_c0v (rest := []) F hI (m0_store l a ca u T (6 + zq_m7 (u 6 (P 3 i).toNatClampNeg)) _ ((u 6) ((P 2 i).toNatClampNeg)) rfl hT hT2 (by omega) (hs _ (by omega))) q44 q46 qs3 q22 q47 rfl hdX0_store (by decide) hl.1 rfl (Nat.le_of_ble_eq_true rfl) dX0_perform_132 (by decide) (fun u132 H locs hp132 hI => ?_)
              refine lv_goto (tgt := 162) hx hb dX0_perform_135 (by decide) ?_
              refine lv_iload_n hx hb dX0_perform_162 rfl (lv_at hl 4 rfl) ?_
              refine lv_iconst (v := 1) hx hb dX0_perform_163 (by decide) ?_
              refine lv_iadd hx hb dX0_perform_164 ?_
              refine zq_top (z := (nI (i + 1))) (nI_1 i) ?_
              exact hQ _ _ (nI (i + 1)) u132 _ _ rfl hI (⟨by rw [(zq_k5 c109).1], by rw [hp132]; exact zq_pf_y (by omega) (zq_k5 c109).2.1 (zq_k5 c109).2.2⟩) dX0_perform_165
          · refine lv_aload_n hx hb dX0_perform_81 rfl (lv_at hl 3 rfl) ?_
            refine lv_iload_n hx hb dX0_perform_82 rfl (lv_at hl 1 rfl) ?_
            refine lv_aload_n hx hb dX0_perform_83 rfl (lv_at hl 3 rfl) ?_
            refine zq_g0 F hI 6 (.ref (a 6)) rfl (by decide) q78 dX0_perform_84 ?_
            have h7 := zq_m7_lt (u 6 (P 3 i).toNatClampNeg)
            refine lv_bipush (v := 6) hx hb dX0_perform_87 (by decide) ?_
            refine lv_aload_n hx hb dX0_perform_89 rfl (lv_at hl 3 rfl) ?_
            refine zq_g0 F hI 6 (.ref (a 6)) rfl (by decide) q78 dX0_perform_90 ?_
            refine lv_iload hx hb dX0_perform_93 (lv_at hl 0 rfl) ?_
            refine zq_ild hx hb hI 5 4 (n := 14) (f := (u 6)) rfl rfl ((P 3 i).toNatClampNeg) hY.1 (by omega) (by decide) dX0_perform_95 ?_
            refine lv_bipush (v := 7) hx hb dX0_perform_96 (by decide) ?_
            refine lv_iand hx hb dX0_perform_98 ?_
            refine zq_top (z := (nI (zq_m7 (u 6 (P 3 i).toNatClampNeg)))) (zq_m7_eq _) ?_
            refine lv_iadd hx hb dX0_perform_99 ?_
            refine zq_top (z := (nI (6 + zq_m7 (u 6 (P 3 i).toNatClampNeg)))) (nI_add 6 _) ?_
            refine zq_ild hx hb hI 5 4 (n := 14) (f := (u 6)) rfl rfl (6 + zq_m7 (u 6 (P 3 i).toNatClampNeg)) rfl (by omega) (by decide) dX0_perform_100 ?_
            refine zq_c0v (rest := []) F hI (m0_store l a ca u T (P 2 i).toNatClampNeg _ ((u 6) (6 + zq_m7 (u 6 (P 3 i).toNatClampNeg))) hX.1 hT hT2 (by omega) (hs _ (by omega))) q44 q46 qs3 q22 q47 rfl hdX0_store (by decide) hl.1 rfl (Nat.le_of_ble_eq_true rfl) dX0_perform_101 (by decide) (fun u101 H locs hp101 hI => ?_)
            refine lv_goto (tgt := 162) hx hb dX0_perform_104 (by decide) ?_
            refine lv_iload_n hx hb dX0_perform_162 rfl (lv_at hl 4 rfl) ?_
            refine lv_iconst (v := 1) hx hb dX0_perform_163 (by decide) ?_
            refine lv_iadd hx hb dX0_perform_164 ?_
            refine zq_top (z := (nI (i + 1))) (nI_1 i) ?_
            exact hQ _ _ (nI (i + 1)) u101 _ _ rfl hI (⟨by rw [(zq_k4 c78).1], by rw [hp101]; exact zq_pf_y (by omega) (zq_k4 c78).2.1 (zq_k4 c78).2.2⟩) dX0_perform_165
        · refine lv_aload_n hx hb dX0_perform_66 rfl (lv_at hl 3 rfl) ?_
          refine lv_iload_n hx hb dX0_perform_67 rfl (lv_at hl 1 rfl) ?_
          refine lv_iload hx hb dX0_perform_68 (lv_at hl 0 rfl) ?_
          refine zq_c0v (rest := []) F hI (m0_store l a ca u T (P 2 i).toNatClampNeg _ (P 3 i) hX.1 hT hT2 (by omega) (hs _ (by omega))) q44 q46 qs3 q22 q47 rfl hdX0_store (by decide) hl.1 rfl (Nat.le_of_ble_eq_true rfl) dX0_perform_70 (by decide) (fun u70 H locs hp70 hI => ?_)
          refine lv_goto (tgt := 162) hx hb dX0_perform_73 (by decide) ?_
          refine lv_iload_n hx hb dX0_perform_162 rfl (lv_at hl 4 rfl) ?_
          refine lv_iconst (v := 1) hx hb dX0_perform_163 (by decide) ?_
          refine lv_iadd hx hb dX0_perform_164 ?_
          refine zq_top (z := (nI (i + 1))) (nI_1 i) ?_
          exact hQ _ _ (nI (i + 1)) u70 _ _ rfl hI (⟨by rw [(zq_k0 c63).1], by rw [hp70]; exact zq_pf_y (by omega) (zq_k0 c63).2.1 (zq_k0 c63).2.2⟩) dX0_perform_165
      · refine lv_aload_n hx hb dX0_perform_44 rfl (lv_at hl 3 rfl) ?_
        refine zq_g0 F hI 6 (.ref (a 6)) rfl (by decide) q78 dX0_perform_45 ?_
        refine lv_iload_n hx hb dX0_perform_48 rfl (lv_at hl 1 rfl) ?_
        refine zq_ild hx hb hI 5 4 (n := 14) (f := (u 6)) rfl rfl ((P 2 i).toNatClampNeg) hX.1 (by omega) (by decide) dX0_perform_49 ?_
        refine lv_if_le (tgt := 58) hx hb dX0_perform_50 (by decide) (fun c50 => ?_) (fun c50 => ?_)
        · refine lv_iload_n hx hb dX0_perform_58 rfl (lv_at hl 4 rfl) ?_
          refine lv_iconst (v := 1) hx hb dX0_perform_59 (by decide) ?_
          refine lv_iadd hx hb dX0_perform_60 ?_
          refine zq_top (z := (nI (i + 1))) (nI_1 i) ?_
          exact hQ _ _ (nI (i + 1)) u _ _ rfl hI (⟨by rw [(zq_k6 c41).1, if_pos c50], zq_pf_n (zq_k6 c41).2⟩) dX0_perform_61
        · refine lv_iload hx hb dX0_perform_53 (lv_at hl 0 rfl) ?_
          refine lv_goto (tgt := 61) hx hb dX0_perform_55 (by decide) ?_
          exact hQ _ _ (P 3 i) u _ _ rfl hI (⟨by rw [(zq_k6 c41).1, if_neg c50]; exact (zq_plc_e (zq_ok_6 hk c41)).1, zq_pf_n (zq_k6 c41).2⟩) dX0_perform_61
    · refine lv_iload_n hx hb dX0_perform_36 rfl (lv_at hl 1 rfl) ?_
      exact hQ _ _ (P 2 i) u _ _ rfl hI (⟨by rw [(zq_k7 c33).1]; exact (zq_plc_e (zq_ok_7 hk c33)).1, zq_pf_n (zq_k7 c33).2⟩) dX0_perform_37
  · refine lv_iload_n hx hb dX0_perform_28 rfl (lv_at hl 4 rfl) ?_
    exact hQ _ _ (nI i) u _ _ rfl hI (⟨by rw [(zq_k8 c25).1], zq_pf_n (zq_k8 c25).2⟩) dX0_perform_29
set_option maxHeartbeats 4000000 in
set_option maxRecDepth 100000 in
/-- noteTime: the note of a time -/
theorem m0_noteTime (l : Launch) (a : Nat → Nat) (ca : Nat → ClassId) (u : zq_St) (t c1 : Nat) (x1 x2 : Int32) (h1 : x1 = nI t) (h2 : x2 = nI c1) (ht : t < 201) (hc : c1 < 21) (hs : vp_nar .short (u 16 c1) = u 16 c1) : zq_Cv l yX0_noteTime cX0_noteTime 5 0 (a 0) [.int x1, .int x2] (zq_t0 ca) (zq_w0 a ca) u (fun u' => u' = zq_not u t c1) := by
  refine zq_startv (by decide) (Nat.le_of_ble_eq_true rfl) ?_
  intro p e s m args below meth c D A Q ls F hQ hI hl
  have hx := F.1
  have hb := F.2.1
  have hl : lv_has ls 5 [(0, .ref (a 0)), (1, .int x1), (2, .int x2)] := hl
  subst h1
  subst h2
  refine lv_aload_n hx hb dX0_noteTime_0 rfl (lv_at hl 0 rfl) ?_
  refine zq_g0 F hI 13 (.ref (a 13)) rfl (by decide) q85 dX0_noteTime_1 ?_
  refine lv_iload_n hx hb dX0_noteTime_4 rfl (lv_at hl 1 rfl) ?_
  refine lv_iload_n hx hb dX0_noteTime_5 rfl (lv_at hl 2 rfl) ?_
  refine lv_i2b (v := (nI c1)) hx hb dX0_noteTime_6 (zq_b8 c1 (by omega)) ?_
  refine zq_bst (ws' := zq_w0 a ca (va_up u 13 (upd (u 13) t (nI c1)))) hx hb hI 10 9 (n := 201) (f := (u 13)) rfl rfl t rfl (by omega) (by decide) (zq_nb (by omega)) rfl dX0_noteTime_7 (fun H locs hI => ?_)
  refine lv_aload_n hx hb dX0_noteTime_8 rfl (lv_at hl 0 rfl) ?_
  refine zq_g0 F hI 14 (.ref (a 14)) rfl (by decide) q86 dX0_noteTime_9 ?_
  refine lv_iload_n hx hb dX0_noteTime_12 rfl (lv_at hl 1 rfl) ?_
  refine lv_aload_n hx hb dX0_noteTime_13 rfl (lv_at hl 0 rfl) ?_
  refine zq_g0 F hI 16 (.ref (a 16)) rfl (by decide) q88 dX0_noteTime_14 ?_
  refine lv_iload_n hx hb dX0_noteTime_17 rfl (lv_at hl 2 rfl) ?_
  refine zq_sld hx hb hI 13 12 (n := 21) (f := (u 16)) rfl rfl c1 rfl (by omega) (by decide) dX0_noteTime_18 ?_
  refine zq_sst (ws' := zq_w0 a ca (va_up (va_up u 13 (upd (u 13) t (nI c1))) 14 (upd (u 14) t ((u 16) c1)))) hx hb hI 11 10 (n := 201) (f := (u 14)) rfl rfl t rfl (by omega) (by decide) hs rfl dX0_noteTime_19 (fun H locs hI => ?_)
  refine lv_aload_n hx hb dX0_noteTime_20 rfl (lv_at hl 0 rfl) ?_
  refine zq_g0 F hI 16 (.ref (a 16)) rfl (by decide) q88 dX0_noteTime_21 ?_
  refine lv_iload_n hx hb dX0_noteTime_24 rfl (lv_at hl 2 rfl) ?_
  refine lv_iload_n hx hb dX0_noteTime_25 rfl (lv_at hl 1 rfl) ?_
  refine lv_i2s (v := (nI t)) hx hb dX0_noteTime_26 (zq_s16 t (by omega)) ?_
  refine zq_sst (ws' := zq_w0 a ca (va_up (va_up (va_up u 13 (upd (u 13) t (nI c1))) 14 (upd (u 14) t ((u 16) c1))) 16 (upd (u 16) c1 (nI t)))) hx hb hI 13 12 (n := 21) (f := (u 16)) rfl rfl c1 rfl (by omega) (by decide) (zq_ns (by omega)) rfl dX0_noteTime_27 (fun H locs hI => ?_)
  refine lv_iload_n hx hb dX0_noteTime_28 rfl (lv_at hl 1 rfl) ?_
  refine lv_bipush (v := (nI 50)) hx hb dX0_noteTime_29 (by decide) ?_
  refine lv_irem hx hb dX0_noteTime_31 (by decide) ?_
  refine zq_top (z := (nI (t % 50))) (pk_rem (by omega) (by omega) (by omega)) ?_
  refine lv_if_eq (tgt := 36) hx hb dX0_noteTime_32 (by decide) (fun c32 => ?_) (fun c32 => ?_)
  · have h50 : t % 50 = 0 := zq_nI0 (by omega) c32
    have loop : ∀ (k j : Nat), 14 < j + k → j ≤ 14 → ∀ (f : Nat → Int32), f = zq_sav (u 17) (u 6) (t / 50) j → ∀ (H : Heap) (locs : List Loc) (ls : Array Slot), zq_IW D (zq_t0 ca) A s (zq_w0 a ca (va_up (va_up (va_up (va_up u 13 (upd (u 13) t (nI c1))) 14 (upd (u 14) t ((u 16) c1))) 16 (upd (u 16) c1 (nI t))) 17 f)) H locs → lv_has ls 5 [(4, .int (nI j)), (3, .int (nI (t / 50))), (0, .ref (a 0)), (1, .int (nI t)), (2, .int (nI c1))] → W p l e (zq_rm 0) s m args below meth c H locs 0 0 Q (F0 m 44 ls []) := by
      intro k
      induction k with
      | zero =>
        intro j h1 h2
        exact absurd h1 (by omega)
      | succ k ih =>
        intro j hj1 hj2 f hf H locs ls hI hl
        refine lv_iload hx hb dX0_noteTime_44 (lv_at hl 0 rfl) ?_
        refine lv_bipush (v := (nI 14)) hx hb dX0_noteTime_46 (by decide) ?_
        refine lv_icmp_ge (tgt := 76) hx hb dX0_noteTime_48 (by decide) (fun c48 => ?_) (fun c48 => ?_)
        · have ej : j = 14 := by have := zq_le (by omega) (by omega) c48; omega
          exact hQ _ _ (va_up (va_up (va_up (va_up u 13 (upd (u 13) t (nI c1))) 14 (upd (u 14) t ((u 16) c1))) 16 (upd (u 16) c1 (nI t))) 17 f) _ _ hI (by subst ej; rw [hf]; unfold zq_not; rw [if_pos h50]; rfl) dX0_noteTime_76
        · have hj := zq_nle (by omega) (by omega) c48
          refine lv_aload_n hx hb dX0_noteTime_51 rfl (lv_at hl 2 rfl) ?_
          refine zq_g0 F hI 17 (.ref (a 17)) rfl (by decide) q89 dX0_noteTime_52 ?_
          refine lv_bipush (v := (nI 14)) hx hb dX0_noteTime_55 (by decide) ?_
          refine lv_iload_n hx hb dX0_noteTime_57 rfl (lv_at hl 1 rfl) ?_
          refine lv_imul hx hb dX0_noteTime_58 ?_
          refine zq_top (z := (nI (14 * (t / 50)))) (pk_mul 14 _) ?_
          refine lv_iload hx hb dX0_noteTime_59 (lv_at hl 0 rfl) ?_
          refine lv_iadd hx hb dX0_noteTime_61 ?_
          refine zq_top (z := (nI (14 * (t / 50) + j))) (nI_add _ _) ?_
          refine lv_aload_n hx hb dX0_noteTime_62 rfl (lv_at hl 2 rfl) ?_
          refine zq_g0 F hI 6 (.ref (a 6)) rfl (by decide) q78 dX0_noteTime_63 ?_
          refine lv_iload hx hb dX0_noteTime_66 (lv_at hl 0 rfl) ?_
          refine zq_ild hx hb hI 5 4 (n := 14) (f := (u 6)) rfl rfl j rfl (by omega) (by decide) dX0_noteTime_68 ?_
          refine zq_ist (ws' := zq_w0 a ca (va_up (va_up (va_up (va_up u 13 (upd (u 13) t (nI c1))) 14 (upd (u 14) t ((u 16) c1))) 16 (upd (u 16) c1 (nI t))) 17 (upd f (14 * (t / 50) + j) ((u 6) j)))) hx hb hI 14 13 (n := 70) (f := f) rfl rfl (14 * (t / 50) + j) rfl (by omega) (by decide) rfl dX0_noteTime_69 (fun H locs hI => ?_)
          refine lv_iinc (v := (nI (j + 1))) (lv' := [(4, .int (nI (j + 1))), (3, .int (nI (t / 50))), (0, .ref (a 0)), (1, .int (nI t)), (2, .int (nI c1))]) hx hb dX0_noteTime_70 hl (k := 0) rfl (zq_inc1 j) (by decide) rfl (fun ls hl => ?_)
          refine lv_goto (tgt := 44) hx hb dX0_noteTime_73 (by decide) ?_
          exact ih (j + 1) (by omega) (by omega) _ (by rw [hf]; exact zq_sav_s _ _ _ _) _ _ _ hI (lv_sub hl [0, 1, 2, 3, 4] rfl)
    refine lv_iload_n hx hb dX0_noteTime_36 rfl (lv_at hl 1 rfl) ?_
    refine lv_bipush (v := (nI 50)) hx hb dX0_noteTime_37 (by decide) ?_
    refine lv_idiv hx hb dX0_noteTime_39 (by decide) ?_
    refine zq_top (z := (nI (t / 50))) (pk_div (by omega) (by omega) (by omega)) ?_
    refine lv_istore_n (lv' := [(3, .int (nI (t / 50))), (0, .ref (a 0)), (1, .int (nI t)), (2, .int (nI c1))]) hx hb dX0_noteTime_40 rfl hl (by decide) rfl (fun ls hl => ?_)
    refine lv_iconst (v := (nI 0)) hx hb dX0_noteTime_41 (by decide) ?_
    refine lv_istore (lv' := [(4, .int (nI 0)), (3, .int (nI (t / 50))), (0, .ref (a 0)), (1, .int (nI t)), (2, .int (nI c1))]) hx hb dX0_noteTime_42 hl (by decide) rfl (fun ls hl => ?_)
    exact loop 15 0 (by omega) (by omega) (u 17) (zq_sav_0 _ _ _).symm _ _ _ hI (lv_sub hl [0, 1, 2, 3, 4] rfl)
  · exact hQ _ _ (va_up (va_up (va_up u 13 (upd (u 13) t (nI c1))) 14 (upd (u 14) t ((u 16) c1))) 16 (upd (u 16) c1 (nI t))) _ _ hI (by unfold zq_not; rw [if_neg (zq_nI0n c32)]; rfl) dX0_noteTime_35
end
section
/-! TraceDebugger: load, undo, redo, travel -/
set_option maxRecDepth 100000
set_option maxHeartbeats 4000000 in
set_option maxRecDepth 100000 in
/-- load: the state that was kept -/
theorem m0_load (l : Launch) (a : Nat → Nat) (ca : Nat → ClassId) (u : zq_St) (P : zq_St) (n T q k : Nat) (x1 : Int32) (h1 : x1 = nI k) (h0 : zq_I0 P n T q u) (hk : 50 * k ≤ T) : zq_Cv l yX0_load cX0_load 3 0 (a 0) [.int x1] (zq_t0 ca) (zq_w0 a ca) u (fun u' => zq_I0 P n T (50 * k) u') := by
  refine zq_startv (by decide) (Nat.le_of_ble_eq_true rfl) ?_
  intro p e s m args below meth c D A Q ls F hQ hI hl
  have hx := F.1
  have hb := F.2.1
  have hl : lv_has ls 3 [(0, .ref (a 0)), (1, .int x1)] := hl
  subst h1
  have hT := h0.2.1.1
  have h17 := h0.2.2.2.2.1.2.2.2.2
  have loop : ∀ (d j : Nat), 14 < j + d → j ≤ 14 → ∀ (f : Nat → Int32), (∀ i, i < j → f i = zq_M P (50 * k) i) → ∀ (H : Heap) (locs : List Loc) (ls : Array Slot), zq_IW D (zq_t0 ca) A s (zq_w0 a ca (va_up u 6 f)) H locs → lv_has ls 3 [(2, .int (nI j)), (0, .ref (a 0)), (1, .int (nI k))] → W p l e (zq_rm 0) s m args below meth c H locs 0 0 Q (F0 m 2 ls []) := by
    intro d
    induction d with
    | zero =>
      intro j g1 g2
      exact absurd g1 (by omega)
    | succ d ih =>
      intro j hj1 hj2 f hf H locs ls hI hl
      refine lv_iload_n hx hb dX0_load_2 rfl (lv_at hl 0 rfl) ?_
      refine lv_bipush (v := (nI 14)) hx hb dX0_load_3 (by decide) ?_
      refine lv_icmp_ge (tgt := 31) hx hb dX0_load_5 (by decide) (fun c5 => ?_) (fun c5 => ?_)
      · have ej : j = 14 := by have := zq_le (by omega) (by omega) c5; omega
        refine lv_aload_n hx hb dX0_load_31 rfl (lv_at hl 1 rfl) ?_
        refine lv_iload_n hx hb dX0_load_32 rfl (lv_at hl 2 rfl) ?_
        refine lv_bipush (v := (nI 50)) hx hb dX0_load_33 (by decide) ?_
        refine lv_imul hx hb dX0_load_35 ?_
        refine zq_top (z := (nI (50 * k))) (by rw [pk_mul, Nat.mul_comm]) ?_
        refine zq_p0 (ws' := zq_w0 a ca (va_up (va_up u 6 f) 7 (fun _ => (nI (50 * k))))) F hI 7 (by decide) q79 rfl (by decide +kernel) rfl dX0_load_36 (fun H locs hI => ?_)
        exact hQ _ _ (va_up (va_up u 6 f) 7 (fun _ => (nI (50 * k)))) _ _ hI (zq_I0_mv h0 hk (fun i hi => hf i (by omega)) rfl) dX0_load_39
      · have hj := zq_nle (by omega) (by omega) c5
        refine lv_aload_n hx hb dX0_load_8 rfl (lv_at hl 1 rfl) ?_
        refine zq_g0 F hI 6 (.ref (a 6)) rfl (by decide) q78 dX0_load_9 ?_
        refine lv_iload_n hx hb dX0_load_12 rfl (lv_at hl 0 rfl) ?_
        refine lv_aload_n hx hb dX0_load_13 rfl (lv_at hl 1 rfl) ?_
        refine zq_g0 F hI 17 (.ref (a 17)) rfl (by decide) q89 dX0_load_14 ?_
        refine lv_bipush (v := (nI 14)) hx hb dX0_load_17 (by decide) ?_
        refine lv_iload_n hx hb dX0_load_19 rfl (lv_at hl 2 rfl) ?_
        refine lv_imul hx hb dX0_load_20 ?_
        refine zq_top (z := (nI (14 * k))) (pk_mul 14 _) ?_
        refine lv_iload_n hx hb dX0_load_21 rfl (lv_at hl 0 rfl) ?_
        refine lv_iadd hx hb dX0_load_22 ?_
        refine zq_top (z := (nI (14 * k + j))) (nI_add _ _) ?_
        refine zq_ild hx hb hI 14 13 (n := 70) (f := (u 17)) rfl rfl (14 * k + j) rfl (by omega) (by decide) dX0_load_23 ?_
        refine zq_ist (ws' := zq_w0 a ca (va_up u 6 (upd f j ((u 17) (14 * k + j))))) hx hb hI 5 4 (n := 14) (f := f) rfl rfl j rfl (by omega) (by decide) rfl dX0_load_24 (fun H locs hI => ?_)
        refine lv_iinc (v := (nI (j + 1))) (lv' := [(2, .int (nI (j + 1))), (0, .ref (a 0)), (1, .int (nI k))]) hx hb dX0_load_25 hl (k := 0) rfl (zq_inc1 j) (by decide) rfl (fun ls hl => ?_)
        refine lv_goto (tgt := 2) hx hb dX0_load_28 (by decide) ?_
        exact ih (j + 1) (by omega) (by omega) _ (zq_up_lt hf (h17 k j hk (by omega))) _ _ _ hI (lv_sub hl [0, 1, 2] rfl)
  refine lv_iconst (v := (nI 0)) hx hb dX0_load_0 (by decide) ?_
  refine lv_istore_n (lv' := [(2, .int (nI 0)), (0, .ref (a 0)), (1, .int (nI k))]) hx hb dX0_load_1 rfl hl (by decide) rfl (fun ls hl => ?_)
  exact loop 15 0 (by omega) (by omega) (u 6) (fun i hi => absurd hi (by omega)) _ _ _ hI (lv_sub hl [0, 1, 2] rfl)
set_option maxHeartbeats 4000000 in
set_option maxRecDepth 100000 in
/-- undo: one step back -/
theorem m0_undo (l : Launch) (a : Nat → Nat) (ca : Nat → ClassId) (u : zq_St) (P : zq_St) (n T q : Nat) (h0 : zq_I0 P n T (q + 1) u) : zq_Cv l yX0_undo cX0_undo 1 0 (a 0) [] (zq_t0 ca) (zq_w0 a ca) u (fun u' => zq_I0 P n T q u') := by
  refine zq_startv (by decide) (Nat.le_of_ble_eq_true rfl) ?_
  intro p e s m args below meth c D A Q ls F hQ hI hl
  have hx := F.1
  have hb := F.2.1
  have hl : lv_has ls 1 [(0, .ref (a 0))] := hl
  have hT := h0.2.1.1
  have hq := h0.2.2.1
  refine lv_aload_n hx hb dX0_undo_0 rfl (lv_at hl 0 rfl) ?_
  refine zq_g0 F hI 9 (.ref (a 9)) rfl (by decide) q81 dX0_undo_1 ?_
  refine lv_aload_n hx hb dX0_undo_4 rfl (lv_at hl 0 rfl) ?_
  refine zq_g0 F hI 7 (.int (u 7 0)) rfl (by decide) q79 dX0_undo_5 ?_
  refine zq_top (z := (nI (q + 1))) h0.2.2.2.2.2.2.1 ?_
  refine zq_bld hx hb hI 6 5 (n := 201) (f := (u 9)) rfl rfl (q + 1) rfl (by omega) (by decide) dX0_undo_8 ?_
  refine zq_top (z := (zq_pj (zq_w P (q + 1)))) ((h0.2.2.2.2.1.2.2.1 (q + 1) (by omega) h0.2.2.1).1) ?_
  refine lv_if_lt (tgt := 35) hx hb dX0_undo_9 (by decide) (fun c9 => ?_) (fun c9 => ?_)
  · refine lv_aload_n hx hb dX0_undo_35 rfl (lv_at hl 0 rfl) ?_
    refine lv_dup hx hb dX0_undo_36 rfl ?_
    refine zq_g0 F hI 7 (.int (u 7 0)) rfl (by decide) q79 dX0_undo_37 ?_
    refine zq_top (z := (nI (q + 1))) h0.2.2.2.2.2.2.1 ?_
    refine lv_iconst (v := (nI 1)) hx hb dX0_undo_40 (by decide) ?_
    refine lv_isub hx hb dX0_undo_41 ?_
    refine zq_top (z := (nI q)) (nI_pred q) ?_
    refine zq_p0 (ws' := zq_w0 a ca (va_up u 7 (fun _ => (nI q)))) F hI 7 (by decide) q79 rfl (by decide +kernel) rfl dX0_undo_42 (fun H locs hI => ?_)
    exact hQ _ _ (va_up u 7 (fun _ => (nI q))) _ _ hI (zq_I0_m7 h0 (by omega) (zq_back0 h0 (zq_pj_neg c9)) rfl) dX0_undo_45
  · have hw := zq_pj_pos c9
    refine lv_aload_n hx hb dX0_undo_12 rfl (lv_at hl 0 rfl) ?_
    refine zq_g0 F hI 6 (.ref (a 6)) rfl (by decide) q78 dX0_undo_13 ?_
    refine lv_aload_n hx hb dX0_undo_16 rfl (lv_at hl 0 rfl) ?_
    refine zq_g0 F hI 9 (.ref (a 9)) rfl (by decide) q81 dX0_undo_17 ?_
    refine lv_aload_n hx hb dX0_undo_20 rfl (lv_at hl 0 rfl) ?_
    refine zq_g0 F hI 7 (.int (u 7 0)) rfl (by decide) q79 dX0_undo_21 ?_
    refine zq_top (z := (nI (q + 1))) h0.2.2.2.2.2.2.1 ?_
    refine zq_bld hx hb hI 6 5 (n := 201) (f := (u 9)) rfl rfl (q + 1) rfl (by omega) (by decide) dX0_undo_24 ?_
    refine zq_top (z := (nI (zq_w P (q + 1)))) ((h0.2.2.2.2.1.2.2.1 (q + 1) (by omega) h0.2.2.1).1.trans (zq_pj_lt hw)) ?_
    refine lv_aload_n hx hb dX0_undo_25 rfl (lv_at hl 0 rfl) ?_
    refine zq_g0 F hI 10 (.ref (a 10)) rfl (by decide) q82 dX0_undo_26 ?_
    refine lv_aload_n hx hb dX0_undo_29 rfl (lv_at hl 0 rfl) ?_
    refine zq_g0 F hI 7 (.int (u 7 0)) rfl (by decide) q79 dX0_undo_30 ?_
    refine zq_top (z := (nI (q + 1))) h0.2.2.2.2.2.2.1 ?_
    refine zq_ild hx hb hI 7 6 (n := 201) (f := (u 10)) rfl rfl (q + 1) rfl (by omega) (by decide) dX0_undo_33 ?_
    refine zq_ist (ws' := zq_w0 a ca (va_up u 6 (upd (u 6) (zq_w P (q + 1)) ((u 10) (q + 1))))) hx hb hI 5 4 (n := 14) (f := (u 6)) rfl rfl (zq_w P (q + 1)) rfl hw (by decide) rfl dX0_undo_34 (fun H locs hI => ?_)
    refine lv_aload_n hx hb dX0_undo_35 rfl (lv_at hl 0 rfl) ?_
    refine lv_dup hx hb dX0_undo_36 rfl ?_
    refine zq_g0 F hI 7 (.int (u 7 0)) rfl (by decide) q79 dX0_undo_37 ?_
    refine zq_top (z := (nI (q + 1))) h0.2.2.2.2.2.2.1 ?_
    refine lv_iconst (v := (nI 1)) hx hb dX0_undo_40 (by decide) ?_
    refine lv_isub hx hb dX0_undo_41 ?_
    refine zq_top (z := (nI q)) (nI_pred q) ?_
    refine zq_p0 (ws' := zq_w0 a ca (va_up (va_up u 6 (upd (u 6) (zq_w P (q + 1)) ((u 10) (q + 1)))) 7 (fun _ => (nI q)))) F hI 7 (by decide) q79 rfl (by decide +kernel) rfl dX0_undo_42 (fun H locs hI => ?_)
    exact hQ _ _ (va_up (va_up u 6 (upd (u 6) (zq_w P (q + 1)) ((u 10) (q + 1)))) 7 (fun _ => (nI q))) _ _ hI (zq_I0_mv h0 (by omega) (zq_back h0 hw) rfl) dX0_undo_45
set_option maxHeartbeats 4000000 in
set_option maxRecDepth 100000 in
/-- redo: one step on -/
theorem m0_redo (l : Launch) (a : Nat → Nat) (ca : Nat → ClassId) (u : zq_St) (P : zq_St) (n T q : Nat) (h0 : zq_I0 P n T q u) (hq : q + 1 ≤ T) : zq_Cv l yX0_redo cX0_redo 1 0 (a 0) [] (zq_t0 ca) (zq_w0 a ca) u (fun u' => zq_I0 P n T (q + 1) u') := by
  refine zq_startv (by decide) (Nat.le_of_ble_eq_true rfl) ?_
  intro p e s m args below meth c D A Q ls F hQ hI hl
  have hx := F.1
  have hb := F.2.1
  have hl : lv_has ls 1 [(0, .ref (a 0))] := hl
  have hT := h0.2.1.1
  refine lv_aload_n hx hb dX0_redo_0 rfl (lv_at hl 0 rfl) ?_
  refine lv_dup hx hb dX0_redo_1 rfl ?_
  refine zq_g0 F hI 7 (.int (u 7 0)) rfl (by decide) q79 dX0_redo_2 ?_
  refine zq_top (z := (nI q)) h0.2.2.2.2.2.2.1 ?_
  refine lv_iconst (v := (nI 1)) hx hb dX0_redo_5 (by decide) ?_
  refine lv_iadd hx hb dX0_redo_6 ?_
  refine zq_top (z := (nI (q + 1))) (nI_1 q) ?_
  refine zq_p0 (ws' := zq_w0 a ca (va_up u 7 (fun _ => (nI (q + 1))))) F hI 7 (by decide) q79 rfl (by decide +kernel) rfl dX0_redo_7 (fun H locs hI => ?_)
  refine lv_aload_n hx hb dX0_redo_10 rfl (lv_at hl 0 rfl) ?_
  refine zq_g0 F hI 9 (.ref (a 9)) rfl (by decide) q81 dX0_redo_11 ?_
  refine lv_aload_n hx hb dX0_redo_14 rfl (lv_at hl 0 rfl) ?_
  refine zq_g0 F hI 7 (.int (nI (q + 1))) rfl (by decide) q79 dX0_redo_15 ?_
  refine zq_bld hx hb hI 6 5 (n := 201) (f := (u 9)) rfl rfl (q + 1) rfl (by omega) (by decide) dX0_redo_18 ?_
  refine zq_top (z := (zq_pj (zq_w P (q + 1)))) ((h0.2.2.2.2.1.2.2.1 (q + 1) (by omega) hq).1) ?_
  refine lv_if_lt (tgt := 45) hx hb dX0_redo_19 (by decide) (fun c19 => ?_) (fun c19 => ?_)
  · exact hQ _ _ (va_up u 7 (fun _ => (nI (q + 1)))) _ _ hI (zq_I0_m7 h0 hq (zq_forth0 h0 (zq_pj_neg c19)) rfl) dX0_redo_45
  · have hw := zq_pj_pos c19
    refine lv_aload_n hx hb dX0_redo_22 rfl (lv_at hl 0 rfl) ?_
    refine zq_g0 F hI 6 (.ref (a 6)) rfl (by decide) q78 dX0_redo_23 ?_
    refine lv_aload_n hx hb dX0_redo_26 rfl (lv_at hl 0 rfl) ?_
    refine zq_g0 F hI 9 (.ref (a 9)) rfl (by decide) q81 dX0_redo_27 ?_
    refine lv_aload_n hx hb dX0_redo_30 rfl (lv_at hl 0 rfl) ?_
    refine zq_g0 F hI 7 (.int (nI (q + 1))) rfl (by decide) q79 dX0_redo_31 ?_
    refine zq_bld hx hb hI 6 5 (n := 201) (f := (u 9)) rfl rfl (q + 1) rfl (by omega) (by decide) dX0_redo_34 ?_
    refine zq_top (z := (nI (zq_w P (q + 1)))) ((h0.2.2.2.2.1.2.2.1 (q + 1) (by omega) hq).1.trans (zq_pj_lt hw)) ?_
    refine lv_aload_n hx hb dX0_redo_35 rfl (lv_at hl 0 rfl) ?_
    refine zq_g0 F hI 11 (.ref (a 11)) rfl (by decide) q83 dX0_redo_36 ?_
    refine lv_aload_n hx hb dX0_redo_39 rfl (lv_at hl 0 rfl) ?_
    refine zq_g0 F hI 7 (.int (nI (q + 1))) rfl (by decide) q79 dX0_redo_40 ?_
    refine zq_ild hx hb hI 8 7 (n := 201) (f := (u 11)) rfl rfl (q + 1) rfl (by omega) (by decide) dX0_redo_43 ?_
    refine zq_ist (ws' := zq_w0 a ca (va_up (va_up u 7 (fun _ => (nI (q + 1)))) 6 (upd (u 6) (zq_w P (q + 1)) ((u 11) (q + 1))))) hx hb hI 5 4 (n := 14) (f := (u 6)) rfl rfl (zq_w P (q + 1)) rfl hw (by decide) rfl dX0_redo_44 (fun H locs hI => ?_)
    exact hQ _ _ (va_up (va_up u 7 (fun _ => (nI (q + 1)))) 6 (upd (u 6) (zq_w P (q + 1)) ((u 11) (q + 1)))) _ _ hI (zq_I0_m76 h0 hq (zq_forth h0 hq hw) rfl) dX0_redo_45
set_option maxHeartbeats 4000000 in
set_option maxRecDepth 100000 in
/-- travel: to the time t -/
theorem m0_travel (l : Launch) (a : Nat → Nat) (ca : Nat → ClassId) (u : zq_St) (P : zq_St) (n T q t : Nat) (x1 : Int32) (h1 : x1 = nI t) (h0 : zq_I0 P n T q u) (ht : t ≤ T) : zq_Cv l yX0_travel cX0_travel 3 1 (a 0) [.int x1] (zq_t0 ca) (zq_w0 a ca) u (fun u' => zq_I0 P n T t u') := by
  refine zq_startv (by decide) (Nat.le_of_ble_eq_true rfl) ?_
  intro p e s m args below meth c D A Q ls F hQ hI hl
  have hx := F.1
  have hb := F.2.1
  have hl : lv_has ls 3 [(0, .ref (a 0)), (1, .int x1)] := hl
  subst h1
  have hT := h0.2.1.1
  have hq := h0.2.2.1
  have loop2 : ∀ (d q : Nat) (v : zq_St), q ≤ t → t < q + d → zq_I0 P n T q v → ∀ (H : Heap) (locs : List Loc) (ls : Array Slot), zq_IW D (zq_t0 ca) A s (zq_w0 a ca v) H locs → lv_has ls 3 [(0, .ref (a 0)), (1, .int (nI t))] → W p l e (zq_rm 1) s m args below meth c H locs 0 0 Q (F0 m 63 ls []) := by
    intro d
    induction d with
    | zero =>
      intro q v g1 g2
      exact absurd g2 (by omega)
    | succ d ih =>
      intro q v hq1 hq2 g0 H locs ls hI hl
      refine lv_aload_n hx hb dX0_travel_63 rfl (lv_at hl 0 rfl) ?_
      refine zq_g0 F hI 7 (.int (v 7 0)) rfl (by decide) q79 dX0_travel_64 ?_
      refine zq_top (z := (nI q)) g0.2.2.2.2.2.2.1 ?_
      refine lv_iload_n hx hb dX0_travel_67 rfl (lv_at hl 1 rfl) ?_
      refine lv_icmp_ge (tgt := 78) hx hb dX0_travel_68 (by decide) (fun c68 => ?_) (fun c68 => ?_)
      · have hq3 : q = t := by have := zq_le (by omega) (by omega) c68; omega
        exact hQ _ _ v _ _ hI (by rw [← hq3]; exact g0) dX0_travel_78
      · have hq3 := zq_nle (by omega) (by omega) c68
        refine lv_aload_n hx hb dX0_travel_71 rfl (lv_at hl 0 rfl) ?_
        refine zq_c0v (rest := []) F hI (m0_redo l a ca v P n T q g0 (by omega)) q68 q70 qs9 q22 q71 rfl hdX0_redo (by decide) hl.1 rfl (Nat.le_of_ble_eq_true rfl) dX0_travel_72 (by decide) (fun u72 H locs hp72 hI => ?_)
        refine lv_goto (tgt := 63) hx hb dX0_travel_75 (by decide) ?_
        exact ih (q + 1) u72 (by omega) (by omega) hp72 _ _ _ hI hl
  have loop1 : ∀ (d q : Nat) (v : zq_St), q < d → q ≤ T → zq_I0 P n T q v → ∀ (H : Heap) (locs : List Loc) (ls : Array Slot), zq_IW D (zq_t0 ca) A s (zq_w0 a ca v) H locs → lv_has ls 3 [(0, .ref (a 0)), (1, .int (nI t))] → W p l e (zq_rm 1) s m args below meth c H locs 0 0 Q (F0 m 48 ls []) := by
    intro d
    induction d with
    | zero =>
      intro q v g1 g2
      exact absurd g1 (by omega)
    | succ d ih =>
      intro q v hq1 hq2 g0 H locs ls hI hl
      refine lv_aload_n hx hb dX0_travel_48 rfl (lv_at hl 0 rfl) ?_
      refine zq_g0 F hI 7 (.int (v 7 0)) rfl (by decide) q79 dX0_travel_49 ?_
      refine zq_top (z := (nI q)) g0.2.2.2.2.2.2.1 ?_
      refine lv_iload_n hx hb dX0_travel_52 rfl (lv_at hl 1 rfl) ?_
      refine lv_icmp_le (tgt := 63) hx hb dX0_travel_53 (by decide) (fun c53 => ?_) (fun c53 => ?_)
      · have hq3 := zq_le (by omega) (by omega) c53
        exact loop2 (t + 1) q v hq3 (by omega) g0 _ _ _ hI hl
      · have hq3 := zq_nle (by omega) (by omega) c53
        obtain ⟨q, rfl⟩ : ∃ z, q = z + 1 := ⟨q - 1, by omega⟩
        refine lv_aload_n hx hb dX0_travel_56 rfl (lv_at hl 0 rfl) ?_
        refine zq_c0v (rest := []) F hI (m0_undo l a ca v P n T q g0) q64 q66 qs8 q22 q67 rfl hdX0_undo (by decide) hl.1 rfl (Nat.le_of_ble_eq_true rfl) dX0_travel_57 (by decide) (fun u57 H locs hp57 hI => ?_)
        refine lv_goto (tgt := 48) hx hb dX0_travel_60 (by decide) ?_
        exact ih q u57 (by omega) (by omega) hp57 _ _ _ hI hl
  have tail : ∀ (k : Nat), 50 * k ≤ T → ∀ (H : Heap) (locs : List Loc) (ls : Array Slot), zq_IW D (zq_t0 ca) A s (zq_w0 a ca u) H locs → lv_has ls 3 [(2, .int (nI k)), (0, .ref (a 0)), (1, .int (nI t))] → W p l e (zq_rm 1) s m args below meth c H locs 0 0 Q (F0 m 22 ls []) := by
    intro k hk H locs ls hI hl
    refine lv_aload_n hx hb dX0_travel_22 rfl (lv_at hl 1 rfl) ?_
    refine lv_iload_n hx hb dX0_travel_23 rfl (lv_at hl 2 rfl) ?_
    refine lv_iload_n hx hb dX0_travel_24 rfl (lv_at hl 0 rfl) ?_
    refine lv_bipush (v := (nI 50)) hx hb dX0_travel_25 (by decide) ?_
    refine lv_imul hx hb dX0_travel_27 ?_
    refine zq_top (z := (nI (50 * k))) (by rw [pk_mul, Nat.mul_comm]) ?_
    refine zq_c0i (rest := []) F hI (m0_gap l a ca u _ _ t (50 * k) rfl rfl (by omega) (by omega)) q56 q58 qs6 q22 q59 rfl hdX0_gap (by decide) hl.1 rfl (Nat.le_of_ble_eq_true rfl) dX0_travel_28 (by decide) (fun r28 u28 H locs hp28 hI => ?_)
    obtain ⟨hu28, hp28⟩ := hp28
    rw [hu28] at hI
    refine lv_aload_n hx hb dX0_travel_31 rfl (lv_at hl 1 rfl) ?_
    refine lv_iload_n hx hb dX0_travel_32 rfl (lv_at hl 2 rfl) ?_
    refine lv_aload_n hx hb dX0_travel_33 rfl (lv_at hl 1 rfl) ?_
    refine zq_g0 F hI 7 (.int (u 7 0)) rfl (by decide) q79 dX0_travel_34 ?_
    refine zq_top (z := (nI q)) h0.2.2.2.2.2.2.1 ?_
    refine zq_c0i (rest := [.int r28]) F hI (m0_gap l a ca u _ _ t q rfl rfl (by omega) (by omega)) q56 q58 qs6 q22 q59 rfl hdX0_gap (by decide) hl.1 rfl (Nat.le_of_ble_eq_true rfl) dX0_travel_37 (by decide) (fun r37 u37 H locs hp37 hI => ?_)
    obtain ⟨hu37, hp37⟩ := hp37
    rw [hu37] at hI
    refine lv_icmp_ge (tgt := 48) hx hb dX0_travel_40 (by decide) (fun c40 => ?_) (fun c40 => ?_)
    · exact loop1 (q + 1) q u (by omega) hq h0 _ _ _ hI (lv_sub hl [1, 2] rfl)
    · refine lv_aload_n hx hb dX0_travel_43 rfl (lv_at hl 1 rfl) ?_
      refine lv_iload_n hx hb dX0_travel_44 rfl (lv_at hl 0 rfl) ?_
      refine zq_c0v (rest := []) F hI (m0_load l a ca u P n T q k _ rfl h0 hk) q60 q62 qs7 q22 q63 rfl hdX0_load (by decide) hl.1 rfl (Nat.le_of_ble_eq_true rfl) dX0_travel_45 (by decide) (fun u45 H locs hp45 hI => ?_)
      exact loop1 (50 * k + 1) (50 * k) u45 (by omega) hk hp45 _ _ _ hI (lv_sub hl [1, 2] rfl)
  refine lv_iload_n hx hb dX0_travel_0 rfl (lv_at hl 1 rfl) ?_
  refine lv_bipush (v := (nI 25)) hx hb dX0_travel_1 (by decide) ?_
  refine lv_iadd hx hb dX0_travel_3 ?_
  refine zq_top (z := (nI (t + 25))) (nI_add t 25) ?_
  refine lv_bipush (v := (nI 50)) hx hb dX0_travel_4 (by decide) ?_
  refine lv_idiv hx hb dX0_travel_6 (by decide) ?_
  refine zq_top (z := (nI ((t + 25) / 50))) (pk_div (by omega) (by omega) (by omega)) ?_
  refine lv_istore_n (lv' := [(2, .int (nI ((t + 25) / 50))), (0, .ref (a 0)), (1, .int (nI t))]) hx hb dX0_travel_7 rfl hl (by decide) rfl (fun ls hl => ?_)
  refine lv_iload_n hx hb dX0_travel_8 rfl (lv_at hl 0 rfl) ?_
  refine lv_bipush (v := (nI 50)) hx hb dX0_travel_9 (by decide) ?_
  refine lv_imul hx hb dX0_travel_11 ?_
  refine zq_top (z := (nI (50 * ((t + 25) / 50)))) (by rw [pk_mul, Nat.mul_comm]) ?_
  refine lv_aload_n hx hb dX0_travel_12 rfl (lv_at hl 1 rfl) ?_
  refine zq_g0 F hI 8 (.int (u 8 0)) rfl (by decide) q80 dX0_travel_13 ?_
  refine zq_top (z := (nI T)) h0.2.2.2.2.2.2.2 ?_
  refine lv_icmp_le (tgt := 22) hx hb dX0_travel_16 (by decide) (fun c16 => ?_) (fun c16 => ?_)
  · have hk := zq_le (by omega) (by omega) c16
    exact tail ((t + 25) / 50) hk _ _ _ hI (lv_sub hl [0, 1, 2] rfl)
  · have hk := zq_nle (by omega) (by omega) c16
    refine lv_iinc (v := (nI (((t + 25) / 50) - 1))) (lv' := [(2, .int (nI (((t + 25) / 50) - 1))), (0, .ref (a 0)), (1, .int (nI t))]) hx hb dX0_travel_19 hl (k := 0) rfl (zq_dec1 (by omega)) (by decide) rfl (fun ls hl => ?_)
    exact tail (((t + 25) / 50) - 1) (by omega) _ _ _ hI (lv_sub hl [0, 1, 2] rfl)
end
section
/-! TraceDebugger: execute -/
set_option maxRecDepth 100000
set_option maxHeartbeats 4000000 in
set_option maxRecDepth 100000 in
/-- execute: the tables of the whole run; the present is 0 -/
theorem m0_execute (l : Launch) (a : Nat → Nat) (ca : Nat → ClassId) (u : zq_St) (P : zq_St) (n : Nat) (hok : zq_okP P n) (hA : zq_A P u) : zq_Cv l yX0_execute cX0_execute 3 3 (a 0) [] (zq_t0 ca) (zq_w0 a ca) u (fun u' => ∃ T, zq_I0 P n T 0 u') := by
  refine zq_startv (by decide) (Nat.le_of_ble_eq_true rfl) ?_
  intro p e s m args below meth c D A Q ls F hQ hI hl
  have hx := F.1
  have hb := F.2.1
  have hl : lv_has ls 3 [(0, .ref (a 0))] := hl
  have h20 := hok.2.1
  have fin : ∀ (t : Nat) (v : zq_St), zq_T P n t → zq_G P t v → zq_now P t v → zq_A P v → v 8 0 = nI t → ∀ (H : Heap) (locs : List Loc) (ls : Array Slot), zq_IW D (zq_t0 ca) A s (zq_w0 a ca v) H locs → lv_has ls 3 [(0, .ref (a 0))] → W p l e (zq_rm 3) s m args below meth c H locs 0 0 Q (F0 m 156 ls []) := by
    intro t v gT gG gN gA g8 H locs ls hI hl
    refine lv_aload_n hx hb dX0_execute_156 rfl (lv_at hl 0 rfl) ?_
    refine lv_aload_n hx hb dX0_execute_157 rfl (lv_at hl 0 rfl) ?_
    refine zq_g0 F hI 8 (.int (v 8 0)) rfl (by decide) q80 dX0_execute_158 ?_
    refine zq_top (z := (nI t)) g8 ?_
    refine zq_p0 (ws' := zq_w0 a ca (va_up v 7 (fun _ => (nI t)))) F hI 7 (by decide) q79 rfl (by decide +kernel) rfl dX0_execute_161 (fun H locs hI => ?_)
    have g0 : zq_I0 P n t t (va_up v 7 (fun _ => (nI t))) := ⟨hok, gT, Nat.le_refl t, zq_A_of gA rfl rfl rfl rfl rfl rfl, zq_G_of gG (fun k hk => by rw [va_up_ne _ _ (by omega)]), gN, rfl, g8⟩
    refine lv_aload_n hx hb dX0_execute_164 rfl (lv_at hl 0 rfl) ?_
    refine lv_iconst (v := (nI 0)) hx hb dX0_execute_165 (by decide) ?_
    refine zq_c0v (rest := []) F hI (m0_travel l a ca (va_up v 7 (fun _ => (nI t))) P n t t 0 _ rfl g0 (by omega)) q52 q54 qs5 q22 q55 rfl hdX0_travel (by decide) hl.1 rfl (Nat.le_of_ble_eq_true rfl) dX0_execute_166 (by decide) (fun u166 H locs hp166 hI => ?_)
    exact hQ _ _ u166 _ _ hI (⟨t, hp166⟩) dX0_execute_169
  have loop : ∀ (d t : Nat) (v : zq_St) (g : Int32), 200 < t + d → t ≤ 200 → (∀ r, r < t → ¬ zq_E P n r) → g = (if zq_h P t then 0 else 1) → zq_G P t v → zq_now P t v → zq_A P v → v 8 0 = nI t → zq_N P t ≤ 20 → ∀ (H : Heap) (locs : List Loc) (ls : Array Slot), zq_IW D (zq_t0 ca) A s (zq_w0 a ca v) H locs → lv_has ls 3 [(0, .ref (a 0)), (1, .int (nI (zq_N P t))), (2, .int g)] → W p l e (zq_rm 3) s m args below meth c H locs 0 0 Q (F0 m 79 ls []) := by
    intro d
    induction d with
    | zero =>
      intro t v g g1 g2
      exact absurd g1 (by omega)
    | succ d ih =>
      intro t v g ht1 ht2 gE hg gG gN gA g8 hN H locs ls hI hl
      refine lv_iload_n hx hb dX0_execute_79 rfl (lv_at hl 2 rfl) ?_
      refine lv_if_eq (tgt := 156) hx hb dX0_execute_80 (by decide) (fun c80 => ?_) (fun c80 => ?_)
      · have ht : zq_h P t = true := by cases hh : zq_h P t with
          | true => rfl
          | false => rw [hg, hh] at c80; exact absurd c80 (by decide)
        exact fin t v ⟨by omega, gE, Or.inr (Or.inl ht)⟩ gG gN gA g8 _ _ _ hI (lv_sub hl [0] rfl)
      · have ht : zq_h P t = false := by cases hh : zq_h P t with
          | true => rw [hg, hh] at c80; exact absurd rfl c80
          | false => rfl
        refine lv_iload_n hx hb dX0_execute_83 rfl (lv_at hl 1 rfl) ?_
        refine lv_aload_n hx hb dX0_execute_84 rfl (lv_at hl 0 rfl) ?_
        refine zq_g0 F hI 0 (.int (v 0 0)) rfl (by decide) q72 dX0_execute_85 ?_
        refine zq_top (z := (nI n)) (gA.1.trans hok.1) ?_
        refine lv_icmp_ge (tgt := 156) hx hb dX0_execute_88 (by decide) (fun c88 => ?_) (fun c88 => ?_)
        · have hi := zq_le (by omega) (by omega) c88
          exact fin t v ⟨by omega, gE, Or.inr (Or.inr hi)⟩ gG gN gA g8 _ _ _ hI (lv_sub hl [0] rfl)
        · have hi := zq_nle (by omega) (by omega) c88
          refine lv_aload_n hx hb dX0_execute_91 rfl (lv_at hl 0 rfl) ?_
          refine zq_g0 F hI 8 (.int (v 8 0)) rfl (by decide) q80 dX0_execute_92 ?_
          refine zq_top (z := (nI t)) g8 ?_
          refine lv_sipush (v := (nI 200)) hx hb dX0_execute_95 (by decide) ?_
          refine lv_icmp_ge (tgt := 156) hx hb dX0_execute_98 (by decide) (fun c98 => ?_) (fun c98 => ?_)
          · have h200 := zq_le (by omega) (by omega) c98
            exact fin t v ⟨by omega, gE, Or.inl (by omega)⟩ gG gN gA g8 _ _ _ hI (lv_sub hl [0] rfl)
          · have h200 := zq_nle (by omega) (by omega) c98
            have gE2 : ∀ r, r < t + 1 → ¬ zq_E P n r := by
              intro r hr hE
              by_cases e : r = t
              · subst e
                rcases hE with x | x
                · rw [ht] at x; exact absurd x (by decide)
                · omega
              · exact gE r (by omega) hE
            have hc := zq_cong (c := v 6) (c' := zq_M P t) hok hi gN
            have hN2 : zq_N P (t + 1) ≤ 20 := by rw [zq_N_s]; exact zq_nx_le _ hok hi
            have hs : ∀ pl, pl < 14 → vp_nar .short (v 15 pl) = v 15 pl := by
              intro pl hpl
              rw [gG.2.2.2.1 pl hpl]
              exact zq_ns (by have := zq_lw_le P pl t; omega)
            have body2 : ∀ (g : Int32), g = (if zq_h P (t + 1) then 0 else 1) → ∀ (H : Heap) (locs : List Loc) (ls : Array Slot), zq_IW D (zq_t0 ca) A s (zq_w0 a ca (va_up (va_up v 8 (fun _ => (nI (t + 1)))) 9 (upd (v 9) (t + 1) (-1)))) H locs → lv_has ls 3 [(2, .int g), (0, .ref (a 0)), (1, .int (nI (zq_N P t)))] → W p l e (zq_rm 3) s m args below meth c H locs 0 0 Q (F0 m 138 ls []) := by
              intro g hg H locs ls hI hl
              refine lv_aload_n hx hb dX0_execute_138 rfl (lv_at hl 1 rfl) ?_
              refine lv_iload_n hx hb dX0_execute_139 rfl (lv_at hl 2 rfl) ?_
              refine zq_c0i (rest := []) F hI (m0_perform l a ca (va_up (va_up v 8 (fun _ => (nI (t + 1)))) 9 (upd (v 9) (t + 1) (-1))) P n (zq_N P t) (t + 1) _ rfl hok (zq_A_of gA rfl rfl rfl rfl rfl rfl) hi rfl (by omega) hs) q40 q42 qs2 q22 q43 rfl hdX0_perform (by decide) hl.1 rfl (Nat.le_of_ble_eq_true rfl) dX0_execute_140 (by decide) (fun r140 u140 H locs hp140 hI => ?_)
              have er : r140 = nI (zq_nx P (v 6) (zq_N P t)) := hp140.1
              have eu : u140 = zq_pf (va_up (va_up v 8 (fun _ => (nI (t + 1)))) 9 (upd (v 9) (t + 1) (-1))) (t + 1) (zq_wp P (v 6) (zq_N P t)) (zq_wv P (v 6) (zq_N P t)) := hp140.2
              rw [hc.2.2, ← zq_N_s] at er
              rw [hc.1, hc.2.1, ← zq_w_s] at eu
              have gh := zq_step gG gN
              rw [← eu] at gh
              have gA2 : zq_A P u140 := by rw [eu]; exact zq_A_of gA (zq_pf_e _ _ _ 0 _ (by decide) (by decide) (by decide) (by decide) (by decide) (by decide)) (zq_pf_e _ _ _ 1 _ (by decide) (by decide) (by decide) (by decide) (by decide) (by decide)) (zq_pf_e _ _ _ 2 _ (by decide) (by decide) (by decide) (by decide) (by decide) (by decide)) (zq_pf_e _ _ _ 3 _ (by decide) (by decide) (by decide) (by decide) (by decide) (by decide)) (zq_pf_e _ _ _ 4 _ (by decide) (by decide) (by decide) (by decide) (by decide) (by decide)) (zq_pf_e _ _ _ 5 _ (by decide) (by decide) (by decide) (by decide) (by decide) (by decide))
              have e8 : u140 8 0 = nI (t + 1) := by rw [eu, zq_pf_e _ _ _ 8 _ (by decide) (by decide) (by decide) (by decide) (by decide) (by decide)]; rfl
              refine zq_top (z := (nI (zq_N P (t + 1)))) er ?_
              refine lv_istore_n (lv' := [(1, .int (nI (zq_N P (t + 1)))), (2, .int g), (0, .ref (a 0))]) hx hb dX0_execute_143 rfl hl (by decide) rfl (fun ls hl => ?_)
              refine lv_aload_n hx hb dX0_execute_144 rfl (lv_at hl 2 rfl) ?_
              refine lv_aload_n hx hb dX0_execute_145 rfl (lv_at hl 2 rfl) ?_
              refine zq_g0 F hI 8 (.int (u140 8 0)) rfl (by decide) q80 dX0_execute_146 ?_
              refine zq_top (z := (nI (t + 1))) e8 ?_
              refine lv_iload_n hx hb dX0_execute_149 rfl (lv_at hl 0 rfl) ?_
              refine zq_c0v (rest := []) F hI (m0_noteTime l a ca u140 (t + 1) (zq_N P (t + 1)) _ _ rfl rfl (by omega) (by omega) (by rw [gh.2.1 _ hN2]; exact zq_lt_ns (by omega))) q36 q38 qs1 q22 q39 rfl hdX0_noteTime (by decide) hl.1 rfl (Nat.le_of_ble_eq_true rfl) dX0_execute_150 (by decide) (fun u150 H locs hp150 hI => ?_)
              have gn := zq_note gh hN2
              rw [← hp150] at gn
              have gA3 : zq_A P u150 := by rw [hp150]; exact zq_A_of gA2 (zq_not_e _ _ _ 0 (by decide) (by decide) (by decide) (by decide)) (zq_not_e _ _ _ 1 (by decide) (by decide) (by decide) (by decide)) (zq_not_e _ _ _ 2 (by decide) (by decide) (by decide) (by decide)) (zq_not_e _ _ _ 3 (by decide) (by decide) (by decide) (by decide)) (zq_not_e _ _ _ 4 (by decide) (by decide) (by decide) (by decide)) (zq_not_e _ _ _ 5 (by decide) (by decide) (by decide) (by decide))
              have e83 : u150 8 0 = nI (t + 1) := by rw [hp150, zq_not_e _ _ _ 8 (by decide) (by decide) (by decide) (by decide)]; exact e8
              refine lv_goto (tgt := 79) hx hb dX0_execute_153 (by decide) ?_
              exact ih (t + 1) u150 g (by omega) (by omega) gE2 hg gn.1 gn.2 gA3 e83 hN2 _ _ _ hI (lv_sub hl [2, 0, 1] rfl)
            refine lv_aload_n hx hb dX0_execute_101 rfl (lv_at hl 0 rfl) ?_
            refine lv_dup hx hb dX0_execute_102 rfl ?_
            refine zq_g0 F hI 8 (.int (v 8 0)) rfl (by decide) q80 dX0_execute_103 ?_
            refine zq_top (z := (nI t)) g8 ?_
            refine lv_iconst (v := (nI 1)) hx hb dX0_execute_106 (by decide) ?_
            refine lv_iadd hx hb dX0_execute_107 ?_
            refine zq_top (z := (nI (t + 1))) (nI_1 t) ?_
            refine zq_p0 (ws' := zq_w0 a ca (va_up v 8 (fun _ => (nI (t + 1))))) F hI 8 (by decide) q80 rfl (by decide +kernel) rfl dX0_execute_108 (fun H locs hI => ?_)
            refine lv_aload_n hx hb dX0_execute_111 rfl (lv_at hl 0 rfl) ?_
            refine zq_g0 F hI 9 (.ref (a 9)) rfl (by decide) q81 dX0_execute_112 ?_
            refine lv_aload_n hx hb dX0_execute_115 rfl (lv_at hl 0 rfl) ?_
            refine zq_g0 F hI 8 (.int (nI (t + 1))) rfl (by decide) q80 dX0_execute_116 ?_
            refine lv_iconst (v := (-1)) hx hb dX0_execute_119 (by decide) ?_
            refine zq_bst (ws' := zq_w0 a ca (va_up (va_up v 8 (fun _ => (nI (t + 1)))) 9 (upd (v 9) (t + 1) (-1)))) hx hb hI 6 5 (n := 201) (f := (v 9)) rfl rfl (t + 1) rfl (by omega) (by decide) zq_nb1 rfl dX0_execute_120 (fun H locs hI => ?_)
            refine lv_aload_n hx hb dX0_execute_121 rfl (lv_at hl 0 rfl) ?_
            refine zq_g0 F hI 1 (.ref (a 1)) rfl (by decide) q73 dX0_execute_122 ?_
            refine lv_iload_n hx hb dX0_execute_125 rfl (lv_at hl 1 rfl) ?_
            refine zq_bld hx hb hI 1 0 (n := 20) (f := (v 1)) rfl rfl (zq_N P t) rfl (by omega) (by decide) dX0_execute_126 ?_
            refine zq_top (z := (P 1 (zq_N P t))) (by rw [gA.2.1]) ?_
            refine lv_bipush (v := 8) hx hb dX0_execute_127 (by decide) ?_
            refine lv_icmp_eq (tgt := 136) hx hb dX0_execute_129 (by decide) (fun c129 => ?_) (fun c129 => ?_)
            · refine lv_iconst (v := 0) hx hb dX0_execute_136 (by decide) ?_
              refine lv_istore_n (lv' := [(2, .int 0), (0, .ref (a 0)), (1, .int (nI (zq_N P t)))]) hx hb dX0_execute_137 rfl hl (by decide) rfl (fun ls hl => ?_)
              exact body2 0 (by rw [zq_h_s, decide_eq_true c129]; rfl) _ _ _ hI (lv_sub hl [0, 1, 2] rfl)
            · refine lv_iconst (v := 1) hx hb dX0_execute_132 (by decide) ?_
              refine lv_goto (tgt := 137) hx hb dX0_execute_133 (by decide) ?_
              refine lv_istore_n (lv' := [(2, .int 1), (0, .ref (a 0)), (1, .int (nI (zq_N P t)))]) hx hb dX0_execute_137 rfl hl (by decide) rfl (fun ls hl => ?_)
              exact body2 1 (by rw [zq_h_s, decide_eq_false c129]; rfl) _ _ _ hI (lv_sub hl [0, 1, 2] rfl)
  have loopB : ∀ (f6 f15 : Nat → Int32), (∀ i, i < 14 → f6 i = 0) → (∀ i, i < 14 → f15 i = 0) → ∀ (d j : Nat), 21 < j + d → j ≤ 21 → ∀ (f16 : Nat → Int32), (∀ i, i < j → f16 i = -1) → ∀ (H : Heap) (locs : List Loc) (ls : Array Slot), zq_IW D (zq_t0 ca) A s (zq_w0 a ca (va_up (va_up (va_up u 6 f6) 15 f15) 16 f16)) H locs → lv_has ls 3 [(1, .int (nI j)), (0, .ref (a 0))] → W p l e (zq_rm 3) s m args below meth c H locs 0 0 Q (F0 m 30 ls []) := by
    intro f6 f15 g6 g15 d
    induction d with
    | zero =>
      intro j g1 g2
      exact absurd g1 (by omega)
    | succ d ih =>
      intro j hj1 hj2 f16 g16 H locs ls hI hl
      refine lv_iload_n hx hb dX0_execute_30 rfl (lv_at hl 0 rfl) ?_
      refine lv_bipush (v := (nI 21)) hx hb dX0_execute_31 (by decide) ?_
      refine lv_icmp_ge (tgt := 49) hx hb dX0_execute_33 (by decide) (fun c33 => ?_) (fun c33 => ?_)
      · have e : j = 21 := by have := zq_le (by omega) (by omega) c33; omega
        refine lv_aload_n hx hb dX0_execute_49 rfl (lv_at hl 1 rfl) ?_
        refine zq_g0 F hI 6 (.ref (a 6)) rfl (by decide) q78 dX0_execute_50 ?_
        refine lv_iconst (v := (nI 5)) hx hb dX0_execute_53 (by decide) ?_
        refine lv_aload_n hx hb dX0_execute_54 rfl (lv_at hl 1 rfl) ?_
        refine zq_g0 F hI 5 (.int (u 5 0)) rfl (by decide) q77 dX0_execute_55 ?_
        refine zq_top (z := (P 5 0)) hA.2.2.2.2.2 ?_
        refine zq_ist (ws' := zq_w0 a ca (va_up (va_up (va_up u 15 f15) 16 f16) 6 (upd f6 5 (P 5 0)))) hx hb hI 5 4 (n := 14) (f := f6) rfl rfl 5 rfl (by omega) (by decide) rfl dX0_execute_58 (fun H locs hI => ?_)
        refine lv_aload_n hx hb dX0_execute_59 rfl (lv_at hl 1 rfl) ?_
        refine lv_iconst (v := (nI 0)) hx hb dX0_execute_60 (by decide) ?_
        refine zq_p0 (ws' := zq_w0 a ca (va_up (va_up (va_up (va_up u 15 f15) 16 f16) 6 (upd f6 5 (P 5 0))) 8 (fun _ => (nI 0)))) F hI 8 (by decide) q80 rfl (by decide +kernel) rfl dX0_execute_61 (fun H locs hI => ?_)
        refine lv_aload_n hx hb dX0_execute_64 rfl (lv_at hl 1 rfl) ?_
        refine lv_iconst (v := (nI 0)) hx hb dX0_execute_65 (by decide) ?_
        refine zq_p0 (ws' := zq_w0 a ca (va_up (va_up (va_up (va_up (va_up u 15 f15) 16 f16) 6 (upd f6 5 (P 5 0))) 8 (fun _ => (nI 0))) 7 (fun _ => (nI 0)))) F hI 7 (by decide) q79 rfl (by decide +kernel) rfl dX0_execute_66 (fun H locs hI => ?_)
        have gh : zq_GH P 0 (va_up (va_up (va_up (va_up (va_up u 15 f15) 16 f16) 6 (upd f6 5 (P 5 0))) 8 (fun _ => (nI 0))) 7 (fun _ => (nI 0))) := zq_GH_0 (fun i hi => by
          show upd f6 5 (P 5 0) i = zq_M P 0 i
          rw [zq_M_0]
          by_cases e5 : i = 5
          · rw [if_pos e5, e5, zq_upd_s]
          · rw [if_neg e5, zq_upd_n _ _ e5]
            exact g6 i hi) g15 (fun i hi => g16 i (by omega))
        refine lv_aload_n hx hb dX0_execute_69 rfl (lv_at hl 1 rfl) ?_
        refine lv_iconst (v := (nI 0)) hx hb dX0_execute_70 (by decide) ?_
        refine lv_iconst (v := (nI 0)) hx hb dX0_execute_71 (by decide) ?_
        refine zq_c0v (rest := []) F hI (m0_noteTime l a ca (va_up (va_up (va_up (va_up (va_up u 15 f15) 16 f16) 6 (upd f6 5 (P 5 0))) 8 (fun _ => (nI 0))) 7 (fun _ => (nI 0))) 0 0 _ _ rfl rfl (by omega) (by omega) (by show vp_nar .short (f16 0) = f16 0; rw [show f16 0 = -1 from g16 0 (by omega)]; exact zq_ns1)) q36 q38 qs1 q22 q39 rfl hdX0_noteTime (by decide) hl.1 rfl (Nat.le_of_ble_eq_true rfl) dX0_execute_72 (by decide) (fun u72 H locs hp72 hI => ?_)
        have gn := zq_note gh (by rw [zq_N_0]; omega)
        rw [zq_N_0, ← hp72] at gn
        have gA3 : zq_A P u72 := by rw [hp72]; exact zq_A_of hA (zq_not_e _ _ _ 0 (by decide) (by decide) (by decide) (by decide)) (zq_not_e _ _ _ 1 (by decide) (by decide) (by decide) (by decide)) (zq_not_e _ _ _ 2 (by decide) (by decide) (by decide) (by decide)) (zq_not_e _ _ _ 3 (by decide) (by decide) (by decide) (by decide)) (zq_not_e _ _ _ 4 (by decide) (by decide) (by decide) (by decide)) (zq_not_e _ _ _ 5 (by decide) (by decide) (by decide) (by decide))
        have e83 : u72 8 0 = nI 0 := by rw [hp72, zq_not_e _ _ _ 8 (by decide) (by decide) (by decide) (by decide)]; rfl
        refine lv_iconst (v := (nI 0)) hx hb dX0_execute_75 (by decide) ?_
        refine lv_istore_n (lv' := [(1, .int (nI 0)), (0, .ref (a 0))]) hx hb dX0_execute_76 rfl hl (by decide) rfl (fun ls hl => ?_)
        refine lv_iconst (v := 1) hx hb dX0_execute_77 (by decide) ?_
        refine lv_istore_n (lv' := [(2, .int 1), (1, .int (nI 0)), (0, .ref (a 0))]) hx hb dX0_execute_78 rfl hl (by decide) rfl (fun ls hl => ?_)
        exact loop 201 0 u72 1 (by omega) (by omega) (fun r hr => absurd hr (by omega)) rfl gn.1 gn.2 gA3 e83 (by rw [zq_N_0]; omega) _ _ _ hI (lv_sub hl [2, 1, 0] rfl)
      · have hj := zq_nle (by omega) (by omega) c33
        refine lv_aload_n hx hb dX0_execute_36 rfl (lv_at hl 1 rfl) ?_
        refine zq_g0 F hI 16 (.ref (a 16)) rfl (by decide) q88 dX0_execute_37 ?_
        refine lv_iload_n hx hb dX0_execute_40 rfl (lv_at hl 0 rfl) ?_
        refine lv_iconst (v := (-1)) hx hb dX0_execute_41 (by decide) ?_
        refine zq_sst (ws' := zq_w0 a ca (va_up (va_up (va_up u 6 f6) 15 f15) 16 (upd f16 j (-1)))) hx hb hI 13 12 (n := 21) (f := f16) rfl rfl j rfl (by omega) (by decide) zq_ns1 rfl dX0_execute_42 (fun H locs hI => ?_)
        refine lv_iinc (v := (nI (j + 1))) (lv' := [(1, .int (nI (j + 1))), (0, .ref (a 0))]) hx hb dX0_execute_43 hl (k := 0) rfl (zq_inc1 j) (by decide) rfl (fun ls hl => ?_)
        refine lv_goto (tgt := 30) hx hb dX0_execute_46 (by decide) ?_
        exact ih (j + 1) (by omega) (by omega) _ (zq_up_lt (Z := fun _ => -1) g16 rfl) _ _ _ hI (lv_sub hl [0, 1] rfl)
  have loopA : ∀ (d j : Nat), 14 < j + d → j ≤ 14 → ∀ (f6 f15 : Nat → Int32), (∀ i, i < j → f6 i = 0) → (∀ i, i < j → f15 i = 0) → ∀ (H : Heap) (locs : List Loc) (ls : Array Slot), zq_IW D (zq_t0 ca) A s (zq_w0 a ca (va_up (va_up u 6 f6) 15 f15)) H locs → lv_has ls 3 [(1, .int (nI j)), (0, .ref (a 0))] → W p l e (zq_rm 3) s m args below meth c H locs 0 0 Q (F0 m 2 ls []) := by
    intro d
    induction d with
    | zero =>
      intro j g1 g2
      exact absurd g1 (by omega)
    | succ d ih =>
      intro j hj1 hj2 f6 f15 g6 g15 H locs ls hI hl
      refine lv_iload_n hx hb dX0_execute_2 rfl (lv_at hl 0 rfl) ?_
      refine lv_bipush (v := (nI 14)) hx hb dX0_execute_3 (by decide) ?_
      refine lv_icmp_ge (tgt := 28) hx hb dX0_execute_5 (by decide) (fun c5 => ?_) (fun c5 => ?_)
      · refine lv_iconst (v := (nI 0)) hx hb dX0_execute_28 (by decide) ?_
        refine lv_istore_n (lv' := [(1, .int (nI 0)), (0, .ref (a 0))]) hx hb dX0_execute_29 rfl hl (by decide) rfl (fun ls hl => ?_)
        have e : j = 14 := by have := zq_le (by omega) (by omega) c5; omega
        exact loopB f6 f15 (fun i hi => g6 i (by omega)) (fun i hi => g15 i (by omega)) 22 0 (by omega) (by omega) (u 16) (fun i hi => absurd hi (by omega)) _ _ _ hI (lv_sub hl [0, 1] rfl)
      · have hj := zq_nle (by omega) (by omega) c5
        refine lv_aload_n hx hb dX0_execute_8 rfl (lv_at hl 1 rfl) ?_
        refine zq_g0 F hI 6 (.ref (a 6)) rfl (by decide) q78 dX0_execute_9 ?_
        refine lv_iload_n hx hb dX0_execute_12 rfl (lv_at hl 0 rfl) ?_
        refine lv_iconst (v := 0) hx hb dX0_execute_13 (by decide) ?_
        refine zq_ist (ws' := zq_w0 a ca (va_up (va_up u 15 f15) 6 (upd f6 j 0))) hx hb hI 5 4 (n := 14) (f := f6) rfl rfl j rfl (by omega) (by decide) rfl dX0_execute_14 (fun H locs hI => ?_)
        refine lv_aload_n hx hb dX0_execute_15 rfl (lv_at hl 1 rfl) ?_
        refine zq_g0 F hI 15 (.ref (a 15)) rfl (by decide) q87 dX0_execute_16 ?_
        refine lv_iload_n hx hb dX0_execute_19 rfl (lv_at hl 0 rfl) ?_
        refine lv_iconst (v := 0) hx hb dX0_execute_20 (by decide) ?_
        refine zq_sst (ws' := zq_w0 a ca (va_up (va_up u 6 (upd f6 j 0)) 15 (upd f15 j 0))) hx hb hI 12 11 (n := 14) (f := f15) rfl rfl j rfl (by omega) (by decide) zq_ns0 rfl dX0_execute_21 (fun H locs hI => ?_)
        refine lv_iinc (v := (nI (j + 1))) (lv' := [(1, .int (nI (j + 1))), (0, .ref (a 0))]) hx hb dX0_execute_22 hl (k := 0) rfl (zq_inc1 j) (by decide) rfl (fun ls hl => ?_)
        refine lv_goto (tgt := 2) hx hb dX0_execute_25 (by decide) ?_
        exact ih (j + 1) (by omega) (by omega) _ _ (zq_up_lt (Z := fun _ => 0) g6 rfl) (zq_up_lt (Z := fun _ => 0) g15 rfl) _ _ _ hI (lv_sub hl [0, 1] rfl)
  refine lv_iconst (v := (nI 0)) hx hb dX0_execute_0 (by decide) ?_
  refine lv_istore_n (lv' := [(1, .int (nI 0)), (0, .ref (a 0))]) hx hb dX0_execute_1 rfl hl (by decide) rfl (fun ls hl => ?_)
  exact loopA 15 0 (by omega) (by omega) (u 6) (u 15) (fun i hi => absurd hi (by omega)) (fun i hi => absurd hi (by omega)) _ _ _ hI (lv_sub hl [0, 1] rfl)
end
section
/-! TraceDebugger: writeUpTo, steps, time, goTo, variable, cell, lastWrite, backBeforeWrite -/
set_option maxRecDepth 100000
theorem zq_lt_gt {P : zq_St} {k z q : Nat} (hq : q < 1000) (hz : z < 1000) (h : ¬ zq_lt P k z ≤ nI q) : ∃ r, q < r ∧ r < z ∧ zq_lt P k z = nI r ∧ zq_N P r = k := by
  rcases zq_lt_c P k z with ⟨e, -⟩ | ⟨r, h1, e, h2, -⟩
  · rw [e] at h
    exact absurd (Int32.le_trans (show (-1 : Int32) ≤ 0 by decide) (nI_pos' (by omega))) h
  · rw [e] at h
    exact ⟨r, zq_nle (by omega) (by omega) h, h1, e, h2⟩
theorem zq_lt_le {P : zq_St} {k z q : Nat} (hq : q < 1000) (hz : z < 1000) (h : zq_lt P k z ≤ nI q) : ∀ r, q < r → r < z → zq_N P r ≠ k := by
  rcases zq_lt_c P k z with ⟨e, g⟩ | ⟨r, h1, e, h2, g⟩
  · exact fun r _ h2 => g r h2
  · rw [e] at h
    have h3 := zq_le (by omega) (by omega) h
    exact fun r' g1 g2 => g r' (by omega) g2
theorem zq_lt_nlt {P : zq_St} {k z q : Nat} (hq : q < 1000) (hz : z < 1000) (h : ¬ zq_lt P k z < nI q) : ∃ r, q ≤ r ∧ r < z ∧ zq_lt P k z = nI r ∧ zq_N P r = k := by
  rcases zq_lt_c P k z with ⟨e, -⟩ | ⟨r, h1, e, h2, -⟩
  · rw [e] at h
    exact absurd (Int32.lt_of_lt_of_le (show (-1 : Int32) < 0 by decide) (nI_pos' (by omega))) h
  · rw [e] at h
    exact ⟨r, zq_nlt (by omega) (by omega) h, h1, e, h2⟩
theorem zq_lt_pos {P : zq_St} {k z q : Nat} (hq : q < 1000) (hz : z < 1000) (hqz : q ≤ z) (h : zq_lt P k z < nI q) (h0 : 0 ≤ zq_lt P k z) : ∃ r, r < q ∧ zq_lt P k z = nI r ∧ zq_N P r = k ∧ ∀ r', r < r' → r' < q → zq_N P r' ≠ k := by
  rcases zq_lt_c P k z with ⟨e, -⟩ | ⟨r, h1, e, h2, g⟩
  · rw [e] at h0
    exact absurd h0 (by decide)
  · rw [e] at h
    exact ⟨r, zq_lti (by omega) (by omega) h, e, h2, fun r' g1 g2 => g r' g1 (by omega)⟩
theorem zq_lt_neg {P : zq_St} {k z q : Nat} (hz : z < 1000) (hqz : q ≤ z) (h0 : ¬ 0 ≤ zq_lt P k z) : ∀ r, r < q → zq_N P r ≠ k := by
  rcases zq_lt_c P k z with ⟨e, g⟩ | ⟨r, h1, e, h2, g⟩
  · exact fun r h => g r (by omega)
  · rw [e] at h0
    exact absurd (nI_pos' (by omega)) h0
set_option maxHeartbeats 4000000 in
set_option maxRecDepth 100000 in
/-- writeUpTo -/
theorem m0_writeUpTo (l : Launch) (a : Nat → Nat) (ca : Nat → ClassId) (u : zq_St) (P : zq_St) (n T q : Nat) (h0 : zq_I0 P n T q u) (x1 : Int32) (pl : Nat) (h1 : x1 = nI pl) (hp : pl < 14) : zq_Ci l yX0_writeUpTo cX0_writeUpTo 3 .int 0 (a 0) [.int x1] (zq_t0 ca) (zq_w0 a ca) u (fun r u' => u' = u ∧ r = nI (zq_lw P pl q)) := by
  refine zq_starti (by decide) (Nat.le_of_ble_eq_true rfl) ?_
  intro p e s m args below meth c D A Q ls F hQ hI hl
  have hx := F.1
  have hb := F.2.1
  have hl : lv_has ls 3 [(0, .ref (a 0)), (1, .int x1)] := hl
  subst h1
  have hT := h0.2.1.1
  have hq := h0.2.2.1
  have loop : ∀ (d z : Nat), zq_lw P pl z < d → q ≤ z → z ≤ T → ∀ (H : Heap) (locs : List Loc) (ls : Array Slot), zq_IW D (zq_t0 ca) A s (zq_w0 a ca u) H locs → lv_has ls 3 [(2, .int (nI (zq_lw P pl z))), (0, .ref (a 0)), (1, .int (nI pl))] → W p l e (zq_rm 0) s m args below meth c H locs 0 0 Q (F0 m 7 ls []) := by
    intro d
    induction d with
    | zero =>
      intro z g1 g2
      exact absurd g1 (by omega)
    | succ d ih =>
      intro z hz0 hz1 hz2 H locs ls hI hl
      have hlw := zq_lw_le P pl z
      refine lv_iload_n hx hb dX0_writeUpTo_7 rfl (lv_at hl 0 rfl) ?_
      refine lv_aload_n hx hb dX0_writeUpTo_8 rfl (lv_at hl 1 rfl) ?_
      refine zq_g0 F hI 7 (.int (u 7 0)) rfl (by decide) q79 dX0_writeUpTo_9 ?_
      refine zq_top (z := (nI q)) h0.2.2.2.2.2.2.1 ?_
      refine lv_icmp_le (tgt := 25) hx hb dX0_writeUpTo_12 (by decide) (fun c12 => ?_) (fun c12 => ?_)
      · have hc := zq_le (by omega) (by omega) c12
        refine lv_iload_n hx hb dX0_writeUpTo_25 rfl (lv_at hl 0 rfl) ?_
        exact hQ _ _ (nI (zq_lw P pl z)) u _ _ rfl hI (⟨rfl, by rw [zq_lw_eq P pl q z hz1 hc]⟩) dX0_writeUpTo_26
      · have hc := zq_nle (by omega) (by omega) c12
        have hw := zq_lw_w P pl z (by omega)
        have h9 := (h0.2.2.2.2.1.2.2.1 (zq_lw P pl z) (by omega) (by omega)).2 (by omega)
        rw [hw] at h9
        refine lv_aload_n hx hb dX0_writeUpTo_15 rfl (lv_at hl 1 rfl) ?_
        refine zq_g0 F hI 12 (.ref (a 12)) rfl (by decide) q84 dX0_writeUpTo_16 ?_
        refine lv_iload_n hx hb dX0_writeUpTo_19 rfl (lv_at hl 0 rfl) ?_
        refine zq_sld hx hb hI 9 8 (n := 201) (f := (u 12)) rfl rfl (zq_lw P pl z) rfl (by omega) (by decide) dX0_writeUpTo_20 ?_
        refine zq_top (z := (nI (zq_lw P pl ((zq_lw P pl z) - 1)))) h9.2.2 ?_
        refine lv_istore_n (lv' := [(2, .int (nI (zq_lw P pl ((zq_lw P pl z) - 1)))), (0, .ref (a 0)), (1, .int (nI pl))]) hx hb dX0_writeUpTo_21 rfl hl (by decide) rfl (fun ls hl => ?_)
        refine lv_goto (tgt := 7) hx hb dX0_writeUpTo_22 (by decide) ?_
        exact ih ((zq_lw P pl z) - 1) (by have := zq_lw_le P pl ((zq_lw P pl z) - 1); omega) (by omega) (by omega) _ _ _ hI (lv_sub hl [0, 1, 2] rfl)
  refine lv_aload_n hx hb dX0_writeUpTo_0 rfl (lv_at hl 0 rfl) ?_
  refine zq_g0 F hI 15 (.ref (a 15)) rfl (by decide) q87 dX0_writeUpTo_1 ?_
  refine lv_iload_n hx hb dX0_writeUpTo_4 rfl (lv_at hl 1 rfl) ?_
  refine zq_sld hx hb hI 12 11 (n := 14) (f := (u 15)) rfl rfl pl rfl hp (by decide) dX0_writeUpTo_5 ?_
  refine zq_top (z := (nI (zq_lw P pl T))) (h0.2.2.2.2.1.2.2.2.1 pl hp) ?_
  refine lv_istore_n (lv' := [(2, .int (nI (zq_lw P pl T))), (0, .ref (a 0)), (1, .int (nI pl))]) hx hb dX0_writeUpTo_6 rfl hl (by decide) rfl (fun ls hl => ?_)
  exact loop (zq_lw P pl T + 1) T (by omega) hq (by omega) _ _ _ hI (lv_sub hl [0, 1, 2] rfl)
set_option maxHeartbeats 4000000 in
set_option maxRecDepth 100000 in
/-- steps -/
theorem m0_steps (l : Launch) (a : Nat → Nat) (ca : Nat → ClassId) (u : zq_St) (P : zq_St) (n T q : Nat) (h0 : zq_I0 P n T q u) : zq_Ci l yX0_steps cX0_steps 1 .int 0 (a 0) [] (zq_t0 ca) (zq_w0 a ca) u (fun r u' => r = nI T ∧ zq_I0 P n T q u') := by
  refine zq_starti (by decide) (Nat.le_of_ble_eq_true rfl) ?_
  intro p e s m args below meth c D A Q ls F hQ hI hl
  have hx := F.1
  have hb := F.2.1
  have hl : lv_has ls 1 [(0, .ref (a 0))] := hl
  refine lv_aload_n hx hb dX0_steps_0 rfl (lv_at hl 0 rfl) ?_
  refine zq_g0 F hI 8 (.int (u 8 0)) rfl (by decide) q80 dX0_steps_1 ?_
  refine zq_top (z := (nI T)) h0.2.2.2.2.2.2.2 ?_
  exact hQ _ _ (nI T) u _ _ rfl hI (⟨rfl, h0⟩) dX0_steps_4
set_option maxHeartbeats 4000000 in
set_option maxRecDepth 100000 in
/-- time -/
theorem m0_time (l : Launch) (a : Nat → Nat) (ca : Nat → ClassId) (u : zq_St) (P : zq_St) (n T q : Nat) (h0 : zq_I0 P n T q u) : zq_Ci l yX0_time cX0_time 1 .int 0 (a 0) [] (zq_t0 ca) (zq_w0 a ca) u (fun r u' => r = nI q ∧ zq_I0 P n T q u') := by
  refine zq_starti (by decide) (Nat.le_of_ble_eq_true rfl) ?_
  intro p e s m args below meth c D A Q ls F hQ hI hl
  have hx := F.1
  have hb := F.2.1
  have hl : lv_has ls 1 [(0, .ref (a 0))] := hl
  refine lv_aload_n hx hb dX0_time_0 rfl (lv_at hl 0 rfl) ?_
  refine zq_g0 F hI 7 (.int (u 7 0)) rfl (by decide) q79 dX0_time_1 ?_
  refine zq_top (z := (nI q)) h0.2.2.2.2.2.2.1 ?_
  exact hQ _ _ (nI q) u _ _ rfl hI (⟨rfl, h0⟩) dX0_time_4
set_option maxHeartbeats 4000000 in
set_option maxRecDepth 100000 in
/-- goTo -/
theorem m0_goTo (l : Launch) (a : Nat → Nat) (ca : Nat → ClassId) (u : zq_St) (P : zq_St) (n T q : Nat) (h0 : zq_I0 P n T q u) (x1 : Int32) : zq_Ci l yX0_goTo cX0_goTo 2 .int 2 (a 0) [.int x1] (zq_t0 ca) (zq_w0 a ca) u (fun r u' => ∃ q', zq_sGo P T q x1 r q' ∧ zq_I0 P n T q' u') := by
  refine zq_starti (by decide) (Nat.le_of_ble_eq_true rfl) ?_
  intro p e s m args below meth c D A Q ls F hQ hI hl
  have hx := F.1
  have hb := F.2.1
  have hl : lv_has ls 2 [(0, .ref (a 0)), (1, .int x1)] := hl
  have hT := h0.2.1.1
  refine lv_iload_n hx hb dX0_goTo_0 rfl (lv_at hl 1 rfl) ?_
  refine lv_if_lt (tgt := 12) hx hb dX0_goTo_1 (by decide) (fun c1 => ?_) (fun c1 => ?_)
  · refine lv_iconst (v := (-1)) hx hb dX0_goTo_12 (by decide) ?_
    exact hQ _ _ (-1) u _ _ rfl hI (⟨q, Or.inr ⟨fun k hk => zq_out_neg (T + 1) (by omega) c1 k (by omega), rfl, rfl⟩, h0⟩) dX0_goTo_13
  · refine lv_iload_n hx hb dX0_goTo_4 rfl (lv_at hl 1 rfl) ?_
    refine lv_aload_n hx hb dX0_goTo_5 rfl (lv_at hl 0 rfl) ?_
    refine zq_g0 F hI 8 (.int (u 8 0)) rfl (by decide) q80 dX0_goTo_6 ?_
    refine zq_top (z := (nI T)) h0.2.2.2.2.2.2.2 ?_
    refine lv_icmp_le (tgt := 14) hx hb dX0_goTo_9 (by decide) (fun c9 => ?_) (fun c9 => ?_)
    · obtain ⟨k, hk, ex⟩ := zq_in_le T rfl (by omega) c1 c9
      subst ex
      refine lv_aload_n hx hb dX0_goTo_14 rfl (lv_at hl 0 rfl) ?_
      refine lv_iload_n hx hb dX0_goTo_15 rfl (lv_at hl 1 rfl) ?_
      refine zq_c0v (rest := []) F hI (m0_travel l a ca u P n T q k _ rfl h0 (by omega)) q52 q54 qs5 q22 q55 rfl hdX0_travel (by decide) hl.1 rfl (Nat.le_of_ble_eq_true rfl) dX0_goTo_16 (by decide) (fun u16 H locs hp16 hI => ?_)
      refine lv_aload_n hx hb dX0_goTo_19 rfl (lv_at hl 0 rfl) ?_
      refine zq_g0 F hI 13 (.ref (a 13)) rfl (by decide) q85 dX0_goTo_20 ?_
      refine lv_iload_n hx hb dX0_goTo_23 rfl (lv_at hl 1 rfl) ?_
      refine zq_bld hx hb hI 10 9 (n := 201) (f := (u16 13)) rfl rfl k rfl (by omega) (by decide) dX0_goTo_24 ?_
      refine zq_top (z := (nI (zq_N P k))) ((hp16.2.2.2.2.1.1 k (by omega)).1) ?_
      exact hQ _ _ (nI (zq_N P k)) u16 _ _ rfl hI (⟨k, Or.inl ⟨k, by omega, rfl, rfl, rfl⟩, hp16⟩) dX0_goTo_25
    · refine lv_iconst (v := (-1)) hx hb dX0_goTo_12 (by decide) ?_
      exact hQ _ _ (-1) u _ _ rfl hI (⟨q, Or.inr ⟨fun k hk => zq_out_nle T rfl (by omega) c9 k (by omega), rfl, rfl⟩, h0⟩) dX0_goTo_13
set_option maxHeartbeats 4000000 in
set_option maxRecDepth 100000 in
/-- variable -/
theorem m0_variable (l : Launch) (a : Nat → Nat) (ca : Nat → ClassId) (u : zq_St) (P : zq_St) (n T q : Nat) (h0 : zq_I0 P n T q u) (x1 : Int32) : zq_Ci l yX0_variable cX0_variable 2 .int 1 (a 0) [.int x1] (zq_t0 ca) (zq_w0 a ca) u (fun r u' => zq_sVa P q x1 r ∧ zq_I0 P n T q u') := by
  refine zq_starti (by decide) (Nat.le_of_ble_eq_true rfl) ?_
  intro p e s m args below meth c D A Q ls F hQ hI hl
  have hx := F.1
  have hb := F.2.1
  have hl : lv_has ls 2 [(0, .ref (a 0)), (1, .int x1)] := hl
  refine lv_aload_n hx hb dX0_variable_0 rfl (lv_at hl 0 rfl) ?_
  refine lv_iload_n hx hb dX0_variable_1 rfl (lv_at hl 1 rfl) ?_
  refine zq_c0i (rest := []) F hI (m0_isVariable l a ca u x1) q138 q140 qs11 q22 q141 rfl hdX0_isVariable (by decide) hl.1 rfl (Nat.le_of_ble_eq_true rfl) dX0_variable_2 (by decide) (fun r2 u2 H locs hp2 hI => ?_)
  obtain ⟨hu2, hp2⟩ := hp2
  rw [hu2] at hI
  refine lv_if_eq (tgt := 17) hx hb dX0_variable_5 (by decide) (fun c5 => ?_) (fun c5 => ?_)
  · refine lv_iconst (v := 0) hx hb dX0_variable_17 (by decide) ?_
    exact hQ _ _ 0 u _ _ rfl hI (⟨Or.inr ⟨zq_no2 (zq_b_f hp2 c5), rfl⟩, h0⟩) dX0_variable_18
  · obtain ⟨k, hk, ex⟩ := zq_b_t hp2 c5
    subst ex
    refine lv_aload_n hx hb dX0_variable_8 rfl (lv_at hl 0 rfl) ?_
    refine zq_g0 F hI 6 (.ref (a 6)) rfl (by decide) q78 dX0_variable_9 ?_
    refine lv_iload_n hx hb dX0_variable_12 rfl (lv_at hl 1 rfl) ?_
    refine zq_ild hx hb hI 5 4 (n := 14) (f := (u 6)) rfl rfl k rfl (by omega) (by decide) dX0_variable_13 ?_
    refine zq_top (z := (zq_M P q k)) (h0.2.2.2.2.2.1 k (by omega)) ?_
    refine lv_goto (tgt := 18) hx hb dX0_variable_14 (by decide) ?_
    exact hQ _ _ (zq_M P q k) u _ _ rfl hI (⟨Or.inl ⟨k, hk, rfl, rfl⟩, h0⟩) dX0_variable_18
set_option maxHeartbeats 4000000 in
set_option maxRecDepth 100000 in
/-- cell -/
theorem m0_cell (l : Launch) (a : Nat → Nat) (ca : Nat → ClassId) (u : zq_St) (P : zq_St) (n T q : Nat) (h0 : zq_I0 P n T q u) (x1 : Int32) : zq_Ci l yX0_cell cX0_cell 2 .int 0 (a 0) [.int x1] (zq_t0 ca) (zq_w0 a ca) u (fun r u' => zq_sCe P q x1 r ∧ zq_I0 P n T q u') := by
  refine zq_starti (by decide) (Nat.le_of_ble_eq_true rfl) ?_
  intro p e s m args below meth c D A Q ls F hQ hI hl
  have hx := F.1
  have hb := F.2.1
  have hl : lv_has ls 2 [(0, .ref (a 0)), (1, .int x1)] := hl
  refine lv_iload_n hx hb dX0_cell_0 rfl (lv_at hl 1 rfl) ?_
  refine lv_if_lt (tgt := 10) hx hb dX0_cell_1 (by decide) (fun c1 => ?_) (fun c1 => ?_)
  · refine lv_iconst (v := 0) hx hb dX0_cell_10 (by decide) ?_
    refine lv_goto (tgt := 23) hx hb dX0_cell_11 (by decide) ?_
    exact hQ _ _ 0 u _ _ rfl hI (⟨Or.inr ⟨zq_out_neg 8 (by omega) c1, rfl⟩, h0⟩) dX0_cell_23
  · refine lv_iload_n hx hb dX0_cell_4 rfl (lv_at hl 1 rfl) ?_
    refine lv_bipush (v := (nI 7)) hx hb dX0_cell_5 (by decide) ?_
    refine lv_icmp_le (tgt := 14) hx hb dX0_cell_7 (by decide) (fun c7 => ?_) (fun c7 => ?_)
    · obtain ⟨k, hk, ex⟩ := zq_in_le 7 rfl (by omega) c1 c7
      subst ex
      refine lv_aload_n hx hb dX0_cell_14 rfl (lv_at hl 0 rfl) ?_
      refine zq_g0 F hI 6 (.ref (a 6)) rfl (by decide) q78 dX0_cell_15 ?_
      refine lv_bipush (v := (nI 6)) hx hb dX0_cell_18 (by decide) ?_
      refine lv_iload_n hx hb dX0_cell_20 rfl (lv_at hl 1 rfl) ?_
      refine lv_iadd hx hb dX0_cell_21 ?_
      refine zq_top (z := (nI (6 + k))) (nI_add 6 k) ?_
      refine zq_ild hx hb hI 5 4 (n := 14) (f := (u 6)) rfl rfl (6 + k) rfl (by omega) (by decide) dX0_cell_22 ?_
      refine zq_top (z := (zq_M P q (6 + k))) (h0.2.2.2.2.2.1 (6 + k) (by omega)) ?_
      exact hQ _ _ (zq_M P q (6 + k)) u _ _ rfl hI (⟨Or.inl ⟨k, by omega, rfl, rfl⟩, h0⟩) dX0_cell_23
    · refine lv_iconst (v := 0) hx hb dX0_cell_10 (by decide) ?_
      refine lv_goto (tgt := 23) hx hb dX0_cell_11 (by decide) ?_
      exact hQ _ _ 0 u _ _ rfl hI (⟨Or.inr ⟨zq_out_nle 7 rfl (by omega) c7, rfl⟩, h0⟩) dX0_cell_23
set_option maxHeartbeats 4000000 in
set_option maxRecDepth 100000 in
/-- lastWrite -/
theorem m0_lastWrite (l : Launch) (a : Nat → Nat) (ca : Nat → ClassId) (u : zq_St) (P : zq_St) (n T q : Nat) (h0 : zq_I0 P n T q u) (x1 x2 : Int32) : zq_Ci l yX0_lastWrite cX0_lastWrite 3 .int 1 (a 0) [.int x1, .int x2] (zq_t0 ca) (zq_w0 a ca) u (fun r u' => zq_sLw P q x1 x2 r ∧ zq_I0 P n T q u') := by
  refine zq_starti (by decide) (Nat.le_of_ble_eq_true rfl) ?_
  intro p e s m args below meth c D A Q ls F hQ hI hl
  have hx := F.1
  have hb := F.2.1
  have hl : lv_has ls 3 [(0, .ref (a 0)), (1, .int x1), (2, .int x2)] := hl
  refine lv_iload_n hx hb dX0_lastWrite_0 rfl (lv_at hl 1 rfl) ?_
  refine lv_if_lt (tgt := 9) hx hb dX0_lastWrite_1 (by decide) (fun c1 => ?_) (fun c1 => ?_)
  · refine lv_iconst (v := (-1)) hx hb dX0_lastWrite_9 (by decide) ?_
    exact hQ _ _ (-1) u _ _ rfl hI (⟨Or.inr (Or.inr ⟨fun k hk e => by rw [e] at c1; exact absurd c1 (by decide), fun k hk e => by rw [e] at c1; exact absurd c1 (by decide), rfl⟩), h0⟩) dX0_lastWrite_10
  · refine lv_iload_n hx hb dX0_lastWrite_4 rfl (lv_at hl 1 rfl) ?_
    refine lv_iconst (v := (nI 1)) hx hb dX0_lastWrite_5 (by decide) ?_
    refine lv_icmp_le (tgt := 11) hx hb dX0_lastWrite_6 (by decide) (fun c6 => ?_) (fun c6 => ?_)
    · refine lv_iload_n hx hb dX0_lastWrite_11 rfl (lv_at hl 2 rfl) ?_
      refine lv_if_lt (tgt := 29) hx hb dX0_lastWrite_12 (by decide) (fun c12 => ?_) (fun c12 => ?_)
      · refine lv_iconst (v := (-1)) hx hb dX0_lastWrite_29 (by decide) ?_
        exact hQ _ _ (-1) u _ _ rfl hI (⟨Or.inr (Or.inr ⟨fun k hk _ => zq_out_neg 6 (by omega) c12 k hk, fun k hk _ => zq_out_neg 8 (by omega) c12 k hk, rfl⟩), h0⟩) dX0_lastWrite_30
      · refine lv_iload_n hx hb dX0_lastWrite_15 rfl (lv_at hl 2 rfl) ?_
        refine lv_iload_n hx hb dX0_lastWrite_16 rfl (lv_at hl 1 rfl) ?_
        refine lv_if_ne (tgt := 24) hx hb dX0_lastWrite_17 (by decide) (fun c17 => ?_) (fun c17 => ?_)
        · refine lv_bipush (v := (nI 7)) hx hb dX0_lastWrite_24 (by decide) ?_
          refine lv_icmp_le (tgt := 31) hx hb dX0_lastWrite_26 (by decide) (fun c26 => ?_) (fun c26 => ?_)
          · obtain ⟨k, hk, ex⟩ := zq_in_le 7 rfl (by omega) c12 c26
            subst ex
            have e1 : x1 = 1 := by obtain ⟨k1, hk1, ex1⟩ := zq_in_le 1 rfl (by omega) c1 c6
                                   rcases (show k1 = 0 ∨ k1 = 1 by omega) with g | g
                                   · rw [g] at ex1; exact absurd ex1 c17
                                   · rw [g] at ex1; exact ex1
            refine lv_aload_n hx hb dX0_lastWrite_31 rfl (lv_at hl 0 rfl) ?_
            refine lv_bipush (v := (nI 6)) hx hb dX0_lastWrite_32 (by decide) ?_
            refine lv_iload_n hx hb dX0_lastWrite_34 rfl (lv_at hl 1 rfl) ?_
            refine lv_imul hx hb dX0_lastWrite_35 ?_
            refine zq_top (z := (nI 6)) (by rw [e1]; decide) ?_
            refine lv_iload_n hx hb dX0_lastWrite_36 rfl (lv_at hl 2 rfl) ?_
            refine lv_iadd hx hb dX0_lastWrite_37 ?_
            refine zq_top (z := (nI (6 + k))) (nI_add 6 k) ?_
            refine zq_c0i (rest := []) F hI (m0_writeUpTo l a ca u P n T q h0 _ (6 + k) rfl (by omega)) q170 q172 qs12 q22 q173 rfl hdX0_writeUpTo (by decide) hl.1 rfl (Nat.le_of_ble_eq_true rfl) dX0_lastWrite_38 (by decide) (fun r38 u38 H locs hp38 hI => ?_)
            obtain ⟨hu38, hp38⟩ := hp38
            rw [hu38] at hI
            exact hQ _ _ r38 u _ _ rfl hI (⟨Or.inr (Or.inl ⟨k, by omega, e1, rfl, hp38⟩), h0⟩) dX0_lastWrite_41
          · refine lv_iconst (v := (-1)) hx hb dX0_lastWrite_29 (by decide) ?_
            exact hQ _ _ (-1) u _ _ rfl hI (⟨Or.inr (Or.inr ⟨fun k hk e => absurd e c17, fun k hk _ => zq_out_nle 7 rfl (by omega) c26 k hk, rfl⟩), h0⟩) dX0_lastWrite_30
        · refine lv_iconst (v := (nI 5)) hx hb dX0_lastWrite_20 (by decide) ?_
          refine lv_goto (tgt := 26) hx hb dX0_lastWrite_21 (by decide) ?_
          refine lv_icmp_le (tgt := 31) hx hb dX0_lastWrite_26 (by decide) (fun c26 => ?_) (fun c26 => ?_)
          · obtain ⟨k, hk, ex⟩ := zq_in_le 5 rfl (by omega) c12 c26
            subst ex
            refine lv_aload_n hx hb dX0_lastWrite_31 rfl (lv_at hl 0 rfl) ?_
            refine lv_bipush (v := (nI 6)) hx hb dX0_lastWrite_32 (by decide) ?_
            refine lv_iload_n hx hb dX0_lastWrite_34 rfl (lv_at hl 1 rfl) ?_
            refine lv_imul hx hb dX0_lastWrite_35 ?_
            refine zq_top (z := (nI 0)) (by rw [c17]; decide) ?_
            refine lv_iload_n hx hb dX0_lastWrite_36 rfl (lv_at hl 2 rfl) ?_
            refine lv_iadd hx hb dX0_lastWrite_37 ?_
            refine zq_top (z := (nI k)) ((nI_add 0 k).trans (by rw [Nat.zero_add])) ?_
            refine zq_c0i (rest := []) F hI (m0_writeUpTo l a ca u P n T q h0 _ k rfl (by omega)) q170 q172 qs12 q22 q173 rfl hdX0_writeUpTo (by decide) hl.1 rfl (Nat.le_of_ble_eq_true rfl) dX0_lastWrite_38 (by decide) (fun r38 u38 H locs hp38 hI => ?_)
            obtain ⟨hu38, hp38⟩ := hp38
            rw [hu38] at hI
            exact hQ _ _ r38 u _ _ rfl hI (⟨Or.inl ⟨k, by omega, c17, rfl, hp38⟩, h0⟩) dX0_lastWrite_41
          · refine lv_iconst (v := (-1)) hx hb dX0_lastWrite_29 (by decide) ?_
            exact hQ _ _ (-1) u _ _ rfl hI (⟨Or.inr (Or.inr ⟨fun k hk _ => zq_out_nle 5 rfl (by omega) c26 k hk, fun k hk e => by rw [c17] at e; exact absurd e (by decide), rfl⟩), h0⟩) dX0_lastWrite_30
    · refine lv_iconst (v := (-1)) hx hb dX0_lastWrite_9 (by decide) ?_
      exact hQ _ _ (-1) u _ _ rfl hI (⟨Or.inr (Or.inr ⟨fun k hk e => by rw [e] at c6; exact absurd (by decide) c6, fun k hk e => by rw [e] at c6; exact absurd (by decide) c6, rfl⟩), h0⟩) dX0_lastWrite_10
set_option maxHeartbeats 4000000 in
set_option maxRecDepth 100000 in
/-- backBeforeWrite -/
theorem m0_backBeforeWrite (l : Launch) (a : Nat → Nat) (ca : Nat → ClassId) (u : zq_St) (P : zq_St) (n T q : Nat) (h0 : zq_I0 P n T q u) (x1 : Int32) : zq_Ci l yX0_backBeforeWrite cX0_backBeforeWrite 3 .int 2 (a 0) [.int x1] (zq_t0 ca) (zq_w0 a ca) u (fun r u' => ∃ q', zq_sBw P q x1 r q' ∧ zq_I0 P n T q' u') := by
  refine zq_starti (by decide) (Nat.le_of_ble_eq_true rfl) ?_
  intro p e s m args below meth c D A Q ls F hQ hI hl
  have hx := F.1
  have hb := F.2.1
  have hl : lv_has ls 3 [(0, .ref (a 0)), (1, .int x1)] := hl
  have hT := h0.2.1.1
  have hq := h0.2.2.1
  refine lv_aload_n hx hb dX0_backBeforeWrite_0 rfl (lv_at hl 0 rfl) ?_
  refine lv_iload_n hx hb dX0_backBeforeWrite_1 rfl (lv_at hl 1 rfl) ?_
  refine zq_c0i (rest := []) F hI (m0_isVariable l a ca u x1) q138 q140 qs11 q22 q141 rfl hdX0_isVariable (by decide) hl.1 rfl (Nat.le_of_ble_eq_true rfl) dX0_backBeforeWrite_2 (by decide) (fun r2 u2 H locs hp2 hI => ?_)
  obtain ⟨hu2, hp2⟩ := hp2
  rw [hu2] at hI
  refine lv_if_ne (tgt := 10) hx hb dX0_backBeforeWrite_5 (by decide) (fun c5 => ?_) (fun c5 => ?_)
  · obtain ⟨k, hk, ex⟩ := zq_b_t hp2 c5
    subst ex
    refine lv_aload_n hx hb dX0_backBeforeWrite_10 rfl (lv_at hl 0 rfl) ?_
    refine lv_iload_n hx hb dX0_backBeforeWrite_11 rfl (lv_at hl 1 rfl) ?_
    refine zq_c0i (rest := []) F hI (m0_writeUpTo l a ca u P n T q h0 _ k rfl (by omega)) q170 q172 qs12 q22 q173 rfl hdX0_writeUpTo (by decide) hl.1 rfl (Nat.le_of_ble_eq_true rfl) dX0_backBeforeWrite_12 (by decide) (fun r12 u12 H locs hp12 hI => ?_)
    obtain ⟨hu12, hp12⟩ := hp12
    rw [hu12] at hI
    refine zq_top (z := (nI (zq_lw P k q))) hp12 ?_
    have hlw := zq_lw_le P k q
    refine lv_istore_n (lv' := [(2, .int (nI (zq_lw P k q))), (0, .ref (a 0)), (1, .int (nI k))]) hx hb dX0_backBeforeWrite_15 rfl hl (by decide) rfl (fun ls hl => ?_)
    refine lv_iload_n hx hb dX0_backBeforeWrite_16 rfl (lv_at hl 0 rfl) ?_
    refine lv_if_ne (tgt := 23) hx hb dX0_backBeforeWrite_17 (by decide) (fun c17 => ?_) (fun c17 => ?_)
    · have h17 := zq_nI0n c17
      refine lv_aload_n hx hb dX0_backBeforeWrite_23 rfl (lv_at hl 1 rfl) ?_
      refine lv_iload_n hx hb dX0_backBeforeWrite_24 rfl (lv_at hl 0 rfl) ?_
      refine lv_iconst (v := (nI 1)) hx hb dX0_backBeforeWrite_25 (by decide) ?_
      refine lv_isub hx hb dX0_backBeforeWrite_26 ?_
      refine zq_top (z := (nI ((zq_lw P k q) - 1))) (zq_sub1 (by omega)) ?_
      refine zq_c0v (rest := []) F hI (m0_travel l a ca u P n T q ((zq_lw P k q) - 1) _ rfl h0 (by omega)) q52 q54 qs5 q22 q55 rfl hdX0_travel (by decide) hl.1 rfl (Nat.le_of_ble_eq_true rfl) dX0_backBeforeWrite_27 (by decide) (fun u27 H locs hp27 hI => ?_)
      refine lv_iload_n hx hb dX0_backBeforeWrite_30 rfl (lv_at hl 0 rfl) ?_
      refine lv_iconst (v := (nI 1)) hx hb dX0_backBeforeWrite_31 (by decide) ?_
      refine lv_isub hx hb dX0_backBeforeWrite_32 ?_
      refine zq_top (z := (nI ((zq_lw P k q) - 1))) (zq_sub1 (by omega)) ?_
      exact hQ _ _ (nI ((zq_lw P k q) - 1)) u27 _ _ rfl hI (⟨_, Or.inr (Or.inl ⟨k, hk, rfl, by omega, rfl, rfl⟩), hp27⟩) dX0_backBeforeWrite_33
    · refine lv_bipush (v := (-3)) hx hb dX0_backBeforeWrite_20 (by decide) ?_
      exact hQ _ _ (-3) u _ _ rfl hI (⟨q, Or.inl ⟨k, hk, rfl, zq_nI0 (by omega) c17, rfl, rfl⟩, h0⟩) dX0_backBeforeWrite_22
  · refine lv_iconst (v := (-1)) hx hb dX0_backBeforeWrite_8 (by decide) ?_
    exact hQ _ _ (-1) u _ _ rfl hI (⟨q, Or.inr (Or.inr ⟨zq_no2 (zq_b_f hp2 c5), rfl, rfl⟩), h0⟩) dX0_backBeforeWrite_9
end
section
/-! TraceDebugger: runTo, backTo, emit, input -/
set_option maxRecDepth 100000
set_option maxHeartbeats 4000000 in
set_option maxRecDepth 100000 in
/-- runTo -/
theorem m0_runTo (l : Launch) (a : Nat → Nat) (ca : Nat → ClassId) (u : zq_St) (P : zq_St) (n T q : Nat) (h0 : zq_I0 P n T q u) (x1 : Int32) : zq_Ci l yX0_runTo cX0_runTo 4 .int 2 (a 0) [.int x1] (zq_t0 ca) (zq_w0 a ca) u (fun r u' => ∃ q', zq_sRu P T q x1 r q' ∧ zq_I0 P n T q' u') := by
  refine zq_starti (by decide) (Nat.le_of_ble_eq_true rfl) ?_
  intro p e s m args below meth c D A Q ls F hQ hI hl
  have hx := F.1
  have hb := F.2.1
  have hl : lv_has ls 4 [(0, .ref (a 0)), (1, .int x1)] := hl
  have hT := h0.2.1.1
  have hq := h0.2.2.1
  refine lv_iload_n hx hb dX0_runTo_0 rfl (lv_at hl 1 rfl) ?_
  refine lv_if_lt (tgt := 10) hx hb dX0_runTo_1 (by decide) (fun c1 => ?_) (fun c1 => ?_)
  · refine lv_iconst (v := (-1)) hx hb dX0_runTo_10 (by decide) ?_
    exact hQ _ _ (-1) u _ _ rfl hI (⟨q, Or.inr (Or.inr ⟨zq_out_neg 20 (by omega) c1, rfl, rfl⟩), h0⟩) dX0_runTo_11
  · refine lv_iload_n hx hb dX0_runTo_4 rfl (lv_at hl 1 rfl) ?_
    refine lv_bipush (v := (nI 19)) hx hb dX0_runTo_5 (by decide) ?_
    refine lv_icmp_le (tgt := 12) hx hb dX0_runTo_7 (by decide) (fun c7 => ?_) (fun c7 => ?_)
    · obtain ⟨k, hk, ex⟩ := zq_in_le 19 rfl (by omega) c1 c7
      subst ex
      have exit : ∀ (z : Nat) (la : Int32), q < z → z ≤ T + 1 → ((z = T + 1 ∧ la = -1) ∨ (z ≤ T ∧ zq_N P z = k ∧ la = nI z)) → (∀ r, q < r → r < z → zq_N P r ≠ k) → ∀ (H : Heap) (locs : List Loc) (ls : Array Slot), zq_IW D (zq_t0 ca) A s (zq_w0 a ca u) H locs → lv_has ls 4 [(3, .int (zq_lt P k z)), (2, .int la), (0, .ref (a 0)), (1, .int (nI k))] → W p l e (zq_rm 2) s m args below meth c H locs 0 0 Q (F0 m 41 ls []) := by
        intro z la hz1 hz2 hla hno H locs ls hI hl
        rcases hla with ⟨e1, e2⟩ | ⟨e1, e2, e3⟩
        · subst e2
          refine lv_iload_n hx hb dX0_runTo_41 rfl (lv_at hl 1 rfl) ?_
          refine lv_if_ge (tgt := 48) hx hb dX0_runTo_42 (by decide) (fun c42 => ?_) (fun c42 => ?_)
          · exact absurd c42 (by decide)
          · refine lv_bipush (v := (-3)) hx hb dX0_runTo_45 (by decide) ?_
            exact hQ _ _ (-3) u _ _ rfl hI (⟨q, Or.inr (Or.inl ⟨k, hk, rfl, fun r g1 g2 => hno r g1 (by omega), rfl, rfl⟩), h0⟩) dX0_runTo_47
        · subst e3
          refine lv_iload_n hx hb dX0_runTo_41 rfl (lv_at hl 1 rfl) ?_
          refine lv_if_ge (tgt := 48) hx hb dX0_runTo_42 (by decide) (fun c42 => ?_) (fun c42 => ?_)
          · refine lv_aload_n hx hb dX0_runTo_48 rfl (lv_at hl 2 rfl) ?_
            refine lv_iload_n hx hb dX0_runTo_49 rfl (lv_at hl 1 rfl) ?_
            refine zq_c0v (rest := []) F hI (m0_travel l a ca u P n T q z _ rfl h0 e1) q52 q54 qs5 q22 q55 rfl hdX0_travel (by decide) hl.1 rfl (Nat.le_of_ble_eq_true rfl) dX0_runTo_50 (by decide) (fun u50 H locs hp50 hI => ?_)
            refine lv_iload_n hx hb dX0_runTo_53 rfl (lv_at hl 1 rfl) ?_
            exact hQ _ _ (nI z) u50 _ _ rfl hI (⟨z, Or.inl ⟨k, z, hk, rfl, hz1, e1, e2, hno, rfl, rfl⟩, hp50⟩) dX0_runTo_54
          · exact absurd (nI_pos' (by omega)) c42
      have loop : ∀ (d z : Nat) (la : Int32), z < d → q < z → z ≤ T + 1 → ((z = T + 1 ∧ la = -1) ∨ (z ≤ T ∧ zq_N P z = k ∧ la = nI z)) → ∀ (H : Heap) (locs : List Loc) (ls : Array Slot), zq_IW D (zq_t0 ca) A s (zq_w0 a ca u) H locs → lv_has ls 4 [(3, .int (zq_lt P k z)), (2, .int la), (0, .ref (a 0)), (1, .int (nI k))] → W p l e (zq_rm 2) s m args below meth c H locs 0 0 Q (F0 m 21 ls []) := by
        intro d
        induction d with
        | zero =>
          intro z la g1
          exact absurd g1 (by omega)
        | succ d ih =>
          intro z la hz0 hz1 hz2 hla H locs ls hI hl
          refine lv_iload_n hx hb dX0_runTo_21 rfl (lv_at hl 0 rfl) ?_
          refine lv_aload_n hx hb dX0_runTo_22 rfl (lv_at hl 2 rfl) ?_
          refine zq_g0 F hI 7 (.int (u 7 0)) rfl (by decide) q79 dX0_runTo_23 ?_
          refine zq_top (z := (nI q)) h0.2.2.2.2.2.2.1 ?_
          refine lv_icmp_le (tgt := 41) hx hb dX0_runTo_26 (by decide) (fun c26 => ?_) (fun c26 => ?_)
          · exact exit z la hz1 hz2 hla (zq_lt_le (by omega) (by omega) c26) _ _ _ hI hl
          · obtain ⟨r, hr1, hr2, hr3, hr4⟩ := zq_lt_gt (by omega) (by omega) c26
            have h14 := (h0.2.2.2.2.1.1 r (by omega)).2
            rw [hr4] at h14
            rw [hr3] at hl
            refine lv_iload_n hx hb dX0_runTo_29 rfl (lv_at hl 0 rfl) ?_
            refine lv_istore_n (lv' := [(2, .int (nI r)), (3, .int (nI r)), (0, .ref (a 0)), (1, .int (nI k))]) hx hb dX0_runTo_30 rfl hl (by decide) rfl (fun ls hl => ?_)
            refine lv_aload_n hx hb dX0_runTo_31 rfl (lv_at hl 2 rfl) ?_
            refine zq_g0 F hI 14 (.ref (a 14)) rfl (by decide) q86 dX0_runTo_32 ?_
            refine lv_iload_n hx hb dX0_runTo_35 rfl (lv_at hl 1 rfl) ?_
            refine zq_sld hx hb hI 11 10 (n := 201) (f := (u 14)) rfl rfl r rfl (by omega) (by decide) dX0_runTo_36 ?_
            refine zq_top (z := (zq_lt P k r)) h14 ?_
            refine lv_istore_n (lv' := [(3, .int (zq_lt P k r)), (2, .int (nI r)), (0, .ref (a 0)), (1, .int (nI k))]) hx hb dX0_runTo_37 rfl hl (by decide) rfl (fun ls hl => ?_)
            refine lv_goto (tgt := 21) hx hb dX0_runTo_38 (by decide) ?_
            exact ih r (nI r) (by omega) hr1 (by omega) (Or.inr ⟨by omega, hr4, rfl⟩) _ _ _ hI (lv_sub hl [0, 1, 2, 3] rfl)
      refine lv_iconst (v := (-1)) hx hb dX0_runTo_12 (by decide) ?_
      refine lv_istore_n (lv' := [(2, .int (-1)), (0, .ref (a 0)), (1, .int (nI k))]) hx hb dX0_runTo_13 rfl hl (by decide) rfl (fun ls hl => ?_)
      refine lv_aload_n hx hb dX0_runTo_14 rfl (lv_at hl 1 rfl) ?_
      refine zq_g0 F hI 16 (.ref (a 16)) rfl (by decide) q88 dX0_runTo_15 ?_
      refine lv_iload_n hx hb dX0_runTo_18 rfl (lv_at hl 2 rfl) ?_
      refine zq_sld hx hb hI 13 12 (n := 21) (f := (u 16)) rfl rfl k rfl (by omega) (by decide) dX0_runTo_19 ?_
      refine zq_top (z := (zq_lt P k (T + 1))) (h0.2.2.2.2.1.2.1 k (by omega)) ?_
      refine lv_istore_n (lv' := [(3, .int (zq_lt P k (T + 1))), (2, .int (-1)), (0, .ref (a 0)), (1, .int (nI k))]) hx hb dX0_runTo_20 rfl hl (by decide) rfl (fun ls hl => ?_)
      exact loop (T + 2) (T + 1) (-1) (by omega) (by omega) (by omega) (Or.inl ⟨rfl, rfl⟩) _ _ _ hI (lv_sub hl [0, 1, 2, 3] rfl)
    · refine lv_iconst (v := (-1)) hx hb dX0_runTo_10 (by decide) ?_
      exact hQ _ _ (-1) u _ _ rfl hI (⟨q, Or.inr (Or.inr ⟨zq_out_nle 19 rfl (by omega) c7, rfl, rfl⟩), h0⟩) dX0_runTo_11
set_option maxHeartbeats 4000000 in
set_option maxRecDepth 100000 in
/-- backTo -/
theorem m0_backTo (l : Launch) (a : Nat → Nat) (ca : Nat → ClassId) (u : zq_St) (P : zq_St) (n T q : Nat) (h0 : zq_I0 P n T q u) (x1 : Int32) : zq_Ci l yX0_backTo cX0_backTo 3 .int 2 (a 0) [.int x1] (zq_t0 ca) (zq_w0 a ca) u (fun r u' => ∃ q', zq_sBa P q x1 r q' ∧ zq_I0 P n T q' u') := by
  refine zq_starti (by decide) (Nat.le_of_ble_eq_true rfl) ?_
  intro p e s m args below meth c D A Q ls F hQ hI hl
  have hx := F.1
  have hb := F.2.1
  have hl : lv_has ls 3 [(0, .ref (a 0)), (1, .int x1)] := hl
  have hT := h0.2.1.1
  have hq := h0.2.2.1
  refine lv_iload_n hx hb dX0_backTo_0 rfl (lv_at hl 1 rfl) ?_
  refine lv_if_lt (tgt := 10) hx hb dX0_backTo_1 (by decide) (fun c1 => ?_) (fun c1 => ?_)
  · refine lv_iconst (v := (-1)) hx hb dX0_backTo_10 (by decide) ?_
    exact hQ _ _ (-1) u _ _ rfl hI (⟨q, Or.inr (Or.inr ⟨zq_out_neg 20 (by omega) c1, rfl, rfl⟩), h0⟩) dX0_backTo_11
  · refine lv_iload_n hx hb dX0_backTo_4 rfl (lv_at hl 1 rfl) ?_
    refine lv_bipush (v := (nI 19)) hx hb dX0_backTo_5 (by decide) ?_
    refine lv_icmp_le (tgt := 12) hx hb dX0_backTo_7 (by decide) (fun c7 => ?_) (fun c7 => ?_)
    · obtain ⟨k, hk, ex⟩ := zq_in_le 19 rfl (by omega) c1 c7
      subst ex
      have loop : ∀ (d z : Nat), z < d → q ≤ z → z ≤ T + 1 → ∀ (H : Heap) (locs : List Loc) (ls : Array Slot), zq_IW D (zq_t0 ca) A s (zq_w0 a ca u) H locs → lv_has ls 3 [(2, .int (zq_lt P k z)), (0, .ref (a 0)), (1, .int (nI k))] → W p l e (zq_rm 2) s m args below meth c H locs 0 0 Q (F0 m 19 ls []) := by
        intro d
        induction d with
        | zero =>
          intro z g1
          exact absurd g1 (by omega)
        | succ d ih =>
          intro z hz0 hz1 hz2 H locs ls hI hl
          refine lv_iload_n hx hb dX0_backTo_19 rfl (lv_at hl 0 rfl) ?_
          refine lv_aload_n hx hb dX0_backTo_20 rfl (lv_at hl 1 rfl) ?_
          refine zq_g0 F hI 7 (.int (u 7 0)) rfl (by decide) q79 dX0_backTo_21 ?_
          refine zq_top (z := (nI q)) h0.2.2.2.2.2.2.1 ?_
          refine lv_icmp_lt (tgt := 37) hx hb dX0_backTo_24 (by decide) (fun c24 => ?_) (fun c24 => ?_)
          · refine lv_iload_n hx hb dX0_backTo_37 rfl (lv_at hl 0 rfl) ?_
            refine lv_if_ge (tgt := 44) hx hb dX0_backTo_38 (by decide) (fun c38 => ?_) (fun c38 => ?_)
            · obtain ⟨r, hr1, hr3, hr4, hr5⟩ := zq_lt_pos (by omega) (by omega) hz1 c24 c38
              rw [hr3] at hl
              refine lv_aload_n hx hb dX0_backTo_44 rfl (lv_at hl 1 rfl) ?_
              refine lv_iload_n hx hb dX0_backTo_45 rfl (lv_at hl 0 rfl) ?_
              refine zq_c0v (rest := []) F hI (m0_travel l a ca u P n T q r _ rfl h0 (by omega)) q52 q54 qs5 q22 q55 rfl hdX0_travel (by decide) hl.1 rfl (Nat.le_of_ble_eq_true rfl) dX0_backTo_46 (by decide) (fun u46 H locs hp46 hI => ?_)
              refine lv_iload_n hx hb dX0_backTo_49 rfl (lv_at hl 0 rfl) ?_
              exact hQ _ _ (nI r) u46 _ _ rfl hI (⟨r, Or.inl ⟨k, r, hk, rfl, hr1, hr4, hr5, rfl, rfl⟩, hp46⟩) dX0_backTo_50
            · refine lv_bipush (v := (-3)) hx hb dX0_backTo_41 (by decide) ?_
              exact hQ _ _ (-3) u _ _ rfl hI (⟨q, Or.inr (Or.inl ⟨k, hk, rfl, zq_lt_neg (by omega) hz1 c38, rfl, rfl⟩), h0⟩) dX0_backTo_43
          · obtain ⟨r, hr1, hr2, hr3, hr4⟩ := zq_lt_nlt (by omega) (by omega) c24
            have h14 := (h0.2.2.2.2.1.1 r (by omega)).2
            rw [hr4] at h14
            rw [hr3] at hl
            refine lv_aload_n hx hb dX0_backTo_27 rfl (lv_at hl 1 rfl) ?_
            refine zq_g0 F hI 14 (.ref (a 14)) rfl (by decide) q86 dX0_backTo_28 ?_
            refine lv_iload_n hx hb dX0_backTo_31 rfl (lv_at hl 0 rfl) ?_
            refine zq_sld hx hb hI 11 10 (n := 201) (f := (u 14)) rfl rfl r rfl (by omega) (by decide) dX0_backTo_32 ?_
            refine zq_top (z := (zq_lt P k r)) h14 ?_
            refine lv_istore_n (lv' := [(2, .int (zq_lt P k r)), (0, .ref (a 0)), (1, .int (nI k))]) hx hb dX0_backTo_33 rfl hl (by decide) rfl (fun ls hl => ?_)
            refine lv_goto (tgt := 19) hx hb dX0_backTo_34 (by decide) ?_
            exact ih r (by omega) hr1 (by omega) _ _ _ hI (lv_sub hl [0, 1, 2] rfl)
      refine lv_aload_n hx hb dX0_backTo_12 rfl (lv_at hl 0 rfl) ?_
      refine zq_g0 F hI 16 (.ref (a 16)) rfl (by decide) q88 dX0_backTo_13 ?_
      refine lv_iload_n hx hb dX0_backTo_16 rfl (lv_at hl 1 rfl) ?_
      refine zq_sld hx hb hI 13 12 (n := 21) (f := (u 16)) rfl rfl k rfl (by omega) (by decide) dX0_backTo_17 ?_
      refine zq_top (z := (zq_lt P k (T + 1))) (h0.2.2.2.2.1.2.1 k (by omega)) ?_
      refine lv_istore_n (lv' := [(2, .int (zq_lt P k (T + 1))), (0, .ref (a 0)), (1, .int (nI k))]) hx hb dX0_backTo_18 rfl hl (by decide) rfl (fun ls hl => ?_)
      exact loop (T + 2) (T + 1) (by omega) (by omega) (by omega) _ _ _ hI (lv_sub hl [0, 1, 2] rfl)
    · refine lv_iconst (v := (-1)) hx hb dX0_backTo_10 (by decide) ?_
      exact hQ _ _ (-1) u _ _ rfl hI (⟨q, Or.inr (Or.inr ⟨zq_out_nle 19 rfl (by omega) c7, rfl, rfl⟩), h0⟩) dX0_backTo_11
set_option maxHeartbeats 4000000 in
set_option maxRecDepth 100000 in
/-- emit -/
theorem m0_emit (l : Launch) (a : Nat → Nat) (ca : Nat → ClassId) (u : zq_St) (P : zq_St) (n T q : Nat) (h0 : zq_I0 P n T q u) (o x y z : Int32) : zq_Ci l yX0_emit cX0_emit 5 .int 4 (a 0) [.int o, .int x, .int y, .int z] (zq_t0 ca) (zq_w0 a ca) u (fun r u' => ∃ P' n' T' q', zq_sEm P n q o x y z r P' n' q' ∧ zq_I0 P' n' T' q' u') := by
  refine zq_starti (by decide) (Nat.le_of_ble_eq_true rfl) ?_
  intro p e s m args below meth c D A Q ls F hQ hI hl
  have hx := F.1
  have hb := F.2.1
  have hl : lv_has ls 5 [(0, .ref (a 0)), (1, .int o), (2, .int x), (3, .int y), (4, .int z)] := hl
  have hA := h0.2.2.2.1
  have hn0 := hA.1.trans h0.1.1
  have h20 := h0.1.2.1
  refine lv_aload_n hx hb dX0_emit_0 rfl (lv_at hl 0 rfl) ?_
  refine zq_g0 F hI 0 (.int (u 0 0)) rfl (by decide) q72 dX0_emit_1 ?_
  refine zq_top (z := (nI n)) hn0 ?_
  refine lv_bipush (v := (nI 20)) hx hb dX0_emit_4 (by decide) ?_
  refine lv_icmp_lt (tgt := 12) hx hb dX0_emit_6 (by decide) (fun c6 => ?_) (fun c6 => ?_)
  · have hn := zq_lti (by omega) (by omega) c6
    refine lv_iload_n hx hb dX0_emit_12 rfl (lv_at hl 1 rfl) ?_
    refine lv_if_lt (tgt := 34) hx hb dX0_emit_13 (by decide) (fun c13 => ?_) (fun c13 => ?_)
    · refine lv_iconst (v := (-1)) hx hb dX0_emit_34 (by decide) ?_
      exact hQ _ _ (-1) u _ _ rfl hI (⟨P, n, T, q, Or.inr (Or.inl ⟨by omega, fun h => (zq_ok_ge h).1 c13, rfl, rfl, rfl, rfl⟩), h0⟩) dX0_emit_35
    · refine lv_iload_n hx hb dX0_emit_16 rfl (lv_at hl 1 rfl) ?_
      refine lv_bipush (v := 8) hx hb dX0_emit_17 (by decide) ?_
      refine lv_icmp_gt (tgt := 34) hx hb dX0_emit_19 (by decide) (fun c19 => ?_) (fun c19 => ?_)
      · refine lv_iconst (v := (-1)) hx hb dX0_emit_34 (by decide) ?_
        exact hQ _ _ (-1) u _ _ rfl hI (⟨P, n, T, q, Or.inr (Or.inl ⟨by omega, fun h => absurd (zq_ok_ge h).2 (Int32.not_le.mpr c19), rfl, rfl, rfl, rfl⟩), h0⟩) dX0_emit_35
      · refine lv_aload_n hx hb dX0_emit_22 rfl (lv_at hl 0 rfl) ?_
        refine lv_iload_n hx hb dX0_emit_23 rfl (lv_at hl 1 rfl) ?_
        refine lv_iload_n hx hb dX0_emit_24 rfl (lv_at hl 2 rfl) ?_
        refine lv_iload_n hx hb dX0_emit_25 rfl (lv_at hl 3 rfl) ?_
        refine lv_iload hx hb dX0_emit_26 (lv_at hl 4 rfl) ?_
        refine zq_c0i (rest := []) F hI (m0_fits l a ca u o x y z c13 (Int32.not_lt.mp c19)) q134 q136 qs10 q22 q137 rfl hdX0_fits (by decide) hl.1 rfl (Nat.le_of_ble_eq_true rfl) dX0_emit_28 (by decide) (fun r28 u28 H locs hp28 hI => ?_)
        obtain ⟨hu28, hp28⟩ := hp28
        rw [hu28] at hI
        refine lv_if_ne (tgt := 36) hx hb dX0_emit_31 (by decide) (fun c31 => ?_) (fun c31 => ?_)
        · have ho := zq_b_t hp28 c31
          obtain ⟨ko, hko, eo⟩ := zq_ok_b ho
          refine lv_aload_n hx hb dX0_emit_36 rfl (lv_at hl 0 rfl) ?_
          refine zq_g0 F hI 1 (.ref (a 1)) rfl (by decide) q73 dX0_emit_37 ?_
          refine lv_aload_n hx hb dX0_emit_40 rfl (lv_at hl 0 rfl) ?_
          refine zq_g0 F hI 0 (.int (u 0 0)) rfl (by decide) q72 dX0_emit_41 ?_
          refine zq_top (z := (nI n)) hn0 ?_
          refine lv_iload_n hx hb dX0_emit_44 rfl (lv_at hl 1 rfl) ?_
          refine lv_i2b (v := o) hx hb dX0_emit_45 (by rw [eo]; exact zq_b8 ko (by omega)) ?_
          refine zq_bst (ws' := zq_w0 a ca (va_up u 1 (upd (u 1) n o))) hx hb hI 1 0 (n := 20) (f := (u 1)) rfl rfl n rfl (by omega) (by decide) (by rw [eo]; exact zq_nb (by omega)) rfl dX0_emit_46 (fun H locs hI => ?_)
          refine lv_aload_n hx hb dX0_emit_47 rfl (lv_at hl 0 rfl) ?_
          refine zq_g0 F hI 2 (.ref (a 2)) rfl (by decide) q74 dX0_emit_48 ?_
          refine lv_aload_n hx hb dX0_emit_51 rfl (lv_at hl 0 rfl) ?_
          refine zq_g0 F hI 0 (.int (u 0 0)) rfl (by decide) q72 dX0_emit_52 ?_
          refine zq_top (z := (nI n)) hn0 ?_
          refine lv_iload_n hx hb dX0_emit_55 rfl (lv_at hl 2 rfl) ?_
          refine zq_ist (ws' := zq_w0 a ca (va_up (va_up u 1 (upd (u 1) n o)) 2 (upd (u 2) n x))) hx hb hI 2 1 (n := 20) (f := (u 2)) rfl rfl n rfl (by omega) (by decide) rfl dX0_emit_56 (fun H locs hI => ?_)
          refine lv_aload_n hx hb dX0_emit_57 rfl (lv_at hl 0 rfl) ?_
          refine zq_g0 F hI 3 (.ref (a 3)) rfl (by decide) q75 dX0_emit_58 ?_
          refine lv_aload_n hx hb dX0_emit_61 rfl (lv_at hl 0 rfl) ?_
          refine zq_g0 F hI 0 (.int (u 0 0)) rfl (by decide) q72 dX0_emit_62 ?_
          refine zq_top (z := (nI n)) hn0 ?_
          refine lv_iload_n hx hb dX0_emit_65 rfl (lv_at hl 3 rfl) ?_
          refine zq_ist (ws' := zq_w0 a ca (va_up (va_up (va_up u 1 (upd (u 1) n o)) 2 (upd (u 2) n x)) 3 (upd (u 3) n y))) hx hb hI 3 2 (n := 20) (f := (u 3)) rfl rfl n rfl (by omega) (by decide) rfl dX0_emit_66 (fun H locs hI => ?_)
          refine lv_aload_n hx hb dX0_emit_67 rfl (lv_at hl 0 rfl) ?_
          refine zq_g0 F hI 4 (.ref (a 4)) rfl (by decide) q76 dX0_emit_68 ?_
          refine lv_aload_n hx hb dX0_emit_71 rfl (lv_at hl 0 rfl) ?_
          refine zq_g0 F hI 0 (.int (u 0 0)) rfl (by decide) q72 dX0_emit_72 ?_
          refine zq_top (z := (nI n)) hn0 ?_
          refine lv_iload hx hb dX0_emit_75 (lv_at hl 4 rfl) ?_
          refine zq_ist (ws' := zq_w0 a ca (va_up (va_up (va_up (va_up u 1 (upd (u 1) n o)) 2 (upd (u 2) n x)) 3 (upd (u 3) n y)) 4 (upd (u 4) n z))) hx hb hI 4 3 (n := 20) (f := (u 4)) rfl rfl n rfl (by omega) (by decide) rfl dX0_emit_77 (fun H locs hI => ?_)
          refine lv_aload_n hx hb dX0_emit_78 rfl (lv_at hl 0 rfl) ?_
          refine lv_dup hx hb dX0_emit_79 rfl ?_
          refine zq_g0 F hI 0 (.int (u 0 0)) rfl (by decide) q72 dX0_emit_80 ?_
          refine zq_top (z := (nI n)) hn0 ?_
          refine lv_iconst (v := (nI 1)) hx hb dX0_emit_83 (by decide) ?_
          refine lv_iadd hx hb dX0_emit_84 ?_
          refine zq_top (z := (nI (n + 1))) (nI_1 n) ?_
          refine zq_p0 (ws' := zq_w0 a ca (va_up (va_up (va_up (va_up (va_up u 1 (upd (u 1) n o)) 2 (upd (u 2) n x)) 3 (upd (u 3) n y)) 4 (upd (u 4) n z)) 0 (fun _ => (nI (n + 1))))) F hI 0 (by decide) q72 rfl (by decide +kernel) rfl dX0_emit_85 (fun H locs hI => ?_)
          refine lv_aload_n hx hb dX0_emit_88 rfl (lv_at hl 0 rfl) ?_
          refine zq_c0v (rest := []) F hI (m0_execute l a ca (va_up (va_up (va_up (va_up (va_up u 1 (upd (u 1) n o)) 2 (upd (u 2) n x)) 3 (upd (u 3) n y)) 4 (upd (u 4) n z)) 0 (fun _ => (nI (n + 1)))) (zq_pe P n o x y z) (n + 1) (zq_pe_ok h0.1 hn ho) ⟨rfl, congrArg (fun f => upd f n o) hA.2.1, congrArg (fun f => upd f n x) hA.2.2.1, congrArg (fun f => upd f n y) hA.2.2.2.1, congrArg (fun f => upd f n z) hA.2.2.2.2.1, hA.2.2.2.2.2⟩) q32 q34 qs0 q22 q35 rfl hdX0_execute (by decide) hl.1 rfl (Nat.le_of_ble_eq_true rfl) dX0_emit_89 (by decide) (fun u89 H locs hp89 hI => ?_)
          obtain ⟨T2, hp89⟩ := hp89
          refine lv_aload_n hx hb dX0_emit_92 rfl (lv_at hl 0 rfl) ?_
          refine zq_g0 F hI 0 (.int (u89 0 0)) rfl (by decide) q72 dX0_emit_93 ?_
          refine zq_top (z := (nI (n + 1))) hp89.2.2.2.1.1 ?_
          exact hQ _ _ (nI (n + 1)) u89 _ _ rfl hI (⟨_, _, T2, 0, Or.inr (Or.inr ⟨by omega, ho, rfl, rfl, rfl, rfl⟩), hp89⟩) dX0_emit_96
        · refine lv_iconst (v := (-1)) hx hb dX0_emit_34 (by decide) ?_
          exact hQ _ _ (-1) u _ _ rfl hI (⟨P, n, T, q, Or.inr (Or.inl ⟨by omega, zq_b_f hp28 c31, rfl, rfl, rfl, rfl⟩), h0⟩) dX0_emit_35
  · refine lv_bipush (v := (-2)) hx hb dX0_emit_9 (by decide) ?_
    exact hQ _ _ (-2) u _ _ rfl hI (⟨P, n, T, q, Or.inl ⟨by have := zq_nlt (by omega) (by omega) c6; omega, rfl, rfl, rfl, rfl⟩, h0⟩) dX0_emit_11
set_option maxHeartbeats 4000000 in
set_option maxRecDepth 100000 in
/-- input -/
theorem m0_input (l : Launch) (a : Nat → Nat) (ca : Nat → ClassId) (u : zq_St) (P : zq_St) (n T q : Nat) (h0 : zq_I0 P n T q u) (x1 : Int32) : zq_Ci l yX0_input cX0_input 2 .int 4 (a 0) [.int x1] (zq_t0 ca) (zq_w0 a ca) u (fun r u' => ∃ T', r = nI T' ∧ zq_I0 (zq_pi P x1) n T' 0 u') := by
  refine zq_starti (by decide) (Nat.le_of_ble_eq_true rfl) ?_
  intro p e s m args below meth c D A Q ls F hQ hI hl
  have hx := F.1
  have hb := F.2.1
  have hl : lv_has ls 2 [(0, .ref (a 0)), (1, .int x1)] := hl
  have hA := h0.2.2.2.1
  refine lv_aload_n hx hb dX0_input_0 rfl (lv_at hl 0 rfl) ?_
  refine lv_iload_n hx hb dX0_input_1 rfl (lv_at hl 1 rfl) ?_
  refine zq_p0 (ws' := zq_w0 a ca (va_up u 5 (fun _ => x1))) F hI 5 (by decide) q77 rfl (by decide +kernel) rfl dX0_input_2 (fun H locs hI => ?_)
  refine lv_aload_n hx hb dX0_input_5 rfl (lv_at hl 0 rfl) ?_
  refine zq_c0v (rest := []) F hI (m0_execute l a ca (va_up u 5 (fun _ => x1)) (zq_pi P x1) n (zq_pi_ok h0.1) ⟨hA.1, hA.2.1, hA.2.2.1, hA.2.2.2.1, hA.2.2.2.2.1, rfl⟩) q32 q34 qs0 q22 q35 rfl hdX0_execute (by decide) hl.1 rfl (Nat.le_of_ble_eq_true rfl) dX0_input_6 (by decide) (fun u6 H locs hp6 hI => ?_)
  obtain ⟨T2, hp6⟩ := hp6
  refine lv_aload_n hx hb dX0_input_9 rfl (lv_at hl 0 rfl) ?_
  refine zq_g0 F hI 8 (.int (u6 8 0)) rfl (by decide) q80 dX0_input_10 ?_
  refine zq_top (z := (nI T2)) hp6.2.2.2.2.2.2.2 ?_
  exact hQ _ _ (nI T2) u6 _ _ rfl hI (⟨T2, rfl, hp6⟩) dX0_input_13
end
section
/-! PURE: the reference's cells against the machine -/
set_option maxRecDepth 100000
def zq_S (P : zq_St) (t : Nat) (v : zq_St) : Prop := (∀ i, i < 6 → v 7 i = zq_M P t i) ∧ (∀ i, i < 8 → v 8 i = zq_M P t (6 + i)) ∧ v 9 0 = nI (zq_N P t) ∧ v 10 0 = (if zq_h P t then 1 else 0)
def zq_W (P : zq_St) (t : Nat) (v : zq_St) : Prop := (zq_w P t < 6 → v 11 0 = nI (zq_w P t) ∧ v 12 0 = -1) ∧ (6 ≤ zq_w P t → zq_w P t < 14 → v 11 0 = -1 ∧ v 12 0 = nI (zq_w P t - 6)) ∧ (14 ≤ zq_w P t → v 11 0 = -1 ∧ v 12 0 = -1)
theorem zq_m1n (k : Nat) (hk : k < 1000) : ¬ (-1 : Int32) = nI k := by
  intro e
  exact nI_pos (n := k) (by omega) (by rw [← e]; decide)
theorem zq_W_v {P v : zq_St} {t k : Nat} (h : zq_W P t v) (hk : k < 6) : v 11 0 = nI k ↔ zq_w P t = k := by
  obtain ⟨h1, h2, h3⟩ := h
  rcases Nat.lt_or_ge (zq_w P t) 6 with g | g
  · rw [(h1 g).1]
    exact nI_eq (by omega) (by omega)
  · rcases Nat.lt_or_ge (zq_w P t) 14 with g2 | g2
    · rw [(h2 g g2).1]
      exact ⟨fun e => absurd e (zq_m1n k (by omega)), fun e => absurd e (by omega)⟩
    · rw [(h3 g2).1]
      exact ⟨fun e => absurd e (zq_m1n k (by omega)), fun e => absurd e (by omega)⟩
theorem zq_W_c {P v : zq_St} {t k : Nat} (h : zq_W P t v) (hk : k < 8) : v 12 0 = nI k ↔ zq_w P t = 6 + k := by
  obtain ⟨h1, h2, h3⟩ := h
  rcases Nat.lt_or_ge (zq_w P t) 6 with g | g
  · rw [(h1 g).2]
    exact ⟨fun e => absurd e (zq_m1n k (by omega)), fun e => absurd e (by omega)⟩
  · rcases Nat.lt_or_ge (zq_w P t) 14 with g2 | g2
    · rw [(h2 g g2).2, nI_eq (by omega) (by omega)]
      omega
    · rw [(h3 g2).2]
      exact ⟨fun e => absurd e (zq_m1n k (by omega)), fun e => absurd e (by omega)⟩
theorem zq_S_v {P u U : zq_St} {t pl : Nat} {x : Int32} (hS : zq_S P t u) (hh : zq_h P t = false) (h8 : ¬ P 1 (zq_N P t) = 8) (hw : zq_wp P (zq_M P t) (zq_N P t) = pl) (hpl : pl < 6) (hv : zq_wv P (zq_M P t) (zq_N P t) = x) (hn : U 9 0 = nI (zq_nx P (zq_M P t) (zq_N P t))) (e7 : U 7 = upd (u 7) pl x) (e8 : U 8 = u 8) (e10 : U 10 = u 10) (e11 : U 11 0 = nI pl) (e12 : U 12 0 = -1) : zq_S P (t + 1) U ∧ zq_W P (t + 1) U := by
  obtain ⟨s1, s2, s3, s4⟩ := hS
  have hw' : zq_w P (t + 1) = pl := hw
  refine ⟨⟨fun i hi => ?_, fun i hi => ?_, hn, ?_⟩, fun _ => ?_, fun g _ => ?_, fun g => ?_⟩
  · rw [e7, zq_M_s, hw', hv]
    by_cases e : i = pl
    · rw [e, zq_upd_s, zq_upd_s]
    · rw [zq_upd_n _ _ e, zq_upd_n _ _ e]
      exact s1 i hi
  · rw [e8, zq_M_s, hw', zq_upd_n _ _ (by omega)]
    exact s2 i hi
  · rw [e10, s4, zq_h_s, decide_eq_false h8, hh]
  · rw [hw']; exact ⟨e11, e12⟩
  · rw [hw'] at g; omega
  · rw [hw'] at g; omega
theorem zq_S_c {P u U : zq_St} {t pl : Nat} {x : Int32} (hS : zq_S P t u) (hh : zq_h P t = false) (h8 : ¬ P 1 (zq_N P t) = 8) (hw : zq_wp P (zq_M P t) (zq_N P t) = 6 + pl) (hpl : pl < 8) (hv : zq_wv P (zq_M P t) (zq_N P t) = x) (hn : U 9 0 = nI (zq_nx P (zq_M P t) (zq_N P t))) (e7 : U 7 = u 7) (e8 : U 8 = upd (u 8) pl x) (e10 : U 10 = u 10) (e11 : U 11 0 = -1) (e12 : U 12 0 = nI pl) : zq_S P (t + 1) U ∧ zq_W P (t + 1) U := by
  obtain ⟨s1, s2, s3, s4⟩ := hS
  have hw' : zq_w P (t + 1) = 6 + pl := hw
  refine ⟨⟨fun i hi => ?_, fun i hi => ?_, hn, ?_⟩, fun g => ?_, fun _ _ => ?_, fun g => ?_⟩
  · rw [e7, zq_M_s, hw', zq_upd_n _ _ (by omega)]
    exact s1 i hi
  · rw [e8, zq_M_s, hw', hv]
    by_cases e : i = pl
    · rw [e, zq_upd_s, zq_upd_s]
    · rw [zq_upd_n _ _ e, zq_upd_n _ _ (by omega)]
      exact s2 i hi
  · rw [e10, s4, zq_h_s, decide_eq_false h8, hh]
  · rw [hw'] at g; omega
  · rw [hw', show 6 + pl - 6 = pl by omega]; exact ⟨e11, e12⟩
  · rw [hw'] at g; omega
theorem zq_S_n {P u U : zq_St} {t : Nat} (hS : zq_S P t u) (hw : zq_wp P (zq_M P t) (zq_N P t) = 14) (hn : U 9 0 = nI (zq_nx P (zq_M P t) (zq_N P t))) (e7 : U 7 = u 7) (e8 : U 8 = u 8) (e10 : U 10 0 = (if decide (P 1 (zq_N P t) = 8) then 1 else 0)) (e11 : U 11 0 = -1) (e12 : U 12 0 = -1) : zq_S P (t + 1) U ∧ zq_W P (t + 1) U := by
  obtain ⟨s1, s2, s3, s4⟩ := hS
  have hw' : zq_w P (t + 1) = 14 := hw
  refine ⟨⟨fun i hi => ?_, fun i hi => ?_, hn, ?_⟩, fun g => ?_, fun _ g => ?_, fun g => ?_⟩
  · rw [e7, zq_M_s, hw', zq_upd_n _ _ (by omega)]
    exact s1 i hi
  · rw [e8, zq_M_s, hw', zq_upd_n _ _ (by omega)]
    exact s2 i hi
  · rw [e10, zq_h_s]
  · rw [hw'] at g; omega
  · rw [hw'] at g; omega
  · exact ⟨e11, e12⟩
theorem zq_o0 {o : Int32} (h : ¬ o < 0) (h1 : o < 1) : o = 0 := by
  obtain ⟨j, hj, e⟩ := nI_of h
  rw [e] at h1
  have := (nI_ltI (a := j) (b := 1) hj (by omega)).mp h1
  rw [e, show j = 0 by omega]
  rfl
theorem zq_o0n {o : Int32} (h1 : ¬ o < 1) : ¬ o = 0 := fun e => h1 (by rw [e]; decide)
theorem zq_sm {z : Nat} : nI z + Int32.ofInt (-1) = nI z - nI 1 := by
  rw [Int32.sub_eq_add_neg]
  rfl
theorem zq_A_k {P u U : zq_St} (h : zq_A P u) (e : ∀ k, k < 7 → U k = u k) : zq_A P U := zq_A_of h (e 0 (by omega)) (e 1 (by omega)) (e 2 (by omega)) (e 3 (by omega)) (e 4 (by omega)) (e 5 (by omega))
theorem zq_I1_k {P u U : zq_St} {q : Nat} (h : zq_I1 P q u) (e : ∀ k, k < 7 → U k = u k) : zq_I1 P q U := ⟨zq_A_k h.1 e, by rw [e 6 (by omega)]; exact h.2⟩
theorem zq_S_0 {P U : zq_St} {f : Nat → Int32} (hf : ∀ i, i < 5 → f i = 0) (e7 : U 7 = upd f 5 (P 5 0)) (h8 : ∀ i, i < 8 → U 8 i = 0) (e9 : U 9 0 = nI 0) (e10 : U 10 0 = 0) : zq_S P 0 U := by
  refine ⟨fun i hi => ?_, fun i hi => ?_, e9, e10⟩
  · rw [e7, zq_M_0]
    by_cases e : i = 5
    · rw [if_pos e, e, zq_upd_s]
    · rw [if_neg e, zq_upd_n _ _ e]
      exact hf i (by omega)
  · rw [zq_M_0, if_neg (by omega)]
    exact h8 i hi
end
section
/-! TraceDebuggerModel: isVariable, isPlace, fits, begin, ended, setVariable -/
set_option maxRecDepth 100000
theorem zq_kk1 {P : zq_St} {c : Nat → Int32} {i : Nat} (e : P 1 i = 1) : zq_nx P c i = i + 1 ∧ zq_wp P c i = (P 2 i).toNatClampNeg ∧ zq_wv P c i = c (P 3 i).toNatClampNeg + c (P 4 i).toNatClampNeg := by
  simp +decide [zq_nx, zq_wp, zq_wv, e]
theorem zq_kk2 {P : zq_St} {c : Nat → Int32} {i : Nat} (e : P 1 i = 2) : zq_nx P c i = i + 1 ∧ zq_wp P c i = (P 2 i).toNatClampNeg ∧ zq_wv P c i = c (P 3 i).toNatClampNeg - c (P 4 i).toNatClampNeg := by
  simp +decide [zq_nx, zq_wp, zq_wv, e]
theorem zq_kk3 {P : zq_St} {c : Nat → Int32} {i : Nat} (e : P 1 i = 3) : zq_nx P c i = i + 1 ∧ zq_wp P c i = (P 2 i).toNatClampNeg ∧ zq_wv P c i = c (P 3 i).toNatClampNeg * c (P 4 i).toNatClampNeg := by
  simp +decide [zq_nx, zq_wp, zq_wv, e]
theorem zq_nok {o x y z : Int32} (h0 : ¬ o = 0) (h1 : ¬ o = 1) (h2 : ¬ o = 2) (h3 : ¬ o = 3) (h4 : ¬ o = 4) (h5 : ¬ o = 5) (h6 : ¬ o = 6) (h7 : ¬ o = 7) (h8 : ¬ o = 8) : ¬ zq_ok o x y z := by
  intro h
  rcases zq_op (zq_ok_ge h).1 (zq_ok_ge h).2 with e | e | e | e | e | e | e | e | e
  · exact h0 e
  · exact h1 e
  · exact h2 e
  · exact h3 e
  · exact h4 e
  · exact h5 e
  · exact h6 e
  · exact h7 e
  · exact h8 e
set_option maxHeartbeats 4000000 in
set_option maxRecDepth 100000 in
/-- TraceDebuggerModel.isVariable: within 0..5 -/
theorem m1_isVariable (l : Launch) (a : Nat → Nat) (ca : Nat → ClassId) (u : zq_St) (x1 : Int32) : zq_Ci l yX1_isVariable cX1_isVariable 2 .boolean 0 (a 0) [.int x1] (zq_t1 ca) (zq_w1 a ca) u (fun r u' => u' = u ∧ zq_b r (zq_var x1)) := by
  refine zq_starti (by decide) (Nat.le_of_ble_eq_true rfl) ?_
  intro p e s m args below meth c D A Q ls F hQ hI hl
  have hx := F.1
  have hb := F.2.1
  have hl : lv_has ls 2 [(0, .ref (a 0)), (1, .int x1)] := hl
  refine lv_iload_n hx hb dX1_isVariable_0 rfl (lv_at hl 1 rfl) ?_
  refine lv_if_lt (tgt := 13) hx hb dX1_isVariable_1 (by decide) (fun c1 => ?_) (fun c1 => ?_)
  · refine lv_iconst (v := 0) hx hb dX1_isVariable_13 (by decide) ?_
    exact hQ _ _ 0 u _ _ rfl hI (⟨rfl, Or.inr ⟨rfl, zq_no (zq_out_neg 6 (by omega) c1)⟩⟩) dX1_isVariable_14
  · refine lv_iload_n hx hb dX1_isVariable_4 rfl (lv_at hl 1 rfl) ?_
    refine lv_iconst (v := 5) hx hb dX1_isVariable_5 (by decide) ?_
    refine lv_icmp_gt (tgt := 13) hx hb dX1_isVariable_6 (by decide) (fun c6 => ?_) (fun c6 => ?_)
    · refine lv_iconst (v := 0) hx hb dX1_isVariable_13 (by decide) ?_
      exact hQ _ _ 0 u _ _ rfl hI (⟨rfl, Or.inr ⟨rfl, zq_no (zq_out_gt 5 rfl (by omega) c6)⟩⟩) dX1_isVariable_14
    · refine lv_iconst (v := 1) hx hb dX1_isVariable_9 (by decide) ?_
      refine lv_goto (tgt := 14) hx hb dX1_isVariable_10 (by decide) ?_
      exact hQ _ _ 1 u _ _ rfl hI (⟨rfl, Or.inl ⟨rfl, zq_in_of 5 rfl (by omega) c1 c6⟩⟩) dX1_isVariable_14
set_option maxHeartbeats 4000000 in
set_option maxRecDepth 100000 in
/-- TraceDebuggerModel.isPlace: within 0..19 -/
theorem m1_isPlace (l : Launch) (a : Nat → Nat) (ca : Nat → ClassId) (u : zq_St) (x1 : Int32) : zq_Ci l yX1_isPlace cX1_isPlace 2 .boolean 0 (a 0) [.int x1] (zq_t1 ca) (zq_w1 a ca) u (fun r u' => u' = u ∧ zq_b r (zq_plc x1)) := by
  refine zq_starti (by decide) (Nat.le_of_ble_eq_true rfl) ?_
  intro p e s m args below meth c D A Q ls F hQ hI hl
  have hx := F.1
  have hb := F.2.1
  have hl : lv_has ls 2 [(0, .ref (a 0)), (1, .int x1)] := hl
  refine lv_iload_n hx hb dX1_isPlace_0 rfl (lv_at hl 1 rfl) ?_
  refine lv_if_lt (tgt := 14) hx hb dX1_isPlace_1 (by decide) (fun c1 => ?_) (fun c1 => ?_)
  · refine lv_iconst (v := 0) hx hb dX1_isPlace_14 (by decide) ?_
    exact hQ _ _ 0 u _ _ rfl hI (⟨rfl, Or.inr ⟨rfl, zq_no (zq_out_neg 20 (by omega) c1)⟩⟩) dX1_isPlace_15
  · refine lv_iload_n hx hb dX1_isPlace_4 rfl (lv_at hl 1 rfl) ?_
    refine lv_bipush (v := 19) hx hb dX1_isPlace_5 (by decide) ?_
    refine lv_icmp_gt (tgt := 14) hx hb dX1_isPlace_7 (by decide) (fun c7 => ?_) (fun c7 => ?_)
    · refine lv_iconst (v := 0) hx hb dX1_isPlace_14 (by decide) ?_
      exact hQ _ _ 0 u _ _ rfl hI (⟨rfl, Or.inr ⟨rfl, zq_no (zq_out_gt 19 rfl (by omega) c7)⟩⟩) dX1_isPlace_15
    · refine lv_iconst (v := 1) hx hb dX1_isPlace_10 (by decide) ?_
      refine lv_goto (tgt := 15) hx hb dX1_isPlace_11 (by decide) ?_
      exact hQ _ _ 1 u _ _ rfl hI (⟨rfl, Or.inl ⟨rfl, zq_in_of 19 rfl (by omega) c1 c7⟩⟩) dX1_isPlace_15
set_option maxHeartbeats 4000000 in
set_option maxRecDepth 100000 in
/-- the reference: fits -/
theorem m1_fits (l : Launch) (a : Nat → Nat) (ca : Nat → ClassId) (u : zq_St) (o x y z : Int32) : zq_Ci l yX1_fits cX1_fits 5 .boolean 1 (a 0) [.int o, .int x, .int y, .int z] (zq_t1 ca) (zq_w1 a ca) u (fun r u' => u' = u ∧ zq_b r (zq_ok o x y z)) := by
  refine zq_starti (by decide) (Nat.le_of_ble_eq_true rfl) ?_
  intro p e s m args below meth c D A Q ls F hQ hI hl
  have hx := F.1
  have hb := F.2.1
  have hl : lv_has ls 5 [(0, .ref (a 0)), (1, .int o), (2, .int x), (3, .int y), (4, .int z)] := hl
  refine lv_iload_n hx hb dX1_fits_0 rfl (lv_at hl 1 rfl) ?_
  refine lv_if_lt (tgt := 10) hx hb dX1_fits_1 (by decide) (fun c1 => ?_) (fun c1 => ?_)
  · refine lv_iconst (v := 0) hx hb dX1_fits_10 (by decide) ?_
    exact hQ _ _ 0 u _ _ rfl hI (⟨rfl, Or.inr ⟨rfl, fun h => (zq_ok_ge h).1 c1⟩⟩) dX1_fits_11
  · refine lv_iload_n hx hb dX1_fits_4 rfl (lv_at hl 1 rfl) ?_
    refine lv_bipush (v := 8) hx hb dX1_fits_5 (by decide) ?_
    refine lv_icmp_le (tgt := 12) hx hb dX1_fits_7 (by decide) (fun c7 => ?_) (fun c7 => ?_)
    · refine lv_iload_n hx hb dX1_fits_12 rfl (lv_at hl 1 rfl) ?_
      refine lv_bipush (v := 8) hx hb dX1_fits_13 (by decide) ?_
      refine lv_icmp_ne (tgt := 20) hx hb dX1_fits_15 (by decide) (fun c15 => ?_) (fun c15 => ?_)
      · refine lv_iload_n hx hb dX1_fits_20 rfl (lv_at hl 1 rfl) ?_
        refine lv_bipush (v := 7) hx hb dX1_fits_21 (by decide) ?_
        refine lv_icmp_ne (tgt := 32) hx hb dX1_fits_23 (by decide) (fun c23 => ?_) (fun c23 => ?_)
        · refine lv_aload_n hx hb dX1_fits_32 rfl (lv_at hl 0 rfl) ?_
          refine lv_iload_n hx hb dX1_fits_33 rfl (lv_at hl 2 rfl) ?_
          refine zq_c1i (rest := []) F hI (m1_isVariable l a ca u x) q244 q246 qs15 q23 q247 rfl hdX1_isVariable (by decide) hl.1 rfl (Nat.le_of_ble_eq_true rfl) dX1_fits_34 (by decide) (fun r34 u34 H locs hp34 hI => ?_)
          obtain ⟨hu34, hp34⟩ := hp34
          rw [hu34] at hI
          refine lv_if_ne (tgt := 42) hx hb dX1_fits_37 (by decide) (fun c37 => ?_) (fun c37 => ?_)
          · refine lv_iload_n hx hb dX1_fits_42 rfl (lv_at hl 1 rfl) ?_
            refine lv_bipush (v := 6) hx hb dX1_fits_43 (by decide) ?_
            refine lv_icmp_ne (tgt := 54) hx hb dX1_fits_45 (by decide) (fun c45 => ?_) (fun c45 => ?_)
            · refine lv_iload_n hx hb dX1_fits_54 rfl (lv_at hl 1 rfl) ?_
              refine lv_iconst (v := 1) hx hb dX1_fits_55 (by decide) ?_
              refine lv_icmp_lt (tgt := 69) hx hb dX1_fits_56 (by decide) (fun c56 => ?_) (fun c56 => ?_)
              · refine lv_iload_n hx hb dX1_fits_69 rfl (lv_at hl 1 rfl) ?_
                refine lv_iconst (v := 1) hx hb dX1_fits_70 (by decide) ?_
                refine lv_icmp_lt (tgt := 88) hx hb dX1_fits_71 (by decide) (fun c71 => ?_) (fun c71 => ?_)
                · refine lv_iconst (v := 1) hx hb dX1_fits_88 (by decide) ?_
                  refine lv_goto (tgt := 93) hx hb dX1_fits_89 (by decide) ?_
                  exact hQ _ _ 1 u _ _ rfl hI (⟨rfl, Or.inl ⟨rfl, zq_ft_0 (zq_o0 c1 c56) (zq_b_t hp34 c37)⟩⟩) dX1_fits_93
                · exact absurd c56 c71
              · refine lv_aload_n hx hb dX1_fits_59 rfl (lv_at hl 0 rfl) ?_
                refine lv_iload_n hx hb dX1_fits_60 rfl (lv_at hl 3 rfl) ?_
                refine zq_c1i (rest := []) F hI (m1_isVariable l a ca u y) q244 q246 qs15 q23 q247 rfl hdX1_isVariable (by decide) hl.1 rfl (Nat.le_of_ble_eq_true rfl) dX1_fits_61 (by decide) (fun r61 u61 H locs hp61 hI => ?_)
                obtain ⟨hu61, hp61⟩ := hp61
                rw [hu61] at hI
                refine lv_if_ne (tgt := 69) hx hb dX1_fits_64 (by decide) (fun c64 => ?_) (fun c64 => ?_)
                · refine lv_iload_n hx hb dX1_fits_69 rfl (lv_at hl 1 rfl) ?_
                  refine lv_iconst (v := 1) hx hb dX1_fits_70 (by decide) ?_
                  refine lv_icmp_lt (tgt := 88) hx hb dX1_fits_71 (by decide) (fun c71 => ?_) (fun c71 => ?_)
                  · exact absurd c71 c56
                  · refine lv_iload_n hx hb dX1_fits_74 rfl (lv_at hl 1 rfl) ?_
                    refine lv_iconst (v := 3) hx hb dX1_fits_75 (by decide) ?_
                    refine lv_icmp_gt (tgt := 88) hx hb dX1_fits_76 (by decide) (fun c76 => ?_) (fun c76 => ?_)
                    · refine lv_iconst (v := 1) hx hb dX1_fits_88 (by decide) ?_
                      refine lv_goto (tgt := 93) hx hb dX1_fits_89 (by decide) ?_
                      exact hQ _ _ 1 u _ _ rfl hI (⟨rfl, Or.inl ⟨rfl, zq_ft_45 c15 c23 c45 c1 c7 c76 (zq_b_t hp34 c37) (zq_b_t hp61 c64)⟩⟩) dX1_fits_93
                    · refine lv_aload_n hx hb dX1_fits_79 rfl (lv_at hl 0 rfl) ?_
                      refine lv_iload hx hb dX1_fits_80 (lv_at hl 4 rfl) ?_
                      refine zq_c1i (rest := []) F hI (m1_isVariable l a ca u z) q244 q246 qs15 q23 q247 rfl hdX1_isVariable (by decide) hl.1 rfl (Nat.le_of_ble_eq_true rfl) dX1_fits_82 (by decide) (fun r82 u82 H locs hp82 hI => ?_)
                      obtain ⟨hu82, hp82⟩ := hp82
                      rw [hu82] at hI
                      refine lv_if_eq (tgt := 92) hx hb dX1_fits_85 (by decide) (fun c85 => ?_) (fun c85 => ?_)
                      · refine lv_iconst (v := 0) hx hb dX1_fits_92 (by decide) ?_
                        exact hQ _ _ 0 u _ _ rfl hI (⟨rfl, Or.inr ⟨rfl, fun h => zq_b_f hp82 c85 ((zq_ft_13 (zq_o0n c56) c1 c7 c76 (zq_b_t hp34 c37) (zq_b_t hp61 c64)).mp h)⟩⟩) dX1_fits_93
                      · refine lv_iconst (v := 1) hx hb dX1_fits_88 (by decide) ?_
                        refine lv_goto (tgt := 93) hx hb dX1_fits_89 (by decide) ?_
                        exact hQ _ _ 1 u _ _ rfl hI (⟨rfl, Or.inl ⟨rfl, (zq_ft_13 (zq_o0n c56) c1 c7 c76 (zq_b_t hp34 c37) (zq_b_t hp61 c64)).mpr (zq_b_t hp82 c85)⟩⟩) dX1_fits_93
                · refine lv_iconst (v := 0) hx hb dX1_fits_67 (by decide) ?_
                  exact hQ _ _ 0 u _ _ rfl hI (⟨rfl, Or.inr ⟨rfl, fun h => zq_b_f hp61 c64 (zq_ok_y h c15 c23 c45 (zq_o0n c56))⟩⟩) dX1_fits_68
            · refine lv_aload_n hx hb dX1_fits_48 rfl (lv_at hl 0 rfl) ?_
              refine lv_iload_n hx hb dX1_fits_49 rfl (lv_at hl 3 rfl) ?_
              refine zq_c1i (rest := []) F hI (m1_isPlace l a ca u y) q240 q242 qs14 q23 q243 rfl hdX1_isPlace (by decide) hl.1 rfl (Nat.le_of_ble_eq_true rfl) dX1_fits_50 (by decide) (fun r50 u50 H locs hp50 hI => ?_)
              obtain ⟨hu50, hp50⟩ := hp50
              rw [hu50] at hI
              exact hQ _ _ r50 u _ _ (zq_b_n hp50) hI (⟨rfl, zq_b_i hp50 (zq_ft_6 c45 (zq_b_t hp34 c37))⟩) dX1_fits_53
          · refine lv_iconst (v := 0) hx hb dX1_fits_40 (by decide) ?_
            exact hQ _ _ 0 u _ _ rfl hI (⟨rfl, Or.inr ⟨rfl, fun h => zq_b_f hp34 c37 (zq_ok_x h c15 c23)⟩⟩) dX1_fits_41
        · refine lv_aload_n hx hb dX1_fits_26 rfl (lv_at hl 0 rfl) ?_
          refine lv_iload_n hx hb dX1_fits_27 rfl (lv_at hl 2 rfl) ?_
          refine zq_c1i (rest := []) F hI (m1_isPlace l a ca u x) q240 q242 qs14 q23 q243 rfl hdX1_isPlace (by decide) hl.1 rfl (Nat.le_of_ble_eq_true rfl) dX1_fits_28 (by decide) (fun r28 u28 H locs hp28 hI => ?_)
          obtain ⟨hu28, hp28⟩ := hp28
          rw [hu28] at hI
          exact hQ _ _ r28 u _ _ (zq_b_n hp28) hI (⟨rfl, zq_b_i hp28 (zq_ft_7 c23)⟩) dX1_fits_31
      · refine lv_iconst (v := 1) hx hb dX1_fits_18 (by decide) ?_
        exact hQ _ _ 1 u _ _ rfl hI (⟨rfl, Or.inl ⟨rfl, Or.inl c15⟩⟩) dX1_fits_19
    · refine lv_iconst (v := 0) hx hb dX1_fits_10 (by decide) ?_
      exact hQ _ _ 0 u _ _ rfl hI (⟨rfl, Or.inr ⟨rfl, fun h => c7 (zq_ok_ge h).2⟩⟩) dX1_fits_11
set_option maxHeartbeats 4000000 in
set_option maxRecDepth 100000 in
/-- the reference: begin -/
theorem m1_begin (l : Launch) (a : Nat → Nat) (ca : Nat → ClassId) (u : zq_St) (P : zq_St) (hA : zq_A P u) : zq_Cv l yX1_begin cX1_begin 2 0 (a 0) [] (zq_t1 ca) (zq_w1 a ca) u (fun u' => zq_S P 0 u' ∧ ∀ k, k < 7 → u' k = u k) := by
  refine zq_startv (by decide) (Nat.le_of_ble_eq_true rfl) ?_
  intro p e s m args below meth c D A Q ls F hQ hI hl
  have hx := F.1
  have hb := F.2.1
  have hl : lv_has ls 2 [(0, .ref (a 0))] := hl
  have loopB : ∀ (f7 : Nat → Int32), (∀ i, i < 5 → f7 i = 0) → ∀ (d j : Nat), 8 < j + d → j ≤ 8 → ∀ (f8 : Nat → Int32), (∀ i, i < j → f8 i = 0) → ∀ (H : Heap) (locs : List Loc) (ls : Array Slot), zq_IW D (zq_t1 ca) A s (zq_w1 a ca (va_up (va_up u 7 (upd f7 5 (P 5 0))) 8 f8)) H locs → lv_has ls 2 [(1, .int (nI j)), (0, .ref (a 0))] → W p l e (zq_rm 0) s m args below meth c H locs 0 0 Q (F0 m 32 ls []) := by
    intro f7 g7 d
    induction d with
    | zero =>
      intro j g1 g2
      exact absurd g1 (by omega)
    | succ d ih =>
      intro j hj1 hj2 f8 g8 H locs ls hI hl
      refine lv_iload_n hx hb dX1_begin_32 rfl (lv_at hl 0 rfl) ?_
      refine lv_bipush (v := (nI 8)) hx hb dX1_begin_33 (by decide) ?_
      refine lv_icmp_ge (tgt := 51) hx hb dX1_begin_35 (by decide) (fun c35 => ?_) (fun c35 => ?_)
      · have ej : j = 8 := by have := zq_le (by omega) (by omega) c35; omega
        refine lv_aload_n hx hb dX1_begin_51 rfl (lv_at hl 1 rfl) ?_
        refine lv_iconst (v := (nI 0)) hx hb dX1_begin_52 (by decide) ?_
        refine zq_p1 (ty := .int) (ws' := zq_w1 a ca (va_up (va_up (va_up u 7 (upd f7 5 (P 5 0))) 8 f8) 9 (fun _ => (nI 0)))) F hI 9 (by decide) q201 rfl (by decide +kernel) rfl rfl rfl dX1_begin_53 (fun H locs hI => ?_)
        refine lv_aload_n hx hb dX1_begin_56 rfl (lv_at hl 1 rfl) ?_
        refine lv_iconst (v := 0) hx hb dX1_begin_57 (by decide) ?_
        refine zq_p1 (ty := .boolean) (ws' := zq_w1 a ca (va_up (va_up (va_up (va_up u 7 (upd f7 5 (P 5 0))) 8 f8) 9 (fun _ => (nI 0))) 10 (fun _ => 0))) F hI 10 (by decide) q202 rfl (by decide +kernel) rfl rfl rfl dX1_begin_58 (fun H locs hI => ?_)
        exact hQ _ _ (va_up (va_up (va_up (va_up u 7 (upd f7 5 (P 5 0))) 8 f8) 9 (fun _ => (nI 0))) 10 (fun _ => 0)) _ _ hI (⟨zq_S_0 g7 rfl (fun i hi => g8 i (by omega)) rfl rfl, fun k hk => by rw [va_up_ne _ _ (by omega), va_up_ne _ _ (by omega), va_up_ne _ _ (by omega), va_up_ne _ _ (by omega)]⟩) dX1_begin_61
      · have hj := zq_nle (by omega) (by omega) c35
        refine lv_aload_n hx hb dX1_begin_38 rfl (lv_at hl 1 rfl) ?_
        refine zq_g1 F hI 8 (.ref (a 8)) rfl (by decide) q200 dX1_begin_39 ?_
        refine lv_iload_n hx hb dX1_begin_42 rfl (lv_at hl 0 rfl) ?_
        refine lv_iconst (v := 0) hx hb dX1_begin_43 (by decide) ?_
        refine zq_ist (ws' := zq_w1 a ca (va_up (va_up u 7 (upd f7 5 (P 5 0))) 8 (upd f8 j 0))) hx hb hI 6 5 (n := 8) (f := f8) rfl rfl j rfl (by omega) (by decide) rfl dX1_begin_44 (fun H locs hI => ?_)
        refine lv_iinc (v := (nI (j + 1))) (lv' := [(1, .int (nI (j + 1))), (0, .ref (a 0))]) hx hb dX1_begin_45 hl (k := 0) rfl (zq_inc1 j) (by decide) rfl (fun ls hl => ?_)
        refine lv_goto (tgt := 32) hx hb dX1_begin_48 (by decide) ?_
        exact ih (j + 1) (by omega) (by omega) _ (zq_up_lt (Z := fun _ => 0) g8 rfl) _ _ _ hI (lv_sub hl [0, 1] rfl)
  have loopA : ∀ (d j : Nat), 5 < j + d → j ≤ 5 → ∀ (f7 : Nat → Int32), (∀ i, i < j → f7 i = 0) → ∀ (H : Heap) (locs : List Loc) (ls : Array Slot), zq_IW D (zq_t1 ca) A s (zq_w1 a ca (va_up u 7 f7)) H locs → lv_has ls 2 [(1, .int (nI j)), (0, .ref (a 0))] → W p l e (zq_rm 0) s m args below meth c H locs 0 0 Q (F0 m 2 ls []) := by
    intro d
    induction d with
    | zero =>
      intro j g1 g2
      exact absurd g1 (by omega)
    | succ d ih =>
      intro j hj1 hj2 f7 g7 H locs ls hI hl
      refine lv_iload_n hx hb dX1_begin_2 rfl (lv_at hl 0 rfl) ?_
      refine lv_iconst (v := (nI 5)) hx hb dX1_begin_3 (by decide) ?_
      refine lv_icmp_ge (tgt := 20) hx hb dX1_begin_4 (by decide) (fun c4 => ?_) (fun c4 => ?_)
      · have ej : j = 5 := by have := zq_le (by omega) (by omega) c4; omega
        refine lv_aload_n hx hb dX1_begin_20 rfl (lv_at hl 1 rfl) ?_
        refine zq_g1 F hI 7 (.ref (a 7)) rfl (by decide) q199 dX1_begin_21 ?_
        refine lv_iconst (v := (nI 5)) hx hb dX1_begin_24 (by decide) ?_
        refine lv_aload_n hx hb dX1_begin_25 rfl (lv_at hl 1 rfl) ?_
        refine zq_g1 F hI 5 (.int (u 5 0)) rfl (by decide) q197 dX1_begin_26 ?_
        refine zq_top (z := (P 5 0)) hA.2.2.2.2.2 ?_
        refine zq_ist (ws' := zq_w1 a ca (va_up u 7 (upd f7 5 (P 5 0)))) hx hb hI 5 4 (n := 6) (f := f7) rfl rfl 5 rfl (by omega) (by decide) rfl dX1_begin_29 (fun H locs hI => ?_)
        refine lv_iconst (v := (nI 0)) hx hb dX1_begin_30 (by decide) ?_
        refine lv_istore_n (lv' := [(1, .int (nI 0)), (0, .ref (a 0))]) hx hb dX1_begin_31 rfl hl (by decide) rfl (fun ls hl => ?_)
        exact loopB f7 (fun i hi => g7 i (by omega)) 9 0 (by omega) (by omega) (u 8) (fun i hi => absurd hi (by omega)) _ _ _ hI (lv_sub hl [0, 1] rfl)
      · have hj := zq_nle (by omega) (by omega) c4
        refine lv_aload_n hx hb dX1_begin_7 rfl (lv_at hl 1 rfl) ?_
        refine zq_g1 F hI 7 (.ref (a 7)) rfl (by decide) q199 dX1_begin_8 ?_
        refine lv_iload_n hx hb dX1_begin_11 rfl (lv_at hl 0 rfl) ?_
        refine lv_iconst (v := 0) hx hb dX1_begin_12 (by decide) ?_
        refine zq_ist (ws' := zq_w1 a ca (va_up u 7 (upd f7 j 0))) hx hb hI 5 4 (n := 6) (f := f7) rfl rfl j rfl (by omega) (by decide) rfl dX1_begin_13 (fun H locs hI => ?_)
        refine lv_iinc (v := (nI (j + 1))) (lv' := [(1, .int (nI (j + 1))), (0, .ref (a 0))]) hx hb dX1_begin_14 hl (k := 0) rfl (zq_inc1 j) (by decide) rfl (fun ls hl => ?_)
        refine lv_goto (tgt := 2) hx hb dX1_begin_17 (by decide) ?_
        exact ih (j + 1) (by omega) (by omega) _ (zq_up_lt (Z := fun _ => 0) g7 rfl) _ _ _ hI (lv_sub hl [0, 1] rfl)
  refine lv_iconst (v := (nI 0)) hx hb dX1_begin_0 (by decide) ?_
  refine lv_istore_n (lv' := [(1, .int (nI 0)), (0, .ref (a 0))]) hx hb dX1_begin_1 rfl hl (by decide) rfl (fun ls hl => ?_)
  exact loopA 6 0 (by omega) (by omega) (u 7) (fun i hi => absurd hi (by omega)) _ _ _ hI (lv_sub hl [0, 1] rfl)
set_option maxHeartbeats 4000000 in
set_option maxRecDepth 100000 in
/-- the reference: ended -/
theorem m1_ended (l : Launch) (a : Nat → Nat) (ca : Nat → ClassId) (u : zq_St) (P : zq_St) (n t : Nat) (hn : u 0 0 = nI n) (h20 : n ≤ 20) (hN : zq_N P t ≤ 20) (hS : zq_S P t u) : zq_Ci l yX1_ended cX1_ended 1 .boolean 0 (a 0) [] (zq_t1 ca) (zq_w1 a ca) u (fun r u' => u' = u ∧ zq_b r (zq_E P n t)) := by
  refine zq_starti (by decide) (Nat.le_of_ble_eq_true rfl) ?_
  intro p e s m args below meth c D A Q ls F hQ hI hl
  have hx := F.1
  have hb := F.2.1
  have hl : lv_has ls 1 [(0, .ref (a 0))] := hl
  refine lv_aload_n hx hb dX1_ended_0 rfl (lv_at hl 0 rfl) ?_
  refine zq_g1 F hI 10 (.int (u 10 0)) rfl (by decide) q202 dX1_ended_1 ?_
  refine zq_top (z := (if zq_h P t then 1 else 0)) hS.2.2.2 ?_
  refine lv_if_ne (tgt := 18) hx hb dX1_ended_4 (by decide) (fun c4 => ?_) (fun c4 => ?_)
  · refine lv_iconst (v := 1) hx hb dX1_ended_18 (by decide) ?_
    refine lv_goto (tgt := 23) hx hb dX1_ended_19 (by decide) ?_
    exact hQ _ _ 1 u _ _ rfl hI (⟨rfl, Or.inl ⟨rfl, Or.inl (by cases hh : zq_h P t with | true => rfl | false => rw [hh] at c4; exact absurd rfl c4)⟩⟩) dX1_ended_23
  · have hf : zq_h P t = false := by cases hh : zq_h P t with
      | true => rw [hh] at c4; exact absurd c4 (by decide)
      | false => rfl
    refine lv_aload_n hx hb dX1_ended_7 rfl (lv_at hl 0 rfl) ?_
    refine zq_g1 F hI 9 (.int (u 9 0)) rfl (by decide) q201 dX1_ended_8 ?_
    refine zq_top (z := (nI (zq_N P t))) hS.2.2.1 ?_
    refine lv_aload_n hx hb dX1_ended_11 rfl (lv_at hl 0 rfl) ?_
    refine zq_g1 F hI 0 (.int (u 0 0)) rfl (by decide) q192 dX1_ended_12 ?_
    refine zq_top (z := (nI n)) hn ?_
    refine lv_icmp_lt (tgt := 22) hx hb dX1_ended_15 (by decide) (fun c15 => ?_) (fun c15 => ?_)
    · refine lv_iconst (v := 0) hx hb dX1_ended_22 (by decide) ?_
      exact hQ _ _ 0 u _ _ rfl hI (⟨rfl, Or.inr ⟨rfl, fun h => by rcases h with g | g; exact absurd g (by rw [hf]; decide); have := zq_lti (by omega) (by omega) c15; omega⟩⟩) dX1_ended_23
    · refine lv_iconst (v := 1) hx hb dX1_ended_18 (by decide) ?_
      refine lv_goto (tgt := 23) hx hb dX1_ended_19 (by decide) ?_
      exact hQ _ _ 1 u _ _ rfl hI (⟨rfl, Or.inl ⟨rfl, Or.inr (zq_nlt (by omega) (by omega) c15)⟩⟩) dX1_ended_23
set_option maxHeartbeats 4000000 in
set_option maxRecDepth 100000 in
/-- the reference: setVariable -/
theorem m1_setVariable (l : Launch) (a : Nat → Nat) (ca : Nat → ClassId) (u : zq_St) (x1 v : Int32) (pl : Nat) (h1 : x1 = nI pl) (hp : pl < 6) : zq_Cv l yX1_setVariable cX1_setVariable 3 0 (a 0) [.int x1, .int v] (zq_t1 ca) (zq_w1 a ca) u (fun u' => u' = va_up (va_up u 7 (upd (u 7) pl v)) 11 (fun _ => nI pl)) := by
  refine zq_startv (by decide) (Nat.le_of_ble_eq_true rfl) ?_
  intro p e s m args below meth c D A Q ls F hQ hI hl
  have hx := F.1
  have hb := F.2.1
  have hl : lv_has ls 3 [(0, .ref (a 0)), (1, .int x1), (2, .int v)] := hl
  subst h1
  refine lv_aload_n hx hb dX1_setVariable_0 rfl (lv_at hl 0 rfl) ?_
  refine zq_g1 F hI 7 (.ref (a 7)) rfl (by decide) q199 dX1_setVariable_1 ?_
  refine lv_iload_n hx hb dX1_setVariable_4 rfl (lv_at hl 1 rfl) ?_
  refine lv_iload_n hx hb dX1_setVariable_5 rfl (lv_at hl 2 rfl) ?_
  refine zq_ist (ws' := zq_w1 a ca (va_up u 7 (upd (u 7) pl v))) hx hb hI 5 4 (n := 6) (f := (u 7)) rfl rfl pl rfl (by omega) (by decide) rfl dX1_setVariable_6 (fun H locs hI => ?_)
  refine lv_aload_n hx hb dX1_setVariable_7 rfl (lv_at hl 0 rfl) ?_
  refine lv_iload_n hx hb dX1_setVariable_8 rfl (lv_at hl 1 rfl) ?_
  refine zq_p1 (ty := .int) (ws' := zq_w1 a ca (va_up (va_up u 7 (upd (u 7) pl v)) 11 (fun _ => (nI pl)))) F hI 11 (by decide) q203 rfl (by decide +kernel) rfl rfl rfl dX1_setVariable_9 (fun H locs hI => ?_)
  exact hQ _ _ (va_up (va_up u 7 (upd (u 7) pl v)) 11 (fun _ => (nI pl))) _ _ hI rfl dX1_setVariable_12
end
section
/-! TraceDebuggerModel: step -/
set_option maxRecDepth 100000
set_option maxHeartbeats 4000000 in
set_option maxRecDepth 100000 in
/-- the reference: one step -/
theorem m1_step (l : Launch) (a : Nat → Nat) (ca : Nat → ClassId) (u : zq_St) (P : zq_St) (n t : Nat) (hok : zq_okP P n) (hA : zq_A P u) (hE : ¬ zq_E P n t) (hS : zq_S P t u) : zq_Cv l yX1_step cX1_step 4 1 (a 0) [] (zq_t1 ca) (zq_w1 a ca) u (fun u' => zq_S P (t + 1) u' ∧ zq_W P (t + 1) u' ∧ ∀ k, k < 7 → u' k = u k) := by
  refine zq_startv (by decide) (Nat.le_of_ble_eq_true rfl) ?_
  intro p e s m args below meth c D A Q ls F hQ hI hl
  have hx := F.1
  have hb := F.2.1
  have hl : lv_has ls 4 [(0, .ref (a 0))] := hl
  have hi : zq_N P t < n := Nat.lt_of_not_le fun g => hE (Or.inr g)
  have hh : zq_h P t = false := by cases hh : zq_h P t with
    | true => exact absurd (Or.inl hh) hE
    | false => rfl
  have h20 := hok.2.1
  have hk := hok.2.2 _ hi
  have hz8 : ¬ P 1 (zq_N P t) = 8 → u 10 0 = (if decide (P 1 (zq_N P t) = 8) then 1 else 0) := fun g => by rw [decide_eq_false g, hS.2.2.2, hh]
  refine lv_aload_n hx hb dX1_step_0 rfl (lv_at hl 0 rfl) ?_
  refine zq_g1 F hI 9 (.int (u 9 0)) rfl (by decide) q201 dX1_step_1 ?_
  refine zq_top (z := (nI (zq_N P t))) hS.2.2.1 ?_
  refine lv_istore_n (lv' := [(1, .int (nI (zq_N P t))), (0, .ref (a 0))]) hx hb dX1_step_4 rfl hl (by decide) rfl (fun ls hl => ?_)
  refine lv_aload_n hx hb dX1_step_5 rfl (lv_at hl 1 rfl) ?_
  refine zq_g1 F hI 2 (.ref (a 2)) rfl (by decide) q194 dX1_step_6 ?_
  refine lv_iload_n hx hb dX1_step_9 rfl (lv_at hl 0 rfl) ?_
  refine zq_ild hx hb hI 2 1 (n := 20) (f := (u 2)) rfl rfl (zq_N P t) rfl (by omega) (by decide) dX1_step_10 ?_
  refine zq_top (z := (P 2 (zq_N P t))) (by rw [hA.2.2.1]) ?_
  refine lv_istore_n (lv' := [(2, .int (P 2 (zq_N P t))), (1, .int (nI (zq_N P t))), (0, .ref (a 0))]) hx hb dX1_step_11 rfl hl (by decide) rfl (fun ls hl => ?_)
  refine lv_aload_n hx hb dX1_step_12 rfl (lv_at hl 2 rfl) ?_
  refine zq_g1 F hI 3 (.ref (a 3)) rfl (by decide) q195 dX1_step_13 ?_
  refine lv_iload_n hx hb dX1_step_16 rfl (lv_at hl 1 rfl) ?_
  refine zq_ild hx hb hI 3 2 (n := 20) (f := (u 3)) rfl rfl (zq_N P t) rfl (by omega) (by decide) dX1_step_17 ?_
  refine zq_top (z := (P 3 (zq_N P t))) (by rw [hA.2.2.2.1]) ?_
  refine lv_istore_n (lv' := [(3, .int (P 3 (zq_N P t))), (2, .int (P 2 (zq_N P t))), (1, .int (nI (zq_N P t))), (0, .ref (a 0))]) hx hb dX1_step_18 rfl hl (by decide) rfl (fun ls hl => ?_)
  refine lv_aload_n hx hb dX1_step_19 rfl (lv_at hl 3 rfl) ?_
  refine lv_iconst (v := (-1)) hx hb dX1_step_20 (by decide) ?_
  refine zq_p1 (ty := .int) (ws' := zq_w1 a ca (va_up u 11 (fun _ => (-1)))) F hI 11 (by decide) q203 rfl (by decide +kernel) rfl rfl rfl dX1_step_21 (fun H locs hI => ?_)
  refine lv_aload_n hx hb dX1_step_24 rfl (lv_at hl 3 rfl) ?_
  refine lv_iconst (v := (-1)) hx hb dX1_step_25 (by decide) ?_
  refine zq_p1 (ty := .int) (ws' := zq_w1 a ca (va_up (va_up u 11 (fun _ => (-1))) 12 (fun _ => (-1)))) F hI 12 (by decide) q204 rfl (by decide +kernel) rfl rfl rfl dX1_step_26 (fun H locs hI => ?_)
  refine lv_aload_n hx hb dX1_step_29 rfl (lv_at hl 3 rfl) ?_
  refine lv_dup hx hb dX1_step_30 rfl ?_
  refine zq_g1 F hI 9 (.int (u 9 0)) rfl (by decide) q201 dX1_step_31 ?_
  refine zq_top (z := (nI (zq_N P t))) hS.2.2.1 ?_
  refine lv_iconst (v := 1) hx hb dX1_step_34 (by decide) ?_
  refine lv_iadd hx hb dX1_step_35 ?_
  refine zq_top (z := (nI ((zq_N P t) + 1))) (nI_1 _) ?_
  refine zq_p1 (ty := .int) (ws' := zq_w1 a ca (va_up (va_up (va_up u 11 (fun _ => (-1))) 12 (fun _ => (-1))) 9 (fun _ => (nI ((zq_N P t) + 1))))) F hI 9 (by decide) q201 rfl (by decide +kernel) rfl rfl rfl dX1_step_36 (fun H locs hI => ?_)
  refine lv_aload_n hx hb dX1_step_39 rfl (lv_at hl 3 rfl) ?_
  refine zq_g1 F hI 1 (.ref (a 1)) rfl (by decide) q193 dX1_step_40 ?_
  refine lv_iload_n hx hb dX1_step_43 rfl (lv_at hl 2 rfl) ?_
  refine zq_ild hx hb hI 1 0 (n := 20) (f := (u 1)) rfl rfl (zq_N P t) rfl (by omega) (by decide) dX1_step_44 ?_
  refine zq_top (z := (P 1 (zq_N P t))) (by rw [hA.2.1]) ?_
  refine lv_if_ne (tgt := 57) hx hb dX1_step_45 (by decide) (fun c45 => ?_) (fun c45 => ?_)
  · refine lv_aload_n hx hb dX1_step_57 rfl (lv_at hl 3 rfl) ?_
    refine zq_g1 F hI 1 (.ref (a 1)) rfl (by decide) q193 dX1_step_58 ?_
    refine lv_iload_n hx hb dX1_step_61 rfl (lv_at hl 2 rfl) ?_
    refine zq_ild hx hb hI 1 0 (n := 20) (f := (u 1)) rfl rfl (zq_N P t) rfl (by omega) (by decide) dX1_step_62 ?_
    refine zq_top (z := (P 1 (zq_N P t))) (by rw [hA.2.1]) ?_
    refine lv_iconst (v := 1) hx hb dX1_step_63 (by decide) ?_
    refine lv_icmp_ne (tgt := 93) hx hb dX1_step_64 (by decide) (fun c64 => ?_) (fun c64 => ?_)
    · refine lv_aload_n hx hb dX1_step_93 rfl (lv_at hl 3 rfl) ?_
      refine zq_g1 F hI 1 (.ref (a 1)) rfl (by decide) q193 dX1_step_94 ?_
      refine lv_iload_n hx hb dX1_step_97 rfl (lv_at hl 2 rfl) ?_
      refine zq_ild hx hb hI 1 0 (n := 20) (f := (u 1)) rfl rfl (zq_N P t) rfl (by omega) (by decide) dX1_step_98 ?_
      refine zq_top (z := (P 1 (zq_N P t))) (by rw [hA.2.1]) ?_
      refine lv_iconst (v := 2) hx hb dX1_step_99 (by decide) ?_
      refine lv_icmp_ne (tgt := 129) hx hb dX1_step_100 (by decide) (fun c100 => ?_) (fun c100 => ?_)
      · refine lv_aload_n hx hb dX1_step_129 rfl (lv_at hl 3 rfl) ?_
        refine zq_g1 F hI 1 (.ref (a 1)) rfl (by decide) q193 dX1_step_130 ?_
        refine lv_iload_n hx hb dX1_step_133 rfl (lv_at hl 2 rfl) ?_
        refine zq_ild hx hb hI 1 0 (n := 20) (f := (u 1)) rfl rfl (zq_N P t) rfl (by omega) (by decide) dX1_step_134 ?_
        refine zq_top (z := (P 1 (zq_N P t))) (by rw [hA.2.1]) ?_
        refine lv_iconst (v := 3) hx hb dX1_step_135 (by decide) ?_
        refine lv_icmp_ne (tgt := 165) hx hb dX1_step_136 (by decide) (fun c136 => ?_) (fun c136 => ?_)
        · refine lv_aload_n hx hb dX1_step_165 rfl (lv_at hl 3 rfl) ?_
          refine zq_g1 F hI 1 (.ref (a 1)) rfl (by decide) q193 dX1_step_166 ?_
          refine lv_iload_n hx hb dX1_step_169 rfl (lv_at hl 2 rfl) ?_
          refine zq_ild hx hb hI 1 0 (n := 20) (f := (u 1)) rfl rfl (zq_N P t) rfl (by omega) (by decide) dX1_step_170 ?_
          refine zq_top (z := (P 1 (zq_N P t))) (by rw [hA.2.1]) ?_
          refine lv_iconst (v := 4) hx hb dX1_step_171 (by decide) ?_
          refine lv_icmp_ne (tgt := 197) hx hb dX1_step_172 (by decide) (fun c172 => ?_) (fun c172 => ?_)
          · refine lv_aload_n hx hb dX1_step_197 rfl (lv_at hl 3 rfl) ?_
            refine zq_g1 F hI 1 (.ref (a 1)) rfl (by decide) q193 dX1_step_198 ?_
            refine lv_iload_n hx hb dX1_step_201 rfl (lv_at hl 2 rfl) ?_
            refine zq_ild hx hb hI 1 0 (n := 20) (f := (u 1)) rfl rfl (zq_N P t) rfl (by omega) (by decide) dX1_step_202 ?_
            refine zq_top (z := (P 1 (zq_N P t))) (by rw [hA.2.1]) ?_
            refine lv_iconst (v := 5) hx hb dX1_step_203 (by decide) ?_
            refine lv_icmp_ne (tgt := 238) hx hb dX1_step_204 (by decide) (fun c204 => ?_) (fun c204 => ?_)
            · refine lv_aload_n hx hb dX1_step_238 rfl (lv_at hl 3 rfl) ?_
              refine zq_g1 F hI 1 (.ref (a 1)) rfl (by decide) q193 dX1_step_239 ?_
              refine lv_iload_n hx hb dX1_step_242 rfl (lv_at hl 2 rfl) ?_
              refine zq_ild hx hb hI 1 0 (n := 20) (f := (u 1)) rfl rfl (zq_N P t) rfl (by omega) (by decide) dX1_step_243 ?_
              refine zq_top (z := (P 1 (zq_N P t))) (by rw [hA.2.1]) ?_
              refine lv_bipush (v := 6) hx hb dX1_step_244 (by decide) ?_
              refine lv_icmp_ne (tgt := 266) hx hb dX1_step_246 (by decide) (fun c246 => ?_) (fun c246 => ?_)
              · refine lv_aload_n hx hb dX1_step_266 rfl (lv_at hl 3 rfl) ?_
                refine zq_g1 F hI 1 (.ref (a 1)) rfl (by decide) q193 dX1_step_267 ?_
                refine lv_iload_n hx hb dX1_step_270 rfl (lv_at hl 2 rfl) ?_
                refine zq_ild hx hb hI 1 0 (n := 20) (f := (u 1)) rfl rfl (zq_N P t) rfl (by omega) (by decide) dX1_step_271 ?_
                refine zq_top (z := (P 1 (zq_N P t))) (by rw [hA.2.1]) ?_
                refine lv_bipush (v := 7) hx hb dX1_step_272 (by decide) ?_
                refine lv_icmp_ne (tgt := 285) hx hb dX1_step_274 (by decide) (fun c274 => ?_) (fun c274 => ?_)
                · refine lv_aload_n hx hb dX1_step_285 rfl (lv_at hl 3 rfl) ?_
                  refine zq_g1 F hI 1 (.ref (a 1)) rfl (by decide) q193 dX1_step_286 ?_
                  refine lv_iload_n hx hb dX1_step_289 rfl (lv_at hl 2 rfl) ?_
                  refine zq_ild hx hb hI 1 0 (n := 20) (f := (u 1)) rfl rfl (zq_N P t) rfl (by omega) (by decide) dX1_step_290 ?_
                  refine zq_top (z := (P 1 (zq_N P t))) (by rw [hA.2.1]) ?_
                  refine lv_bipush (v := 8) hx hb dX1_step_291 (by decide) ?_
                  refine lv_icmp_ne (tgt := 306) hx hb dX1_step_293 (by decide) (fun c293 => ?_) (fun c293 => ?_)
                  · exact absurd hk (zq_nok c45 c64 c100 c136 c172 c204 c246 c274 c293)
                  · refine lv_aload_n hx hb dX1_step_296 rfl (lv_at hl 3 rfl) ?_
                    refine lv_iload_n hx hb dX1_step_297 rfl (lv_at hl 2 rfl) ?_
                    refine zq_p1 (ty := .int) (ws' := zq_w1 a ca (va_up (va_up (va_up u 11 (fun _ => (-1))) 12 (fun _ => (-1))) 9 (fun _ => (nI (zq_N P t))))) F hI 9 (by decide) q201 rfl (by decide +kernel) rfl rfl rfl dX1_step_298 (fun H locs hI => ?_)
                    refine lv_aload_n hx hb dX1_step_301 rfl (lv_at hl 3 rfl) ?_
                    refine lv_iconst (v := 1) hx hb dX1_step_302 (by decide) ?_
                    refine zq_p1 (ty := .boolean) (ws' := zq_w1 a ca (va_up (va_up (va_up (va_up u 11 (fun _ => (-1))) 12 (fun _ => (-1))) 9 (fun _ => (nI (zq_N P t)))) 10 (fun _ => 1))) F hI 10 (by decide) q202 rfl (by decide +kernel) rfl rfl rfl dX1_step_303 (fun H locs hI => ?_)
                    exact hQ _ _ (va_up (va_up (va_up (va_up u 11 (fun _ => (-1))) 12 (fun _ => (-1))) 9 (fun _ => (nI (zq_N P t)))) 10 (fun _ => 1)) _ _ hI ((fun z => ⟨z.1, z.2, fun k hk => by rw [va_up_ne _ _ (by omega), va_up_ne _ _ (by omega), va_up_ne _ _ (by omega), va_up_ne _ _ (by omega)]⟩) (zq_S_n (U := (va_up (va_up (va_up (va_up u 11 (fun _ => (-1))) 12 (fun _ => (-1))) 9 (fun _ => (nI (zq_N P t)))) 10 (fun _ => 1))) hS (zq_k8 (c := zq_M P t) c293).2 (by rw [(zq_k8 (c := zq_M P t) c293).1]; rfl) rfl rfl (by rw [decide_eq_true c293]; rfl) rfl rfl)) dX1_step_306
                · refine lv_aload_n hx hb dX1_step_277 rfl (lv_at hl 3 rfl) ?_
                  refine lv_iload_n hx hb dX1_step_278 rfl (lv_at hl 1 rfl) ?_
                  refine zq_p1 (ty := .int) (ws' := zq_w1 a ca (va_up (va_up (va_up u 11 (fun _ => (-1))) 12 (fun _ => (-1))) 9 (fun _ => (P 2 (zq_N P t))))) F hI 9 (by decide) q201 rfl (by decide +kernel) rfl rfl rfl dX1_step_279 (fun H locs hI => ?_)
                  refine lv_goto (tgt := 306) hx hb dX1_step_282 (by decide) ?_
                  exact hQ _ _ (va_up (va_up (va_up u 11 (fun _ => (-1))) 12 (fun _ => (-1))) 9 (fun _ => (P 2 (zq_N P t)))) _ _ hI ((fun z => ⟨z.1, z.2, fun k hk => by rw [va_up_ne _ _ (by omega), va_up_ne _ _ (by omega), va_up_ne _ _ (by omega)]⟩) (zq_S_n (U := (va_up (va_up (va_up u 11 (fun _ => (-1))) 12 (fun _ => (-1))) 9 (fun _ => (P 2 (zq_N P t))))) hS (zq_k7 (c := zq_M P t) c274).2 (by rw [(zq_k7 (c := zq_M P t) c274).1]; exact (zq_plc_e (zq_ok_7 hk c274)).1) rfl rfl (hz8 (by rw [c274]; decide)) rfl rfl)) dX1_step_306
              · have hX := zq_var_e (zq_ok_x hk (by rw [c246]; decide) (by rw [c246]; decide))
                refine lv_aload_n hx hb dX1_step_249 rfl (lv_at hl 3 rfl) ?_
                refine zq_g1 F hI 7 (.ref (a 7)) rfl (by decide) q199 dX1_step_250 ?_
                refine lv_iload_n hx hb dX1_step_253 rfl (lv_at hl 1 rfl) ?_
                refine zq_ild hx hb hI 5 4 (n := 6) (f := (u 7)) rfl rfl ((P 2 (zq_N P t)).toNatClampNeg) hX.1 hX.2 (by decide) dX1_step_254 ?_
                refine zq_top (z := (zq_M P t (P 2 (zq_N P t)).toNatClampNeg)) (hS.1 _ hX.2) ?_
                refine lv_if_le (tgt := 266) hx hb dX1_step_255 (by decide) (fun c255 => ?_) (fun c255 => ?_)
                · refine lv_aload_n hx hb dX1_step_266 rfl (lv_at hl 3 rfl) ?_
                  refine zq_g1 F hI 1 (.ref (a 1)) rfl (by decide) q193 dX1_step_267 ?_
                  refine lv_iload_n hx hb dX1_step_270 rfl (lv_at hl 2 rfl) ?_
                  refine zq_ild hx hb hI 1 0 (n := 20) (f := (u 1)) rfl rfl (zq_N P t) rfl (by omega) (by decide) dX1_step_271 ?_
                  refine zq_top (z := (P 1 (zq_N P t))) (by rw [hA.2.1]) ?_
                  refine lv_bipush (v := 7) hx hb dX1_step_272 (by decide) ?_
                  refine lv_icmp_ne (tgt := 285) hx hb dX1_step_274 (by decide) (fun c274 => ?_) (fun c274 => ?_)
                  · refine lv_aload_n hx hb dX1_step_285 rfl (lv_at hl 3 rfl) ?_
                    refine zq_g1 F hI 1 (.ref (a 1)) rfl (by decide) q193 dX1_step_286 ?_
                    refine lv_iload_n hx hb dX1_step_289 rfl (lv_at hl 2 rfl) ?_
                    refine zq_ild hx hb hI 1 0 (n := 20) (f := (u 1)) rfl rfl (zq_N P t) rfl (by omega) (by decide) dX1_step_290 ?_
                    refine zq_top (z := (P 1 (zq_N P t))) (by rw [hA.2.1]) ?_
                    refine lv_bipush (v := 8) hx hb dX1_step_291 (by decide) ?_
                    refine lv_icmp_ne (tgt := 306) hx hb dX1_step_293 (by decide) (fun c293 => ?_) (fun c293 => ?_)
                    · exact hQ _ _ (va_up (va_up (va_up u 11 (fun _ => (-1))) 12 (fun _ => (-1))) 9 (fun _ => (nI ((zq_N P t) + 1)))) _ _ hI ((fun z => ⟨z.1, z.2, fun k hk => by rw [va_up_ne _ _ (by omega), va_up_ne _ _ (by omega), va_up_ne _ _ (by omega)]⟩) (zq_S_n (U := (va_up (va_up (va_up u 11 (fun _ => (-1))) 12 (fun _ => (-1))) 9 (fun _ => (nI ((zq_N P t) + 1))))) hS (zq_k6 (c := zq_M P t) c246).2 (by rw [(zq_k6 (c := zq_M P t) c246).1, if_pos c255]; rfl) rfl rfl (hz8 (by rw [c246]; decide)) rfl rfl)) dX1_step_306
                    · exact absurd (c246.symm.trans c293) (by decide)
                  · exact absurd (c246.symm.trans c274) (by decide)
                · refine lv_aload_n hx hb dX1_step_258 rfl (lv_at hl 3 rfl) ?_
                  refine lv_iload_n hx hb dX1_step_259 rfl (lv_at hl 0 rfl) ?_
                  refine zq_p1 (ty := .int) (ws' := zq_w1 a ca (va_up (va_up (va_up u 11 (fun _ => (-1))) 12 (fun _ => (-1))) 9 (fun _ => (P 3 (zq_N P t))))) F hI 9 (by decide) q201 rfl (by decide +kernel) rfl rfl rfl dX1_step_260 (fun H locs hI => ?_)
                  refine lv_goto (tgt := 306) hx hb dX1_step_263 (by decide) ?_
                  exact hQ _ _ (va_up (va_up (va_up u 11 (fun _ => (-1))) 12 (fun _ => (-1))) 9 (fun _ => (P 3 (zq_N P t)))) _ _ hI ((fun z => ⟨z.1, z.2, fun k hk => by rw [va_up_ne _ _ (by omega), va_up_ne _ _ (by omega), va_up_ne _ _ (by omega)]⟩) (zq_S_n (U := (va_up (va_up (va_up u 11 (fun _ => (-1))) 12 (fun _ => (-1))) 9 (fun _ => (P 3 (zq_N P t))))) hS (zq_k6 (c := zq_M P t) c246).2 (by rw [(zq_k6 (c := zq_M P t) c246).1, if_neg c255]; exact (zq_plc_e (zq_ok_6 hk c246)).1) rfl rfl (hz8 (by rw [c246]; decide)) rfl rfl)) dX1_step_306
            · have hX := zq_var_e (zq_ok_x hk (by rw [c204]; decide) (by rw [c204]; decide))
              have hY := zq_var_e (zq_ok_y hk (by rw [c204]; decide) (by rw [c204]; decide) (by rw [c204]; decide) (by rw [c204]; decide))
              refine lv_aload_n hx hb dX1_step_207 rfl (lv_at hl 3 rfl) ?_
              refine lv_aload_n hx hb dX1_step_208 rfl (lv_at hl 3 rfl) ?_
              refine zq_g1 F hI 7 (.ref (a 7)) rfl (by decide) q199 dX1_step_209 ?_
              refine lv_iload_n hx hb dX1_step_212 rfl (lv_at hl 0 rfl) ?_
              refine zq_ild hx hb hI 5 4 (n := 6) (f := (u 7)) rfl rfl ((P 3 (zq_N P t)).toNatClampNeg) hY.1 hY.2 (by decide) dX1_step_213 ?_
              refine zq_top (z := (zq_M P t (P 3 (zq_N P t)).toNatClampNeg)) (hS.1 _ hY.2) ?_
              refine lv_bipush (v := 7) hx hb dX1_step_214 (by decide) ?_
              refine lv_iand hx hb dX1_step_216 ?_
              refine zq_top (z := (nI (zq_m7 (zq_M P t (P 3 (zq_N P t)).toNatClampNeg)))) (zq_m7_eq _) ?_
              refine zq_p1 (ty := .int) (ws' := zq_w1 a ca (va_up (va_up (va_up u 11 (fun _ => (-1))) 9 (fun _ => (nI ((zq_N P t) + 1)))) 12 (fun _ => (nI (zq_m7 (zq_M P t (P 3 (zq_N P t)).toNatClampNeg)))))) F hI 12 (by decide) q204 rfl (by decide +kernel) rfl rfl rfl dX1_step_217 (fun H locs hI => ?_)
              refine lv_aload_n hx hb dX1_step_220 rfl (lv_at hl 3 rfl) ?_
              refine zq_g1 F hI 8 (.ref (a 8)) rfl (by decide) q200 dX1_step_221 ?_
              refine lv_aload_n hx hb dX1_step_224 rfl (lv_at hl 3 rfl) ?_
              refine zq_g1 F hI 12 (.int (nI (zq_m7 (zq_M P t (P 3 (zq_N P t)).toNatClampNeg)))) rfl (by decide) q204 dX1_step_225 ?_
              refine lv_aload_n hx hb dX1_step_228 rfl (lv_at hl 3 rfl) ?_
              refine zq_g1 F hI 7 (.ref (a 7)) rfl (by decide) q199 dX1_step_229 ?_
              refine lv_iload_n hx hb dX1_step_232 rfl (lv_at hl 1 rfl) ?_
              refine zq_ild hx hb hI 5 4 (n := 6) (f := (u 7)) rfl rfl ((P 2 (zq_N P t)).toNatClampNeg) hX.1 hX.2 (by decide) dX1_step_233 ?_
              refine zq_top (z := (zq_M P t (P 2 (zq_N P t)).toNatClampNeg)) (hS.1 _ hX.2) ?_
              refine zq_ist (ws' := zq_w1 a ca (va_up (va_up (va_up (va_up u 11 (fun _ => (-1))) 9 (fun _ => (nI ((zq_N P t) + 1)))) 12 (fun _ => (nI (zq_m7 (zq_M P t (P 3 (zq_N P t)).toNatClampNeg))))) 8 (upd (u 8) (zq_m7 (zq_M P t (P 3 (zq_N P t)).toNatClampNeg)) (zq_M P t (P 2 (zq_N P t)).toNatClampNeg)))) hx hb hI 6 5 (n := 8) (f := (u 8)) rfl rfl (zq_m7 (zq_M P t (P 3 (zq_N P t)).toNatClampNeg)) rfl (zq_m7_lt _) (by decide) rfl dX1_step_234 (fun H locs hI => ?_)
              refine lv_goto (tgt := 306) hx hb dX1_step_235 (by decide) ?_
              exact hQ _ _ (va_up (va_up (va_up (va_up u 11 (fun _ => (-1))) 9 (fun _ => (nI ((zq_N P t) + 1)))) 12 (fun _ => (nI (zq_m7 (zq_M P t (P 3 (zq_N P t)).toNatClampNeg))))) 8 (upd (u 8) (zq_m7 (zq_M P t (P 3 (zq_N P t)).toNatClampNeg)) (zq_M P t (P 2 (zq_N P t)).toNatClampNeg))) _ _ hI ((fun z => ⟨z.1, z.2, fun k hk => by rw [va_up_ne _ _ (by omega), va_up_ne _ _ (by omega), va_up_ne _ _ (by omega), va_up_ne _ _ (by omega)]⟩) (zq_S_c (U := (va_up (va_up (va_up (va_up u 11 (fun _ => (-1))) 9 (fun _ => (nI ((zq_N P t) + 1)))) 12 (fun _ => (nI (zq_m7 (zq_M P t (P 3 (zq_N P t)).toNatClampNeg))))) 8 (upd (u 8) (zq_m7 (zq_M P t (P 3 (zq_N P t)).toNatClampNeg)) (zq_M P t (P 2 (zq_N P t)).toNatClampNeg)))) hS hh (by rw [c204]; decide) (zq_k5 (c := zq_M P t) c204).2.1 (zq_m7_lt _) (zq_k5 (c := zq_M P t) c204).2.2 (by rw [(zq_k5 (c := zq_M P t) c204).1]; rfl) rfl rfl rfl rfl rfl)) dX1_step_306
          · have hX := zq_var_e (zq_ok_x hk (by rw [c172]; decide) (by rw [c172]; decide))
            have hY := zq_var_e (zq_ok_y hk (by rw [c172]; decide) (by rw [c172]; decide) (by rw [c172]; decide) (by rw [c172]; decide))
            refine lv_aload_n hx hb dX1_step_175 rfl (lv_at hl 3 rfl) ?_
            refine lv_iload_n hx hb dX1_step_176 rfl (lv_at hl 1 rfl) ?_
            refine lv_aload_n hx hb dX1_step_177 rfl (lv_at hl 3 rfl) ?_
            refine zq_g1 F hI 8 (.ref (a 8)) rfl (by decide) q200 dX1_step_178 ?_
            refine lv_aload_n hx hb dX1_step_181 rfl (lv_at hl 3 rfl) ?_
            refine zq_g1 F hI 7 (.ref (a 7)) rfl (by decide) q199 dX1_step_182 ?_
            refine lv_iload_n hx hb dX1_step_185 rfl (lv_at hl 0 rfl) ?_
            refine zq_ild hx hb hI 5 4 (n := 6) (f := (u 7)) rfl rfl ((P 3 (zq_N P t)).toNatClampNeg) hY.1 hY.2 (by decide) dX1_step_186 ?_
            refine zq_top (z := (zq_M P t (P 3 (zq_N P t)).toNatClampNeg)) (hS.1 _ hY.2) ?_
            refine lv_bipush (v := 7) hx hb dX1_step_187 (by decide) ?_
            refine lv_iand hx hb dX1_step_189 ?_
            refine zq_top (z := (nI (zq_m7 (zq_M P t (P 3 (zq_N P t)).toNatClampNeg)))) (zq_m7_eq _) ?_
            refine zq_ild hx hb hI 6 5 (n := 8) (f := (u 8)) rfl rfl (zq_m7 (zq_M P t (P 3 (zq_N P t)).toNatClampNeg)) rfl (zq_m7_lt _) (by decide) dX1_step_190 ?_
            refine zq_top (z := (zq_M P t (6 + zq_m7 (zq_M P t (P 3 (zq_N P t)).toNatClampNeg)))) (hS.2.1 _ (zq_m7_lt _)) ?_
            refine zq_c1v (rest := []) F hI (m1_setVariable l a ca (va_up (va_up (va_up u 11 (fun _ => (-1))) 12 (fun _ => (-1))) 9 (fun _ => (nI ((zq_N P t) + 1)))) _ (zq_M P t (6 + zq_m7 (zq_M P t (P 3 (zq_N P t)).toNatClampNeg))) (P 2 (zq_N P t)).toNatClampNeg hX.1 hX.2) q268 q270 qs19 q23 q271 rfl hdX1_setVariable (by decide) hl.1 rfl (Nat.le_of_ble_eq_true rfl) dX1_step_191 (by decide) (fun u191 H locs hp191 hI => ?_)
            refine lv_goto (tgt := 306) hx hb dX1_step_194 (by decide) ?_
            exact hQ _ _ u191 _ _ hI ((fun z => ⟨z.1, z.2, fun k hk => by rw [hp191, va_up_ne _ _ (by omega), va_up_ne _ _ (by omega), va_up_ne _ _ (by omega), va_up_ne _ _ (by omega), va_up_ne _ _ (by omega)]⟩) (zq_S_v hS hh (by rw [c172]; decide) (zq_k4 (c := zq_M P t) c172).2.1 hX.2 (zq_k4 (c := zq_M P t) c172).2.2 (by rw [hp191]; show nI (_ + 1) = _; rw [(zq_k4 (c := zq_M P t) c172).1]) (by rw [hp191]; rfl) (by rw [hp191]; rfl) (by rw [hp191]; rfl) (by rw [hp191]; rfl) (by rw [hp191]; rfl))) dX1_step_306
        · have hX := zq_var_e (zq_ok_x hk (by rw [c136]; decide) (by rw [c136]; decide))
          have hY := zq_var_e (zq_ok_y hk (by rw [c136]; decide) (by rw [c136]; decide) (by rw [c136]; decide) (by rw [c136]; decide))
          have hZ := zq_var_e (zq_ok_z hk (by rw [c136]; decide) (by rw [c136]; decide) (by rw [c136]; decide) (by rw [c136]; decide) (by rw [c136]; decide) (by rw [c136]; decide)).1
          refine lv_aload_n hx hb dX1_step_139 rfl (lv_at hl 3 rfl) ?_
          refine lv_iload_n hx hb dX1_step_140 rfl (lv_at hl 1 rfl) ?_
          refine lv_aload_n hx hb dX1_step_141 rfl (lv_at hl 3 rfl) ?_
          refine zq_g1 F hI 7 (.ref (a 7)) rfl (by decide) q199 dX1_step_142 ?_
          refine lv_iload_n hx hb dX1_step_145 rfl (lv_at hl 0 rfl) ?_
          refine zq_ild hx hb hI 5 4 (n := 6) (f := (u 7)) rfl rfl ((P 3 (zq_N P t)).toNatClampNeg) hY.1 hY.2 (by decide) dX1_step_146 ?_
          refine zq_top (z := (zq_M P t (P 3 (zq_N P t)).toNatClampNeg)) (hS.1 _ hY.2) ?_
          refine lv_aload_n hx hb dX1_step_147 rfl (lv_at hl 3 rfl) ?_
          refine zq_g1 F hI 7 (.ref (a 7)) rfl (by decide) q199 dX1_step_148 ?_
          refine lv_aload_n hx hb dX1_step_151 rfl (lv_at hl 3 rfl) ?_
          refine zq_g1 F hI 4 (.ref (a 4)) rfl (by decide) q196 dX1_step_152 ?_
          refine lv_iload_n hx hb dX1_step_155 rfl (lv_at hl 2 rfl) ?_
          refine zq_ild hx hb hI 4 3 (n := 20) (f := (u 4)) rfl rfl (zq_N P t) rfl (by omega) (by decide) dX1_step_156 ?_
          refine zq_top (z := (P 4 (zq_N P t))) (by rw [hA.2.2.2.2.1]) ?_
          refine zq_ild hx hb hI 5 4 (n := 6) (f := (u 7)) rfl rfl ((P 4 (zq_N P t)).toNatClampNeg) hZ.1 hZ.2 (by decide) dX1_step_157 ?_
          refine zq_top (z := (zq_M P t (P 4 (zq_N P t)).toNatClampNeg)) (hS.1 _ hZ.2) ?_
          refine lv_imul hx hb dX1_step_158 ?_
          refine zq_c1v (rest := []) F hI (m1_setVariable l a ca (va_up (va_up (va_up u 11 (fun _ => (-1))) 12 (fun _ => (-1))) 9 (fun _ => (nI ((zq_N P t) + 1)))) _ ((zq_M P t (P 3 (zq_N P t)).toNatClampNeg) * (zq_M P t (P 4 (zq_N P t)).toNatClampNeg)) (P 2 (zq_N P t)).toNatClampNeg hX.1 hX.2) q268 q270 qs19 q23 q271 rfl hdX1_setVariable (by decide) hl.1 rfl (Nat.le_of_ble_eq_true rfl) dX1_step_159 (by decide) (fun u159 H locs hp159 hI => ?_)
          refine lv_goto (tgt := 306) hx hb dX1_step_162 (by decide) ?_
          exact hQ _ _ u159 _ _ hI ((fun z => ⟨z.1, z.2, fun k hk => by rw [hp159, va_up_ne _ _ (by omega), va_up_ne _ _ (by omega), va_up_ne _ _ (by omega), va_up_ne _ _ (by omega), va_up_ne _ _ (by omega)]⟩) (zq_S_v hS hh (by rw [c136]; decide) (zq_kk3 (c := zq_M P t) c136).2.1 hX.2 (zq_kk3 (c := zq_M P t) c136).2.2 (by rw [hp159]; show nI (_ + 1) = _; rw [(zq_kk3 (c := zq_M P t) c136).1]) (by rw [hp159]; rfl) (by rw [hp159]; rfl) (by rw [hp159]; rfl) (by rw [hp159]; rfl) (by rw [hp159]; rfl))) dX1_step_306
      · have hX := zq_var_e (zq_ok_x hk (by rw [c100]; decide) (by rw [c100]; decide))
        have hY := zq_var_e (zq_ok_y hk (by rw [c100]; decide) (by rw [c100]; decide) (by rw [c100]; decide) (by rw [c100]; decide))
        have hZ := zq_var_e (zq_ok_z hk (by rw [c100]; decide) (by rw [c100]; decide) (by rw [c100]; decide) (by rw [c100]; decide) (by rw [c100]; decide) (by rw [c100]; decide)).1
        refine lv_aload_n hx hb dX1_step_103 rfl (lv_at hl 3 rfl) ?_
        refine lv_iload_n hx hb dX1_step_104 rfl (lv_at hl 1 rfl) ?_
        refine lv_aload_n hx hb dX1_step_105 rfl (lv_at hl 3 rfl) ?_
        refine zq_g1 F hI 7 (.ref (a 7)) rfl (by decide) q199 dX1_step_106 ?_
        refine lv_iload_n hx hb dX1_step_109 rfl (lv_at hl 0 rfl) ?_
        refine zq_ild hx hb hI 5 4 (n := 6) (f := (u 7)) rfl rfl ((P 3 (zq_N P t)).toNatClampNeg) hY.1 hY.2 (by decide) dX1_step_110 ?_
        refine zq_top (z := (zq_M P t (P 3 (zq_N P t)).toNatClampNeg)) (hS.1 _ hY.2) ?_
        refine lv_aload_n hx hb dX1_step_111 rfl (lv_at hl 3 rfl) ?_
        refine zq_g1 F hI 7 (.ref (a 7)) rfl (by decide) q199 dX1_step_112 ?_
        refine lv_aload_n hx hb dX1_step_115 rfl (lv_at hl 3 rfl) ?_
        refine zq_g1 F hI 4 (.ref (a 4)) rfl (by decide) q196 dX1_step_116 ?_
        refine lv_iload_n hx hb dX1_step_119 rfl (lv_at hl 2 rfl) ?_
        refine zq_ild hx hb hI 4 3 (n := 20) (f := (u 4)) rfl rfl (zq_N P t) rfl (by omega) (by decide) dX1_step_120 ?_
        refine zq_top (z := (P 4 (zq_N P t))) (by rw [hA.2.2.2.2.1]) ?_
        refine zq_ild hx hb hI 5 4 (n := 6) (f := (u 7)) rfl rfl ((P 4 (zq_N P t)).toNatClampNeg) hZ.1 hZ.2 (by decide) dX1_step_121 ?_
        refine zq_top (z := (zq_M P t (P 4 (zq_N P t)).toNatClampNeg)) (hS.1 _ hZ.2) ?_
        refine lv_isub hx hb dX1_step_122 ?_
        refine zq_c1v (rest := []) F hI (m1_setVariable l a ca (va_up (va_up (va_up u 11 (fun _ => (-1))) 12 (fun _ => (-1))) 9 (fun _ => (nI ((zq_N P t) + 1)))) _ ((zq_M P t (P 3 (zq_N P t)).toNatClampNeg) - (zq_M P t (P 4 (zq_N P t)).toNatClampNeg)) (P 2 (zq_N P t)).toNatClampNeg hX.1 hX.2) q268 q270 qs19 q23 q271 rfl hdX1_setVariable (by decide) hl.1 rfl (Nat.le_of_ble_eq_true rfl) dX1_step_123 (by decide) (fun u123 H locs hp123 hI => ?_)
        refine lv_goto (tgt := 306) hx hb dX1_step_126 (by decide) ?_
        exact hQ _ _ u123 _ _ hI ((fun z => ⟨z.1, z.2, fun k hk => by rw [hp123, va_up_ne _ _ (by omega), va_up_ne _ _ (by omega), va_up_ne _ _ (by omega), va_up_ne _ _ (by omega), va_up_ne _ _ (by omega)]⟩) (zq_S_v hS hh (by rw [c100]; decide) (zq_kk2 (c := zq_M P t) c100).2.1 hX.2 (zq_kk2 (c := zq_M P t) c100).2.2 (by rw [hp123]; show nI (_ + 1) = _; rw [(zq_kk2 (c := zq_M P t) c100).1]) (by rw [hp123]; rfl) (by rw [hp123]; rfl) (by rw [hp123]; rfl) (by rw [hp123]; rfl) (by rw [hp123]; rfl))) dX1_step_306
    · have hX := zq_var_e (zq_ok_x hk (by rw [c64]; decide) (by rw [c64]; decide))
      have hY := zq_var_e (zq_ok_y hk (by rw [c64]; decide) (by rw [c64]; decide) (by rw [c64]; decide) (by rw [c64]; decide))
      have hZ := zq_var_e (zq_ok_z hk (by rw [c64]; decide) (by rw [c64]; decide) (by rw [c64]; decide) (by rw [c64]; decide) (by rw [c64]; decide) (by rw [c64]; decide)).1
      refine lv_aload_n hx hb dX1_step_67 rfl (lv_at hl 3 rfl) ?_
      refine lv_iload_n hx hb dX1_step_68 rfl (lv_at hl 1 rfl) ?_
      refine lv_aload_n hx hb dX1_step_69 rfl (lv_at hl 3 rfl) ?_
      refine zq_g1 F hI 7 (.ref (a 7)) rfl (by decide) q199 dX1_step_70 ?_
      refine lv_iload_n hx hb dX1_step_73 rfl (lv_at hl 0 rfl) ?_
      refine zq_ild hx hb hI 5 4 (n := 6) (f := (u 7)) rfl rfl ((P 3 (zq_N P t)).toNatClampNeg) hY.1 hY.2 (by decide) dX1_step_74 ?_
      refine zq_top (z := (zq_M P t (P 3 (zq_N P t)).toNatClampNeg)) (hS.1 _ hY.2) ?_
      refine lv_aload_n hx hb dX1_step_75 rfl (lv_at hl 3 rfl) ?_
      refine zq_g1 F hI 7 (.ref (a 7)) rfl (by decide) q199 dX1_step_76 ?_
      refine lv_aload_n hx hb dX1_step_79 rfl (lv_at hl 3 rfl) ?_
      refine zq_g1 F hI 4 (.ref (a 4)) rfl (by decide) q196 dX1_step_80 ?_
      refine lv_iload_n hx hb dX1_step_83 rfl (lv_at hl 2 rfl) ?_
      refine zq_ild hx hb hI 4 3 (n := 20) (f := (u 4)) rfl rfl (zq_N P t) rfl (by omega) (by decide) dX1_step_84 ?_
      refine zq_top (z := (P 4 (zq_N P t))) (by rw [hA.2.2.2.2.1]) ?_
      refine zq_ild hx hb hI 5 4 (n := 6) (f := (u 7)) rfl rfl ((P 4 (zq_N P t)).toNatClampNeg) hZ.1 hZ.2 (by decide) dX1_step_85 ?_
      refine zq_top (z := (zq_M P t (P 4 (zq_N P t)).toNatClampNeg)) (hS.1 _ hZ.2) ?_
      refine lv_iadd hx hb dX1_step_86 ?_
      refine zq_c1v (rest := []) F hI (m1_setVariable l a ca (va_up (va_up (va_up u 11 (fun _ => (-1))) 12 (fun _ => (-1))) 9 (fun _ => (nI ((zq_N P t) + 1)))) _ ((zq_M P t (P 3 (zq_N P t)).toNatClampNeg) + (zq_M P t (P 4 (zq_N P t)).toNatClampNeg)) (P 2 (zq_N P t)).toNatClampNeg hX.1 hX.2) q268 q270 qs19 q23 q271 rfl hdX1_setVariable (by decide) hl.1 rfl (Nat.le_of_ble_eq_true rfl) dX1_step_87 (by decide) (fun u87 H locs hp87 hI => ?_)
      refine lv_goto (tgt := 306) hx hb dX1_step_90 (by decide) ?_
      exact hQ _ _ u87 _ _ hI ((fun z => ⟨z.1, z.2, fun k hk => by rw [hp87, va_up_ne _ _ (by omega), va_up_ne _ _ (by omega), va_up_ne _ _ (by omega), va_up_ne _ _ (by omega), va_up_ne _ _ (by omega)]⟩) (zq_S_v hS hh (by rw [c64]; decide) (zq_kk1 (c := zq_M P t) c64).2.1 hX.2 (zq_kk1 (c := zq_M P t) c64).2.2 (by rw [hp87]; show nI (_ + 1) = _; rw [(zq_kk1 (c := zq_M P t) c64).1]) (by rw [hp87]; rfl) (by rw [hp87]; rfl) (by rw [hp87]; rfl) (by rw [hp87]; rfl) (by rw [hp87]; rfl))) dX1_step_306
  · have hX := zq_var_e (zq_ok_x hk (by rw [c45]; decide) (by rw [c45]; decide))
    refine lv_aload_n hx hb dX1_step_48 rfl (lv_at hl 3 rfl) ?_
    refine lv_iload_n hx hb dX1_step_49 rfl (lv_at hl 1 rfl) ?_
    refine lv_iload_n hx hb dX1_step_50 rfl (lv_at hl 0 rfl) ?_
    refine zq_c1v (rest := []) F hI (m1_setVariable l a ca (va_up (va_up (va_up u 11 (fun _ => (-1))) 12 (fun _ => (-1))) 9 (fun _ => (nI ((zq_N P t) + 1)))) _ (P 3 (zq_N P t)) (P 2 (zq_N P t)).toNatClampNeg hX.1 hX.2) q268 q270 qs19 q23 q271 rfl hdX1_setVariable (by decide) hl.1 rfl (Nat.le_of_ble_eq_true rfl) dX1_step_51 (by decide) (fun u51 H locs hp51 hI => ?_)
    refine lv_goto (tgt := 306) hx hb dX1_step_54 (by decide) ?_
    exact hQ _ _ u51 _ _ hI ((fun z => ⟨z.1, z.2, fun k hk => by rw [hp51, va_up_ne _ _ (by omega), va_up_ne _ _ (by omega), va_up_ne _ _ (by omega), va_up_ne _ _ (by omega), va_up_ne _ _ (by omega)]⟩) (zq_S_v hS hh (by rw [c45]; decide) (zq_k0 (c := zq_M P t) c45).2.1 hX.2 (zq_k0 (c := zq_M P t) c45).2.2 (by rw [hp51]; show nI (_ + 1) = _; rw [(zq_k0 (c := zq_M P t) c45).1]) (by rw [hp51]; rfl) (by rw [hp51]; rfl) (by rw [hp51]; rfl) (by rw [hp51]; rfl) (by rw [hp51]; rfl))) dX1_step_306
end
section
/-! TraceDebuggerModel: state, steps, input, time, goTo, variable, cell, emit -/
set_option maxRecDepth 100000
theorem zq_rx {f : Nat → Nat} {q j k : Nat} (h : ∀ r, q < r → r < j → f r ≠ k) (hj : f j ≠ k) : ∀ r, q < r → r < j + 1 → f r ≠ k := by
  intro r g2 g3
  by_cases er : r = j
  · rw [er]; exact hj
  · exact h r g2 (by omega)
theorem zq_rb {f : Nat → Nat} {q j k : Nat} (h : ∀ r, j + 1 ≤ r → r < q → f r ≠ k) (hj : f j ≠ k) : ∀ r, j ≤ r → r < q → f r ≠ k := by
  intro r g2 g3
  by_cases er : r = j
  · rw [er]; exact hj
  · exact h r (by omega) g3
theorem zq_N_le {P : zq_St} {n T : Nat} (hok : zq_okP P n) (hT : zq_T P n T) : ∀ {j : Nat}, j ≤ T → zq_N P j ≤ 20
  | 0, _ => by rw [zq_N_0]; omega
  | j + 1, h => by
    rw [zq_N_s]
    exact zq_nx_le _ hok (Nat.lt_of_not_le fun g => hT.2.1 j (by omega) (Or.inr g))
set_option maxHeartbeats 4000000 in
set_option maxRecDepth 100000 in
/-- the reference: the state at a time -/
theorem m1_state (l : Launch) (a : Nat → Nat) (ca : Nat → ClassId) (u : zq_St) (P : zq_St) (n T : Nat) (hok : zq_okP P n) (hT : zq_T P n T) (hA : zq_A P u) (t : Nat) (x1 : Int32) (h1 : x1 = nI t) (ht : t ≤ T) : zq_Cv l yX1_state cX1_state 3 2 (a 0) [.int x1] (zq_t1 ca) (zq_w1 a ca) u (fun u' => zq_S P t u' ∧ ∀ k, k < 7 → u' k = u k) := by
  refine zq_startv (by decide) (Nat.le_of_ble_eq_true rfl) ?_
  intro p e s m args below meth c D A Q ls F hQ hI hl
  have hx := F.1
  have hb := F.2.1
  have hl : lv_has ls 3 [(0, .ref (a 0)), (1, .int x1)] := hl
  subst h1
  have hT2 := hT.1
  have loop : ∀ (d j : Nat) (v : zq_St), t < j + d → j ≤ t → zq_S P j v → (∀ k, k < 7 → v k = u k) → ∀ (H : Heap) (locs : List Loc) (ls : Array Slot), zq_IW D (zq_t1 ca) A s (zq_w1 a ca v) H locs → lv_has ls 3 [(2, .int (nI j)), (0, .ref (a 0)), (1, .int (nI t))] → W p l e (zq_rm 2) s m args below meth c H locs 0 0 Q (F0 m 6 ls []) := by
    intro d
    induction d with
    | zero =>
      intro j v g1 g2
      exact absurd g1 (by omega)
    | succ d ih =>
      intro j v hj1 hj2 gS gk H locs ls hI hl
      refine lv_iload_n hx hb dX1_state_6 rfl (lv_at hl 0 rfl) ?_
      refine lv_iload_n hx hb dX1_state_7 rfl (lv_at hl 2 rfl) ?_
      refine lv_icmp_ge (tgt := 21) hx hb dX1_state_8 (by decide) (fun c8 => ?_) (fun c8 => ?_)
      · have ej : j = t := by have := zq_le (by omega) (by omega) c8; omega
        exact hQ _ _ v _ _ hI (⟨by rw [← ej]; exact gS, gk⟩) dX1_state_21
      · have hj := zq_nle (by omega) (by omega) c8
        refine lv_aload_n hx hb dX1_state_11 rfl (lv_at hl 1 rfl) ?_
        refine zq_c1v (rest := []) F hI (m1_step l a ca v P n j hok (zq_A_k hA gk) (hT.2.1 j (by omega)) gS) q264 q266 qs18 q23 q267 rfl hdX1_step (by decide) hl.1 rfl (Nat.le_of_ble_eq_true rfl) dX1_state_12 (by decide) (fun u12 H locs hp12 hI => ?_)
        refine lv_iinc (v := (nI (j + 1))) (lv' := [(2, .int (nI (j + 1))), (0, .ref (a 0)), (1, .int (nI t))]) hx hb dX1_state_15 hl (k := 0) rfl (zq_inc1 j) (by decide) rfl (fun ls hl => ?_)
        refine lv_goto (tgt := 6) hx hb dX1_state_18 (by decide) ?_
        exact ih (j + 1) u12 (by omega) (by omega) hp12.1 (fun k hk => (hp12.2.2 k hk).trans (gk k hk)) _ _ _ hI (lv_sub hl [0, 1, 2] rfl)
  refine lv_aload_n hx hb dX1_state_0 rfl (lv_at hl 0 rfl) ?_
  refine zq_c1v (rest := []) F hI (m1_begin l a ca u P hA) q256 q258 qs16 q23 q259 rfl hdX1_begin (by decide) hl.1 rfl (Nat.le_of_ble_eq_true rfl) dX1_state_1 (by decide) (fun u1 H locs hp1 hI => ?_)
  refine lv_iconst (v := (nI 0)) hx hb dX1_state_4 (by decide) ?_
  refine lv_istore_n (lv' := [(2, .int (nI 0)), (0, .ref (a 0)), (1, .int (nI t))]) hx hb dX1_state_5 rfl hl (by decide) rfl (fun ls hl => ?_)
  exact loop (t + 1) 0 u1 (by omega) (by omega) hp1.1 hp1.2 _ _ _ hI (lv_sub hl [0, 1, 2] rfl)
set_option maxHeartbeats 4000000 in
set_option maxRecDepth 100000 in
/-- the reference: steps -/
theorem m1_steps (l : Launch) (a : Nat → Nat) (ca : Nat → ClassId) (u : zq_St) (P : zq_St) (n : Nat) (hok : zq_okP P n) (hA : zq_A P u) : zq_Ci l yX1_steps cX1_steps 3 .int 2 (a 0) [] (zq_t1 ca) (zq_w1 a ca) u (fun r u' => ∃ T, zq_T P n T ∧ r = nI T ∧ ∀ k, k < 7 → u' k = u k) := by
  refine zq_starti (by decide) (Nat.le_of_ble_eq_true rfl) ?_
  intro p e s m args below meth c D A Q ls F hQ hI hl
  have hx := F.1
  have hb := F.2.1
  have hl : lv_has ls 3 [(0, .ref (a 0))] := hl
  have loop : ∀ (d j : Nat) (v : zq_St), 200 < j + d → j ≤ 200 → (∀ r, r < j → ¬ zq_E P n r) → zq_N P j ≤ 20 → zq_S P j v → (∀ k, k < 7 → v k = u k) → ∀ (H : Heap) (locs : List Loc) (ls : Array Slot), zq_IW D (zq_t1 ca) A s (zq_w1 a ca v) H locs → lv_has ls 3 [(2, .int (nI j)), (1, .int (nI j)), (0, .ref (a 0))] → W p l e (zq_rm 2) s m args below meth c H locs 0 0 Q (F0 m 8 ls []) := by
    intro d
    induction d with
    | zero =>
      intro j v g1 g2
      exact absurd g1 (by omega)
    | succ d ih =>
      intro j v hj1 hj2 gE hN gS gk H locs ls hI hl
      refine lv_iload_n hx hb dX1_steps_8 rfl (lv_at hl 0 rfl) ?_
      refine lv_sipush (v := (nI 200)) hx hb dX1_steps_9 (by decide) ?_
      refine lv_icmp_ge (tgt := 35) hx hb dX1_steps_12 (by decide) (fun c12 => ?_) (fun c12 => ?_)
      · have ej : j = 200 := by have := zq_le (by omega) (by omega) c12; omega
        refine lv_iload_n hx hb dX1_steps_35 rfl (lv_at hl 1 rfl) ?_
        exact hQ _ _ (nI j) v _ _ rfl hI (⟨j, ⟨by omega, gE, Or.inl ej⟩, rfl, gk⟩) dX1_steps_36
      · have hj := zq_nle (by omega) (by omega) c12
        refine lv_aload_n hx hb dX1_steps_15 rfl (lv_at hl 2 rfl) ?_
        refine zq_c1i (rest := []) F hI (m1_ended l a ca v P n j ((zq_A_k hA gk).1.trans hok.1) hok.2.1 hN gS) q260 q262 qs17 q23 q263 rfl hdX1_ended (by decide) hl.1 rfl (Nat.le_of_ble_eq_true rfl) dX1_steps_16 (by decide) (fun r16 u16 H locs hp16 hI => ?_)
        obtain ⟨hu16, hp16⟩ := hp16
        rw [hu16] at hI
        refine lv_if_ne (tgt := 35) hx hb dX1_steps_19 (by decide) (fun c19 => ?_) (fun c19 => ?_)
        · have hE := zq_b_t hp16 c19
          refine lv_iload_n hx hb dX1_steps_35 rfl (lv_at hl 1 rfl) ?_
          exact hQ _ _ (nI j) v _ _ rfl hI (⟨j, ⟨by omega, gE, Or.inr hE⟩, rfl, gk⟩) dX1_steps_36
        · have hE := zq_b_f hp16 c19
          refine lv_aload_n hx hb dX1_steps_22 rfl (lv_at hl 2 rfl) ?_
          refine zq_c1v (rest := []) F hI (m1_step l a ca v P n j hok (zq_A_k hA gk) hE gS) q264 q266 qs18 q23 q267 rfl hdX1_step (by decide) hl.1 rfl (Nat.le_of_ble_eq_true rfl) dX1_steps_23 (by decide) (fun u23 H locs hp23 hI => ?_)
          refine lv_iinc (v := (nI (j + 1))) (lv' := [(1, .int (nI (j + 1))), (2, .int (nI j)), (0, .ref (a 0))]) hx hb dX1_steps_26 hl (k := 1) rfl (zq_inc1 j) (by decide) rfl (fun ls hl => ?_)
          refine lv_iinc (v := (nI (j + 1))) (lv' := [(2, .int (nI (j + 1))), (1, .int (nI (j + 1))), (0, .ref (a 0))]) hx hb dX1_steps_29 hl (k := 1) rfl (zq_inc1 j) (by decide) rfl (fun ls hl => ?_)
          refine lv_goto (tgt := 8) hx hb dX1_steps_32 (by decide) ?_
          exact ih (j + 1) u23 (by omega) (by omega) (lt_s (p := fun r => ¬ zq_E P n r) gE hE) (by rw [zq_N_s]; exact zq_nx_le _ hok (Nat.lt_of_not_le fun g => hE (Or.inr g))) hp23.1 (fun k hk => (hp23.2.2 k hk).trans (gk k hk)) _ _ _ hI (lv_sub hl [0, 1, 2] rfl)
  refine lv_aload_n hx hb dX1_steps_0 rfl (lv_at hl 0 rfl) ?_
  refine zq_c1v (rest := []) F hI (m1_begin l a ca u P hA) q256 q258 qs16 q23 q259 rfl hdX1_begin (by decide) hl.1 rfl (Nat.le_of_ble_eq_true rfl) dX1_steps_1 (by decide) (fun u1 H locs hp1 hI => ?_)
  refine lv_iconst (v := (nI 0)) hx hb dX1_steps_4 (by decide) ?_
  refine lv_istore_n (lv' := [(1, .int (nI 0)), (0, .ref (a 0))]) hx hb dX1_steps_5 rfl hl (by decide) rfl (fun ls hl => ?_)
  refine lv_iconst (v := (nI 0)) hx hb dX1_steps_6 (by decide) ?_
  refine lv_istore_n (lv' := [(2, .int (nI 0)), (1, .int (nI 0)), (0, .ref (a 0))]) hx hb dX1_steps_7 rfl hl (by decide) rfl (fun ls hl => ?_)
  exact loop 201 0 u1 (by omega) (by omega) (fun r hr => absurd hr (by omega)) (by rw [zq_N_0]; omega) hp1.1 hp1.2 _ _ _ hI (lv_sub hl [0, 1, 2] rfl)
set_option maxHeartbeats 4000000 in
set_option maxRecDepth 100000 in
/-- the reference: input -/
theorem m1_input (l : Launch) (a : Nat → Nat) (ca : Nat → ClassId) (u : zq_St) (P : zq_St) (n q : Nat) (hok : zq_okP P n) (h0 : zq_I1 P q u) (x1 : Int32) : zq_Ci l yX1_input cX1_input 2 .int 3 (a 0) [.int x1] (zq_t1 ca) (zq_w1 a ca) u (fun r u' => ∃ T', zq_T (zq_pi P x1) n T' ∧ r = nI T' ∧ zq_I1 (zq_pi P x1) 0 u') := by
  refine zq_starti (by decide) (Nat.le_of_ble_eq_true rfl) ?_
  intro p e s m args below meth c D A Q ls F hQ hI hl
  have hx := F.1
  have hb := F.2.1
  have hl : lv_has ls 2 [(0, .ref (a 0)), (1, .int x1)] := hl
  refine lv_aload_n hx hb dX1_input_0 rfl (lv_at hl 0 rfl) ?_
  refine lv_iload_n hx hb dX1_input_1 rfl (lv_at hl 1 rfl) ?_
  refine zq_p1 (ty := .int) (ws' := zq_w1 a ca (va_up u 5 (fun _ => x1))) F hI 5 (by decide) q197 rfl (by decide +kernel) rfl rfl rfl dX1_input_2 (fun H locs hI => ?_)
  refine lv_aload_n hx hb dX1_input_5 rfl (lv_at hl 0 rfl) ?_
  refine lv_iconst (v := (nI 0)) hx hb dX1_input_6 (by decide) ?_
  refine zq_p1 (ty := .int) (ws' := zq_w1 a ca (va_up (va_up u 5 (fun _ => x1)) 6 (fun _ => (nI 0)))) F hI 6 (by decide) q198 rfl (by decide +kernel) rfl rfl rfl dX1_input_7 (fun H locs hI => ?_)
  have gA : zq_A (zq_pi P x1) (va_up (va_up u 5 (fun _ => x1)) 6 (fun _ => (nI 0))) := ⟨h0.1.1, h0.1.2.1, h0.1.2.2.1, h0.1.2.2.2.1, h0.1.2.2.2.2.1, rfl⟩
  refine lv_aload_n hx hb dX1_input_10 rfl (lv_at hl 0 rfl) ?_
  refine zq_c1i (rest := []) F hI (m1_steps l a ca (va_up (va_up u 5 (fun _ => x1)) 6 (fun _ => (nI 0))) (zq_pi P x1) n (zq_pi_ok hok) gA) q252 q253 q254 q23 q255 rfl hdX1_steps (by decide) hl.1 rfl (Nat.le_of_ble_eq_true rfl) dX1_input_11 (by decide) (fun r11 u11 H locs hp11 hI => ?_)
  obtain ⟨T2, hT2, er, gk⟩ := hp11
  exact hQ _ _ r11 u11 _ _ rfl hI (⟨T2, hT2, er, zq_A_k gA gk, by rw [gk 6 (by omega)]; rfl⟩) dX1_input_14
set_option maxHeartbeats 4000000 in
set_option maxRecDepth 100000 in
/-- the reference: time -/
theorem m1_time (l : Launch) (a : Nat → Nat) (ca : Nat → ClassId) (u : zq_St) (P : zq_St) (q : Nat) (h0 : zq_I1 P q u) : zq_Ci l yX1_time cX1_time 1 .int 0 (a 0) [] (zq_t1 ca) (zq_w1 a ca) u (fun r u' => r = nI q ∧ zq_I1 P q u') := by
  refine zq_starti (by decide) (Nat.le_of_ble_eq_true rfl) ?_
  intro p e s m args below meth c D A Q ls F hQ hI hl
  have hx := F.1
  have hb := F.2.1
  have hl : lv_has ls 1 [(0, .ref (a 0))] := hl
  refine lv_aload_n hx hb dX1_time_0 rfl (lv_at hl 0 rfl) ?_
  refine zq_g1 F hI 6 (.int (u 6 0)) rfl (by decide) q198 dX1_time_1 ?_
  refine zq_top (z := (nI q)) h0.2 ?_
  exact hQ _ _ (nI q) u _ _ rfl hI (⟨rfl, h0⟩) dX1_time_4
set_option maxHeartbeats 4000000 in
set_option maxRecDepth 100000 in
/-- the reference: goTo -/
theorem m1_goTo (l : Launch) (a : Nat → Nat) (ca : Nat → ClassId) (u : zq_St) (P : zq_St) (n T : Nat) (hok : zq_okP P n) (hT : zq_T P n T) (q : Nat) (hq : q ≤ T) (h0 : zq_I1 P q u) (x1 : Int32) : zq_Ci l yX1_goTo cX1_goTo 2 .int 3 (a 0) [.int x1] (zq_t1 ca) (zq_w1 a ca) u (fun r u' => ∃ q', zq_sGo P T q x1 r q' ∧ zq_I1 P q' u') := by
  refine zq_starti (by decide) (Nat.le_of_ble_eq_true rfl) ?_
  intro p e s m args below meth c D A Q ls F hQ hI hl
  have hx := F.1
  have hb := F.2.1
  have hl : lv_has ls 2 [(0, .ref (a 0)), (1, .int x1)] := hl
  have hTT := hT.1
  refine lv_iload_n hx hb dX1_goTo_0 rfl (lv_at hl 1 rfl) ?_
  refine lv_if_lt (tgt := 12) hx hb dX1_goTo_1 (by decide) (fun c1 => ?_) (fun c1 => ?_)
  · refine lv_iconst (v := (-1)) hx hb dX1_goTo_12 (by decide) ?_
    exact hQ _ _ (-1) u _ _ rfl hI (⟨q, Or.inr ⟨fun k hk => zq_out_neg (T + 1) (by omega) c1 k (by omega), rfl, rfl⟩, h0⟩) dX1_goTo_13
  · refine lv_iload_n hx hb dX1_goTo_4 rfl (lv_at hl 1 rfl) ?_
    refine lv_aload_n hx hb dX1_goTo_5 rfl (lv_at hl 0 rfl) ?_
    refine zq_c1i (rest := [.int x1]) F hI (m1_steps l a ca u P n hok h0.1) q252 q253 q254 q23 q255 rfl hdX1_steps (by decide) hl.1 rfl (Nat.le_of_ble_eq_true rfl) dX1_goTo_6 (by decide) (fun r6 u6 H locs hp6 hI => ?_)
    obtain ⟨T2, hT2, er, gk⟩ := hp6
    rw [zq_T_u hT2 hT] at er
    have g0 := zq_I1_k h0 gk
    refine zq_top (z := (nI T)) er ?_
    refine lv_icmp_le (tgt := 14) hx hb dX1_goTo_9 (by decide) (fun c9 => ?_) (fun c9 => ?_)
    · obtain ⟨k, hk, ex⟩ := zq_in_le T rfl (by omega) c1 c9
      subst ex
      refine lv_aload_n hx hb dX1_goTo_14 rfl (lv_at hl 0 rfl) ?_
      refine lv_iload_n hx hb dX1_goTo_15 rfl (lv_at hl 1 rfl) ?_
      refine zq_p1 (ty := .int) (ws' := zq_w1 a ca (va_up u6 6 (fun _ => (nI k)))) F hI 6 (by decide) q198 rfl (by decide +kernel) rfl rfl rfl dX1_goTo_16 (fun H locs hI => ?_)
      have gA : zq_A P (va_up u6 6 (fun _ => (nI k))) := zq_A_of g0.1 rfl rfl rfl rfl rfl rfl
      refine lv_aload_n hx hb dX1_goTo_19 rfl (lv_at hl 0 rfl) ?_
      refine lv_iload_n hx hb dX1_goTo_20 rfl (lv_at hl 1 rfl) ?_
      refine zq_c1v (rest := []) F hI (m1_state l a ca (va_up u6 6 (fun _ => (nI k))) P n T hok hT gA k _ rfl (by omega)) q277 q279 qs20 q23 q280 rfl hdX1_state (by decide) hl.1 rfl (Nat.le_of_ble_eq_true rfl) dX1_goTo_21 (by decide) (fun u21 H locs hp21 hI => ?_)
      refine lv_aload_n hx hb dX1_goTo_24 rfl (lv_at hl 0 rfl) ?_
      refine zq_g1 F hI 9 (.int (u21 9 0)) rfl (by decide) q201 dX1_goTo_25 ?_
      refine zq_top (z := (nI (zq_N P k))) hp21.1.2.2.1 ?_
      exact hQ _ _ (nI (zq_N P k)) u21 _ _ rfl hI (⟨k, Or.inl ⟨k, by omega, rfl, rfl, rfl⟩, zq_A_k gA hp21.2, by rw [hp21.2 6 (by omega)]; rfl⟩) dX1_goTo_28
    · refine lv_iconst (v := (-1)) hx hb dX1_goTo_12 (by decide) ?_
      exact hQ _ _ (-1) u6 _ _ rfl hI (⟨q, Or.inr ⟨fun k hk => zq_out_nle T rfl (by omega) c9 k (by omega), rfl, rfl⟩, g0⟩) dX1_goTo_13
set_option maxHeartbeats 4000000 in
set_option maxRecDepth 100000 in
/-- the reference: variable -/
theorem m1_variable (l : Launch) (a : Nat → Nat) (ca : Nat → ClassId) (u : zq_St) (P : zq_St) (n T : Nat) (hok : zq_okP P n) (hT : zq_T P n T) (q : Nat) (hq : q ≤ T) (h0 : zq_I1 P q u) (x1 : Int32) : zq_Ci l yX1_variable cX1_variable 2 .int 3 (a 0) [.int x1] (zq_t1 ca) (zq_w1 a ca) u (fun r u' => zq_sVa P q x1 r ∧ zq_I1 P q u') := by
  refine zq_starti (by decide) (Nat.le_of_ble_eq_true rfl) ?_
  intro p e s m args below meth c D A Q ls F hQ hI hl
  have hx := F.1
  have hb := F.2.1
  have hl : lv_has ls 2 [(0, .ref (a 0)), (1, .int x1)] := hl
  refine lv_aload_n hx hb dX1_variable_0 rfl (lv_at hl 0 rfl) ?_
  refine lv_aload_n hx hb dX1_variable_1 rfl (lv_at hl 0 rfl) ?_
  refine zq_g1 F hI 6 (.int (u 6 0)) rfl (by decide) q198 dX1_variable_2 ?_
  refine zq_top (z := (nI q)) h0.2 ?_
  refine zq_c1v (rest := []) F hI (m1_state l a ca u P n T hok hT h0.1 q _ rfl hq) q277 q279 qs20 q23 q280 rfl hdX1_state (by decide) hl.1 rfl (Nat.le_of_ble_eq_true rfl) dX1_variable_5 (by decide) (fun u5 H locs hp5 hI => ?_)
  refine lv_aload_n hx hb dX1_variable_8 rfl (lv_at hl 0 rfl) ?_
  refine lv_iload_n hx hb dX1_variable_9 rfl (lv_at hl 1 rfl) ?_
  refine zq_c1i (rest := []) F hI (m1_isVariable l a ca u5 x1) q244 q246 qs15 q23 q247 rfl hdX1_isVariable (by decide) hl.1 rfl (Nat.le_of_ble_eq_true rfl) dX1_variable_10 (by decide) (fun r10 u10 H locs hp10 hI => ?_)
  obtain ⟨hu10, hp10⟩ := hp10
  rw [hu10] at hI
  refine lv_if_eq (tgt := 25) hx hb dX1_variable_13 (by decide) (fun c13 => ?_) (fun c13 => ?_)
  · refine lv_iconst (v := 0) hx hb dX1_variable_25 (by decide) ?_
    exact hQ _ _ 0 u5 _ _ rfl hI (⟨Or.inr ⟨zq_no2 (zq_b_f hp10 c13), rfl⟩, zq_I1_k h0 hp5.2⟩) dX1_variable_26
  · obtain ⟨k, hk, ex⟩ := zq_b_t hp10 c13
    subst ex
    refine lv_aload_n hx hb dX1_variable_16 rfl (lv_at hl 0 rfl) ?_
    refine zq_g1 F hI 7 (.ref (a 7)) rfl (by decide) q199 dX1_variable_17 ?_
    refine lv_iload_n hx hb dX1_variable_20 rfl (lv_at hl 1 rfl) ?_
    refine zq_ild hx hb hI 5 4 (n := 6) (f := (u5 7)) rfl rfl k rfl (by omega) (by decide) dX1_variable_21 ?_
    refine zq_top (z := (zq_M P q k)) (hp5.1.1 k hk) ?_
    refine lv_goto (tgt := 26) hx hb dX1_variable_22 (by decide) ?_
    exact hQ _ _ (zq_M P q k) u5 _ _ rfl hI (⟨Or.inl ⟨k, hk, rfl, rfl⟩, zq_I1_k h0 hp5.2⟩) dX1_variable_26
set_option maxHeartbeats 4000000 in
set_option maxRecDepth 100000 in
/-- the reference: cell -/
theorem m1_cell (l : Launch) (a : Nat → Nat) (ca : Nat → ClassId) (u : zq_St) (P : zq_St) (n T : Nat) (hok : zq_okP P n) (hT : zq_T P n T) (q : Nat) (hq : q ≤ T) (h0 : zq_I1 P q u) (x1 : Int32) : zq_Ci l yX1_cell cX1_cell 2 .int 3 (a 0) [.int x1] (zq_t1 ca) (zq_w1 a ca) u (fun r u' => zq_sCe P q x1 r ∧ zq_I1 P q u') := by
  refine zq_starti (by decide) (Nat.le_of_ble_eq_true rfl) ?_
  intro p e s m args below meth c D A Q ls F hQ hI hl
  have hx := F.1
  have hb := F.2.1
  have hl : lv_has ls 2 [(0, .ref (a 0)), (1, .int x1)] := hl
  refine lv_aload_n hx hb dX1_cell_0 rfl (lv_at hl 0 rfl) ?_
  refine lv_aload_n hx hb dX1_cell_1 rfl (lv_at hl 0 rfl) ?_
  refine zq_g1 F hI 6 (.int (u 6 0)) rfl (by decide) q198 dX1_cell_2 ?_
  refine zq_top (z := (nI q)) h0.2 ?_
  refine zq_c1v (rest := []) F hI (m1_state l a ca u P n T hok hT h0.1 q _ rfl hq) q277 q279 qs20 q23 q280 rfl hdX1_state (by decide) hl.1 rfl (Nat.le_of_ble_eq_true rfl) dX1_cell_5 (by decide) (fun u5 H locs hp5 hI => ?_)
  refine lv_iload_n hx hb dX1_cell_8 rfl (lv_at hl 1 rfl) ?_
  refine lv_if_lt (tgt := 27) hx hb dX1_cell_9 (by decide) (fun c9 => ?_) (fun c9 => ?_)
  · refine lv_iconst (v := 0) hx hb dX1_cell_27 (by decide) ?_
    exact hQ _ _ 0 u5 _ _ rfl hI (⟨Or.inr ⟨zq_out_neg 8 (by omega) c9, rfl⟩, zq_I1_k h0 hp5.2⟩) dX1_cell_28
  · refine lv_iload_n hx hb dX1_cell_12 rfl (lv_at hl 1 rfl) ?_
    refine lv_bipush (v := (nI 7)) hx hb dX1_cell_13 (by decide) ?_
    refine lv_icmp_gt (tgt := 27) hx hb dX1_cell_15 (by decide) (fun c15 => ?_) (fun c15 => ?_)
    · refine lv_iconst (v := 0) hx hb dX1_cell_27 (by decide) ?_
      exact hQ _ _ 0 u5 _ _ rfl hI (⟨Or.inr ⟨zq_out_gt 7 rfl (by omega) c15, rfl⟩, zq_I1_k h0 hp5.2⟩) dX1_cell_28
    · obtain ⟨k, hk, ex⟩ := zq_in_of 7 rfl (by omega) c9 c15
      subst ex
      refine lv_aload_n hx hb dX1_cell_18 rfl (lv_at hl 0 rfl) ?_
      refine zq_g1 F hI 8 (.ref (a 8)) rfl (by decide) q200 dX1_cell_19 ?_
      refine lv_iload_n hx hb dX1_cell_22 rfl (lv_at hl 1 rfl) ?_
      refine zq_ild hx hb hI 6 5 (n := 8) (f := (u5 8)) rfl rfl k rfl (by omega) (by decide) dX1_cell_23 ?_
      refine zq_top (z := (zq_M P q (6 + k))) (hp5.1.2.1 k (by omega)) ?_
      refine lv_goto (tgt := 28) hx hb dX1_cell_24 (by decide) ?_
      exact hQ _ _ (zq_M P q (6 + k)) u5 _ _ rfl hI (⟨Or.inl ⟨k, by omega, rfl, rfl⟩, zq_I1_k h0 hp5.2⟩) dX1_cell_28
set_option maxHeartbeats 4000000 in
set_option maxRecDepth 100000 in
/-- the reference: emit -/
theorem m1_emit (l : Launch) (a : Nat → Nat) (ca : Nat → ClassId) (u : zq_St) (P : zq_St) (n q : Nat) (hok : zq_okP P n) (h0 : zq_I1 P q u) (o x y z : Int32) : zq_Ci l yX1_emit cX1_emit 5 .int 2 (a 0) [.int o, .int x, .int y, .int z] (zq_t1 ca) (zq_w1 a ca) u (fun r u' => ∃ P' n' q', zq_sEm P n q o x y z r P' n' q' ∧ zq_I1 P' q' u') := by
  refine zq_starti (by decide) (Nat.le_of_ble_eq_true rfl) ?_
  intro p e s m args below meth c D A Q ls F hQ hI hl
  have hx := F.1
  have hb := F.2.1
  have hl : lv_has ls 5 [(0, .ref (a 0)), (1, .int o), (2, .int x), (3, .int y), (4, .int z)] := hl
  have hA := h0.1
  have hn0 := hA.1.trans hok.1
  have h20 := hok.2.1
  refine lv_aload_n hx hb dX1_emit_0 rfl (lv_at hl 0 rfl) ?_
  refine zq_g1 F hI 0 (.int (u 0 0)) rfl (by decide) q192 dX1_emit_1 ?_
  refine zq_top (z := (nI n)) hn0 ?_
  refine lv_bipush (v := (nI 20)) hx hb dX1_emit_4 (by decide) ?_
  refine lv_icmp_ne (tgt := 12) hx hb dX1_emit_6 (by decide) (fun c6 => ?_) (fun c6 => ?_)
  · have hn : n < 20 := by
      rcases Nat.lt_or_ge n 20 with g | g
      · exact g
      · exact absurd (by rw [show n = 20 by omega]) c6
    refine lv_aload_n hx hb dX1_emit_12 rfl (lv_at hl 0 rfl) ?_
    refine lv_iload_n hx hb dX1_emit_13 rfl (lv_at hl 1 rfl) ?_
    refine lv_iload_n hx hb dX1_emit_14 rfl (lv_at hl 2 rfl) ?_
    refine lv_iload_n hx hb dX1_emit_15 rfl (lv_at hl 3 rfl) ?_
    refine lv_iload hx hb dX1_emit_16 (lv_at hl 4 rfl) ?_
    refine zq_c1i (rest := []) F hI (m1_fits l a ca u o x y z) q236 q238 qs13 q23 q239 rfl hdX1_fits (by decide) hl.1 rfl (Nat.le_of_ble_eq_true rfl) dX1_emit_18 (by decide) (fun r18 u18 H locs hp18 hI => ?_)
    obtain ⟨hu18, hp18⟩ := hp18
    rw [hu18] at hI
    refine lv_if_ne (tgt := 26) hx hb dX1_emit_21 (by decide) (fun c21 => ?_) (fun c21 => ?_)
    · have ho := zq_b_t hp18 c21
      refine lv_aload_n hx hb dX1_emit_26 rfl (lv_at hl 0 rfl) ?_
      refine zq_g1 F hI 1 (.ref (a 1)) rfl (by decide) q193 dX1_emit_27 ?_
      refine lv_aload_n hx hb dX1_emit_30 rfl (lv_at hl 0 rfl) ?_
      refine zq_g1 F hI 0 (.int (u 0 0)) rfl (by decide) q192 dX1_emit_31 ?_
      refine zq_top (z := (nI n)) hn0 ?_
      refine lv_iload_n hx hb dX1_emit_34 rfl (lv_at hl 1 rfl) ?_
      refine zq_ist (ws' := zq_w1 a ca (va_up u 1 (upd (u 1) n o))) hx hb hI 1 0 (n := 20) (f := (u 1)) rfl rfl n rfl (by omega) (by decide) rfl dX1_emit_35 (fun H locs hI => ?_)
      refine lv_aload_n hx hb dX1_emit_36 rfl (lv_at hl 0 rfl) ?_
      refine zq_g1 F hI 2 (.ref (a 2)) rfl (by decide) q194 dX1_emit_37 ?_
      refine lv_aload_n hx hb dX1_emit_40 rfl (lv_at hl 0 rfl) ?_
      refine zq_g1 F hI 0 (.int (u 0 0)) rfl (by decide) q192 dX1_emit_41 ?_
      refine zq_top (z := (nI n)) hn0 ?_
      refine lv_iload_n hx hb dX1_emit_44 rfl (lv_at hl 2 rfl) ?_
      refine zq_ist (ws' := zq_w1 a ca (va_up (va_up u 1 (upd (u 1) n o)) 2 (upd (u 2) n x))) hx hb hI 2 1 (n := 20) (f := (u 2)) rfl rfl n rfl (by omega) (by decide) rfl dX1_emit_45 (fun H locs hI => ?_)
      refine lv_aload_n hx hb dX1_emit_46 rfl (lv_at hl 0 rfl) ?_
      refine zq_g1 F hI 3 (.ref (a 3)) rfl (by decide) q195 dX1_emit_47 ?_
      refine lv_aload_n hx hb dX1_emit_50 rfl (lv_at hl 0 rfl) ?_
      refine zq_g1 F hI 0 (.int (u 0 0)) rfl (by decide) q192 dX1_emit_51 ?_
      refine zq_top (z := (nI n)) hn0 ?_
      refine lv_iload_n hx hb dX1_emit_54 rfl (lv_at hl 3 rfl) ?_
      refine zq_ist (ws' := zq_w1 a ca (va_up (va_up (va_up u 1 (upd (u 1) n o)) 2 (upd (u 2) n x)) 3 (upd (u 3) n y))) hx hb hI 3 2 (n := 20) (f := (u 3)) rfl rfl n rfl (by omega) (by decide) rfl dX1_emit_55 (fun H locs hI => ?_)
      refine lv_aload_n hx hb dX1_emit_56 rfl (lv_at hl 0 rfl) ?_
      refine zq_g1 F hI 4 (.ref (a 4)) rfl (by decide) q196 dX1_emit_57 ?_
      refine lv_aload_n hx hb dX1_emit_60 rfl (lv_at hl 0 rfl) ?_
      refine zq_g1 F hI 0 (.int (u 0 0)) rfl (by decide) q192 dX1_emit_61 ?_
      refine zq_top (z := (nI n)) hn0 ?_
      refine lv_iload hx hb dX1_emit_64 (lv_at hl 4 rfl) ?_
      refine zq_ist (ws' := zq_w1 a ca (va_up (va_up (va_up (va_up u 1 (upd (u 1) n o)) 2 (upd (u 2) n x)) 3 (upd (u 3) n y)) 4 (upd (u 4) n z))) hx hb hI 4 3 (n := 20) (f := (u 4)) rfl rfl n rfl (by omega) (by decide) rfl dX1_emit_66 (fun H locs hI => ?_)
      refine lv_aload_n hx hb dX1_emit_67 rfl (lv_at hl 0 rfl) ?_
      refine lv_dup hx hb dX1_emit_68 rfl ?_
      refine zq_g1 F hI 0 (.int (u 0 0)) rfl (by decide) q192 dX1_emit_69 ?_
      refine zq_top (z := (nI n)) hn0 ?_
      refine lv_iconst (v := (nI 1)) hx hb dX1_emit_72 (by decide) ?_
      refine lv_iadd hx hb dX1_emit_73 ?_
      refine zq_top (z := (nI (n + 1))) (nI_1 n) ?_
      refine zq_p1 (ty := .int) (ws' := zq_w1 a ca (va_up (va_up (va_up (va_up (va_up u 1 (upd (u 1) n o)) 2 (upd (u 2) n x)) 3 (upd (u 3) n y)) 4 (upd (u 4) n z)) 0 (fun _ => (nI (n + 1))))) F hI 0 (by decide) q192 rfl (by decide +kernel) rfl rfl rfl dX1_emit_74 (fun H locs hI => ?_)
      refine lv_aload_n hx hb dX1_emit_77 rfl (lv_at hl 0 rfl) ?_
      refine lv_iconst (v := (nI 0)) hx hb dX1_emit_78 (by decide) ?_
      refine zq_p1 (ty := .int) (ws' := zq_w1 a ca (va_up (va_up (va_up (va_up (va_up (va_up u 1 (upd (u 1) n o)) 2 (upd (u 2) n x)) 3 (upd (u 3) n y)) 4 (upd (u 4) n z)) 0 (fun _ => (nI (n + 1)))) 6 (fun _ => (nI 0)))) F hI 6 (by decide) q198 rfl (by decide +kernel) rfl rfl rfl dX1_emit_79 (fun H locs hI => ?_)
      refine lv_aload_n hx hb dX1_emit_82 rfl (lv_at hl 0 rfl) ?_
      refine zq_g1 F hI 0 (.int (nI (n + 1))) rfl (by decide) q192 dX1_emit_83 ?_
      exact hQ _ _ (nI (n + 1)) (va_up (va_up (va_up (va_up (va_up (va_up u 1 (upd (u 1) n o)) 2 (upd (u 2) n x)) 3 (upd (u 3) n y)) 4 (upd (u 4) n z)) 0 (fun _ => (nI (n + 1)))) 6 (fun _ => (nI 0))) _ _ rfl hI (⟨_, _, 0, Or.inr (Or.inr ⟨fun g => c6 (by rw [g]), ho, rfl, rfl, rfl, rfl⟩), ⟨rfl, congrArg (fun f => upd f n o) hA.2.1, congrArg (fun f => upd f n x) hA.2.2.1, congrArg (fun f => upd f n y) hA.2.2.2.1, congrArg (fun f => upd f n z) hA.2.2.2.2.1, hA.2.2.2.2.2⟩, rfl⟩) dX1_emit_86
    · refine lv_iconst (v := (-1)) hx hb dX1_emit_24 (by decide) ?_
      exact hQ _ _ (-1) u _ _ rfl hI (⟨P, n, q, Or.inr (Or.inl ⟨fun g => c6 (by rw [g]), zq_b_f hp18 c21, rfl, rfl, rfl, rfl⟩), h0⟩) dX1_emit_25
  · refine lv_bipush (v := (-2)) hx hb dX1_emit_9 (by decide) ?_
    exact hQ _ _ (-2) u _ _ rfl hI (⟨P, n, q, Or.inl ⟨zq_nIj (by omega) (by omega) c6, rfl, rfl, rfl, rfl⟩, h0⟩) dX1_emit_11
end
section
/-! TraceDebuggerModel: lastWrite, runTo, backTo, backBeforeWrite -/
set_option maxRecDepth 100000
set_option maxHeartbeats 4000000 in
set_option maxRecDepth 100000 in
/-- the reference: lastWrite -/
theorem m1_lastWrite (l : Launch) (a : Nat → Nat) (ca : Nat → ClassId) (u : zq_St) (P : zq_St) (n T : Nat) (hok : zq_okP P n) (hT : zq_T P n T) (q : Nat) (hq : q ≤ T) (h0 : zq_I1 P q u) (x1 x2 : Int32) : zq_Ci l yX1_lastWrite cX1_lastWrite 5 .int 2 (a 0) [.int x1, .int x2] (zq_t1 ca) (zq_w1 a ca) u (fun r u' => zq_sLw P q x1 x2 r ∧ zq_I1 P q u') := by
  refine zq_starti (by decide) (Nat.le_of_ble_eq_true rfl) ?_
  intro p e s m args below meth c D A Q ls F hQ hI hl
  have hx := F.1
  have hb := F.2.1
  have hl : lv_has ls 5 [(0, .ref (a 0)), (1, .int x1), (2, .int x2)] := hl
  have hTT := hT.1
  have loop : ∀ (kk pl : Nat), ((x1 = 0 ∧ pl = kk ∧ kk < 6) ∨ (x1 = 1 ∧ pl = 6 + kk ∧ kk < 8)) → zq_sLw P q x1 x2 (nI (zq_lw P pl q)) → ∀ (d j : Nat) (v : zq_St), q < j + d → j ≤ q → zq_S P j v → (∀ k, k < 7 → v k = u k) → ∀ (H : Heap) (locs : List Loc) (ls : Array Slot), zq_IW D (zq_t1 ca) A s (zq_w1 a ca v) H locs → lv_has ls 5 [(4, .int (nI (j + 1))), (3, .int (nI (zq_lw P pl j))), (0, .ref (a 0)), (1, .int x1), (2, .int (nI kk))] → W p l e (zq_rm 2) s m args below meth c H locs 0 0 Q (F0 m 38 ls []) := by
    intro kk pl hc hfin d
    induction d with
    | zero =>
      intro j v g1 g2
      exact absurd g1 (by omega)
    | succ d ih =>
      intro j v hj1 hj2 gS gk H locs ls hI hl
      refine lv_iload hx hb dX1_lastWrite_38 (lv_at hl 0 rfl) ?_
      refine lv_aload_n hx hb dX1_lastWrite_40 rfl (lv_at hl 2 rfl) ?_
      refine zq_g1 F hI 6 (.int (v 6 0)) rfl (by decide) q198 dX1_lastWrite_41 ?_
      refine zq_top (z := (nI q)) ((zq_I1_k h0 gk).2) ?_
      refine lv_icmp_gt (tgt := 79) hx hb dX1_lastWrite_44 (by decide) (fun c44 => ?_) (fun c44 => ?_)
      · have ej : j = q := by have := zq_lti (by omega) (by omega) c44; omega
        refine lv_iload_n hx hb dX1_lastWrite_79 rfl (lv_at hl 1 rfl) ?_
        exact hQ _ _ (nI (zq_lw P pl j)) v _ _ rfl hI (⟨by rw [ej]; exact hfin, zq_I1_k h0 gk⟩) dX1_lastWrite_80
      · have hj := zq_nlt (by omega) (by omega) c44
        refine lv_aload_n hx hb dX1_lastWrite_47 rfl (lv_at hl 2 rfl) ?_
        refine zq_c1v (rest := []) F hI (m1_step l a ca v P n j hok (zq_A_k h0.1 gk) (hT.2.1 j (by omega)) gS) q264 q266 qs18 q23 q267 rfl hdX1_step (by decide) hl.1 rfl (Nat.le_of_ble_eq_true rfl) dX1_lastWrite_48 (by decide) (fun u48 H locs hp48 hI => ?_)
        refine lv_iload_n hx hb dX1_lastWrite_51 rfl (lv_at hl 3 rfl) ?_
        refine lv_if_ne (tgt := 62) hx hb dX1_lastWrite_52 (by decide) (fun c52 => ?_) (fun c52 => ?_)
        · refine lv_aload_n hx hb dX1_lastWrite_62 rfl (lv_at hl 2 rfl) ?_
          refine zq_g1 F hI 12 (.int (u48 12 0)) rfl (by decide) q204 dX1_lastWrite_63 ?_
          refine lv_iload_n hx hb dX1_lastWrite_66 rfl (lv_at hl 4 rfl) ?_
          refine lv_icmp_ne (tgt := 73) hx hb dX1_lastWrite_67 (by decide) (fun c67 => ?_) (fun c67 => ?_)
          · have hpl : pl = 6 + kk ∧ kk < 8 := by
              rcases hc with ⟨g, -⟩ | ⟨-, g⟩
              · exact absurd g c52
              · exact g
            have hw : u48 12 0 = nI kk ↔ zq_w P (j + 1) = pl := by rw [hpl.1]; exact zq_W_c hp48.2.1 hpl.2
            have hlw : zq_lw P pl (j + 1) = zq_lw P pl j := by unfold zq_lw; rw [if_neg (fun g => c67 (hw.mpr g))]; cases j <;> rfl
            refine lv_iinc (v := (nI (j + 1 + 1))) (lv' := [(4, .int (nI (j + 1 + 1))), (3, .int (nI (zq_lw P pl j))), (0, .ref (a 0)), (1, .int x1), (2, .int (nI kk))]) hx hb dX1_lastWrite_73 hl (k := 0) rfl (zq_inc1 (j + 1)) (by decide) rfl (fun ls hl => ?_)
            refine lv_goto (tgt := 38) hx hb dX1_lastWrite_76 (by decide) ?_
            exact ih (j + 1) u48 (by omega) (by omega) hp48.1 (fun k hk => (hp48.2.2 k hk).trans (gk k hk)) _ _ _ hI (by rw [hlw]; exact lv_sub hl [0, 1, 2, 3, 4] rfl)
          · have hpl : pl = 6 + kk ∧ kk < 8 := by
              rcases hc with ⟨g, -⟩ | ⟨-, g⟩
              · exact absurd g c52
              · exact g
            have hw : u48 12 0 = nI kk ↔ zq_w P (j + 1) = pl := by rw [hpl.1]; exact zq_W_c hp48.2.1 hpl.2
            have hlw : zq_lw P pl (j + 1) = j + 1 := by unfold zq_lw; rw [if_pos (hw.mp c67)]
            refine lv_iload hx hb dX1_lastWrite_70 (lv_at hl 0 rfl) ?_
            refine lv_istore_n (lv' := [(3, .int (nI (j + 1))), (4, .int (nI (j + 1))), (0, .ref (a 0)), (1, .int x1), (2, .int (nI kk))]) hx hb dX1_lastWrite_72 rfl hl (by decide) rfl (fun ls hl => ?_)
            refine lv_iinc (v := (nI (j + 1 + 1))) (lv' := [(4, .int (nI (j + 1 + 1))), (3, .int (nI (j + 1))), (0, .ref (a 0)), (1, .int x1), (2, .int (nI kk))]) hx hb dX1_lastWrite_73 hl (k := 1) rfl (zq_inc1 (j + 1)) (by decide) rfl (fun ls hl => ?_)
            refine lv_goto (tgt := 38) hx hb dX1_lastWrite_76 (by decide) ?_
            exact ih (j + 1) u48 (by omega) (by omega) hp48.1 (fun k hk => (hp48.2.2 k hk).trans (gk k hk)) _ _ _ hI (by rw [hlw]; exact lv_sub hl [0, 1, 2, 3, 4] rfl)
        · refine lv_aload_n hx hb dX1_lastWrite_55 rfl (lv_at hl 2 rfl) ?_
          refine zq_g1 F hI 11 (.int (u48 11 0)) rfl (by decide) q203 dX1_lastWrite_56 ?_
          refine lv_goto (tgt := 66) hx hb dX1_lastWrite_59 (by decide) ?_
          refine lv_iload_n hx hb dX1_lastWrite_66 rfl (lv_at hl 4 rfl) ?_
          refine lv_icmp_ne (tgt := 73) hx hb dX1_lastWrite_67 (by decide) (fun c67 => ?_) (fun c67 => ?_)
          · have hpl : pl = kk ∧ kk < 6 := by
              rcases hc with ⟨-, g⟩ | ⟨g, -⟩
              · exact g
              · rw [c52] at g; exact absurd g (by decide)
            have hw : u48 11 0 = nI kk ↔ zq_w P (j + 1) = pl := by rw [hpl.1]; exact zq_W_v hp48.2.1 hpl.2
            have hlw : zq_lw P pl (j + 1) = zq_lw P pl j := by unfold zq_lw; rw [if_neg (fun g => c67 (hw.mpr g))]; cases j <;> rfl
            refine lv_iinc (v := (nI (j + 1 + 1))) (lv' := [(4, .int (nI (j + 1 + 1))), (3, .int (nI (zq_lw P pl j))), (0, .ref (a 0)), (1, .int x1), (2, .int (nI kk))]) hx hb dX1_lastWrite_73 hl (k := 0) rfl (zq_inc1 (j + 1)) (by decide) rfl (fun ls hl => ?_)
            refine lv_goto (tgt := 38) hx hb dX1_lastWrite_76 (by decide) ?_
            exact ih (j + 1) u48 (by omega) (by omega) hp48.1 (fun k hk => (hp48.2.2 k hk).trans (gk k hk)) _ _ _ hI (by rw [hlw]; exact lv_sub hl [0, 1, 2, 3, 4] rfl)
          · have hpl : pl = kk ∧ kk < 6 := by
              rcases hc with ⟨-, g⟩ | ⟨g, -⟩
              · exact g
              · rw [c52] at g; exact absurd g (by decide)
            have hw : u48 11 0 = nI kk ↔ zq_w P (j + 1) = pl := by rw [hpl.1]; exact zq_W_v hp48.2.1 hpl.2
            have hlw : zq_lw P pl (j + 1) = j + 1 := by unfold zq_lw; rw [if_pos (hw.mp c67)]
            refine lv_iload hx hb dX1_lastWrite_70 (lv_at hl 0 rfl) ?_
            refine lv_istore_n (lv' := [(3, .int (nI (j + 1))), (4, .int (nI (j + 1))), (0, .ref (a 0)), (1, .int x1), (2, .int (nI kk))]) hx hb dX1_lastWrite_72 rfl hl (by decide) rfl (fun ls hl => ?_)
            refine lv_iinc (v := (nI (j + 1 + 1))) (lv' := [(4, .int (nI (j + 1 + 1))), (3, .int (nI (j + 1))), (0, .ref (a 0)), (1, .int x1), (2, .int (nI kk))]) hx hb dX1_lastWrite_73 hl (k := 1) rfl (zq_inc1 (j + 1)) (by decide) rfl (fun ls hl => ?_)
            refine lv_goto (tgt := 38) hx hb dX1_lastWrite_76 (by decide) ?_
            exact ih (j + 1) u48 (by omega) (by omega) hp48.1 (fun k hk => (hp48.2.2 k hk).trans (gk k hk)) _ _ _ hI (by rw [hlw]; exact lv_sub hl [0, 1, 2, 3, 4] rfl)
  refine lv_iload_n hx hb dX1_lastWrite_0 rfl (lv_at hl 1 rfl) ?_
  refine lv_if_eq (tgt := 9) hx hb dX1_lastWrite_1 (by decide) (fun c1 => ?_) (fun c1 => ?_)
  · refine lv_iload_n hx hb dX1_lastWrite_9 rfl (lv_at hl 2 rfl) ?_
    refine lv_if_lt (tgt := 27) hx hb dX1_lastWrite_10 (by decide) (fun c10 => ?_) (fun c10 => ?_)
    · refine lv_iconst (v := (-1)) hx hb dX1_lastWrite_27 (by decide) ?_
      exact hQ _ _ (-1) u _ _ rfl hI (⟨Or.inr (Or.inr ⟨fun k hk _ => zq_out_neg 6 (by omega) c10 k hk, fun k hk _ => zq_out_neg 8 (by omega) c10 k hk, rfl⟩), h0⟩) dX1_lastWrite_28
    · refine lv_iload_n hx hb dX1_lastWrite_13 rfl (lv_at hl 2 rfl) ?_
      refine lv_iload_n hx hb dX1_lastWrite_14 rfl (lv_at hl 1 rfl) ?_
      refine lv_if_ne (tgt := 22) hx hb dX1_lastWrite_15 (by decide) (fun c15 => ?_) (fun c15 => ?_)
      · exact absurd c1 c15
      · refine lv_iconst (v := (nI 5)) hx hb dX1_lastWrite_18 (by decide) ?_
        refine lv_goto (tgt := 24) hx hb dX1_lastWrite_19 (by decide) ?_
        refine lv_icmp_le (tgt := 29) hx hb dX1_lastWrite_24 (by decide) (fun c24 => ?_) (fun c24 => ?_)
        · obtain ⟨k, hk, ex⟩ := zq_in_le 5 rfl (by omega) c10 c24
          subst ex
          refine lv_iconst (v := (nI 0)) hx hb dX1_lastWrite_29 (by decide) ?_
          refine lv_istore_n (lv' := [(3, .int (nI 0)), (0, .ref (a 0)), (1, .int x1), (2, .int (nI k))]) hx hb dX1_lastWrite_30 rfl hl (by decide) rfl (fun ls hl => ?_)
          refine lv_aload_n hx hb dX1_lastWrite_31 rfl (lv_at hl 1 rfl) ?_
          refine zq_c1v (rest := []) F hI (m1_begin l a ca u P h0.1) q256 q258 qs16 q23 q259 rfl hdX1_begin (by decide) hl.1 rfl (Nat.le_of_ble_eq_true rfl) dX1_lastWrite_32 (by decide) (fun u32 H locs hp32 hI => ?_)
          refine lv_iconst (v := (nI 1)) hx hb dX1_lastWrite_35 (by decide) ?_
          refine lv_istore (lv' := [(4, .int (nI 1)), (3, .int (nI 0)), (0, .ref (a 0)), (1, .int x1), (2, .int (nI k))]) hx hb dX1_lastWrite_36 hl (by decide) rfl (fun ls hl => ?_)
          exact loop k k (Or.inl ⟨c1, rfl, by omega⟩) (Or.inl ⟨k, by omega, c1, rfl, rfl⟩) (q + 1) 0 u32 (by omega) (by omega) hp32.1 hp32.2 _ _ _ hI (lv_sub hl [0, 1, 2, 3, 4] rfl)
        · refine lv_iconst (v := (-1)) hx hb dX1_lastWrite_27 (by decide) ?_
          exact hQ _ _ (-1) u _ _ rfl hI (⟨Or.inr (Or.inr ⟨fun k hk _ => zq_out_nle 5 rfl (by omega) c24 k hk, fun k hk e => by rw [c1] at e; exact absurd e (by decide), rfl⟩), h0⟩) dX1_lastWrite_28
  · refine lv_iload_n hx hb dX1_lastWrite_4 rfl (lv_at hl 1 rfl) ?_
    refine lv_iconst (v := 1) hx hb dX1_lastWrite_5 (by decide) ?_
    refine lv_icmp_ne (tgt := 27) hx hb dX1_lastWrite_6 (by decide) (fun c6 => ?_) (fun c6 => ?_)
    · refine lv_iconst (v := (-1)) hx hb dX1_lastWrite_27 (by decide) ?_
      exact hQ _ _ (-1) u _ _ rfl hI (⟨Or.inr (Or.inr ⟨fun k hk e => absurd e c1, fun k hk e => absurd e c6, rfl⟩), h0⟩) dX1_lastWrite_28
    · refine lv_iload_n hx hb dX1_lastWrite_9 rfl (lv_at hl 2 rfl) ?_
      refine lv_if_lt (tgt := 27) hx hb dX1_lastWrite_10 (by decide) (fun c10 => ?_) (fun c10 => ?_)
      · refine lv_iconst (v := (-1)) hx hb dX1_lastWrite_27 (by decide) ?_
        exact hQ _ _ (-1) u _ _ rfl hI (⟨Or.inr (Or.inr ⟨fun k hk _ => zq_out_neg 6 (by omega) c10 k hk, fun k hk _ => zq_out_neg 8 (by omega) c10 k hk, rfl⟩), h0⟩) dX1_lastWrite_28
      · refine lv_iload_n hx hb dX1_lastWrite_13 rfl (lv_at hl 2 rfl) ?_
        refine lv_iload_n hx hb dX1_lastWrite_14 rfl (lv_at hl 1 rfl) ?_
        refine lv_if_ne (tgt := 22) hx hb dX1_lastWrite_15 (by decide) (fun c15 => ?_) (fun c15 => ?_)
        · refine lv_bipush (v := (nI 7)) hx hb dX1_lastWrite_22 (by decide) ?_
          refine lv_icmp_le (tgt := 29) hx hb dX1_lastWrite_24 (by decide) (fun c24 => ?_) (fun c24 => ?_)
          · obtain ⟨k, hk, ex⟩ := zq_in_le 7 rfl (by omega) c10 c24
            subst ex
            refine lv_iconst (v := (nI 0)) hx hb dX1_lastWrite_29 (by decide) ?_
            refine lv_istore_n (lv' := [(3, .int (nI 0)), (0, .ref (a 0)), (1, .int x1), (2, .int (nI k))]) hx hb dX1_lastWrite_30 rfl hl (by decide) rfl (fun ls hl => ?_)
            refine lv_aload_n hx hb dX1_lastWrite_31 rfl (lv_at hl 1 rfl) ?_
            refine zq_c1v (rest := []) F hI (m1_begin l a ca u P h0.1) q256 q258 qs16 q23 q259 rfl hdX1_begin (by decide) hl.1 rfl (Nat.le_of_ble_eq_true rfl) dX1_lastWrite_32 (by decide) (fun u32 H locs hp32 hI => ?_)
            refine lv_iconst (v := (nI 1)) hx hb dX1_lastWrite_35 (by decide) ?_
            refine lv_istore (lv' := [(4, .int (nI 1)), (3, .int (nI 0)), (0, .ref (a 0)), (1, .int x1), (2, .int (nI k))]) hx hb dX1_lastWrite_36 hl (by decide) rfl (fun ls hl => ?_)
            exact loop k (6 + k) (Or.inr ⟨c6, rfl, by omega⟩) (Or.inr (Or.inl ⟨k, by omega, c6, rfl, rfl⟩)) (q + 1) 0 u32 (by omega) (by omega) hp32.1 hp32.2 _ _ _ hI (lv_sub hl [0, 1, 2, 3, 4] rfl)
          · refine lv_iconst (v := (-1)) hx hb dX1_lastWrite_27 (by decide) ?_
            exact hQ _ _ (-1) u _ _ rfl hI (⟨Or.inr (Or.inr ⟨fun k hk e => absurd e c1, fun k hk _ => zq_out_nle 7 rfl (by omega) c24 k hk, rfl⟩), h0⟩) dX1_lastWrite_28
        · exact absurd c15 c1
set_option maxHeartbeats 4000000 in
set_option maxRecDepth 100000 in
/-- the reference: runTo -/
theorem m1_runTo (l : Launch) (a : Nat → Nat) (ca : Nat → ClassId) (u : zq_St) (P : zq_St) (n T : Nat) (hok : zq_okP P n) (hT : zq_T P n T) (q : Nat) (hq : q ≤ T) (h0 : zq_I1 P q u) (x1 : Int32) : zq_Ci l yX1_runTo cX1_runTo 4 .int 3 (a 0) [.int x1] (zq_t1 ca) (zq_w1 a ca) u (fun r u' => ∃ q', zq_sRu P T q x1 r q' ∧ zq_I1 P q' u') := by
  refine zq_starti (by decide) (Nat.le_of_ble_eq_true rfl) ?_
  intro p e s m args below meth c D A Q ls F hQ hI hl
  have hx := F.1
  have hb := F.2.1
  have hl : lv_has ls 4 [(0, .ref (a 0)), (1, .int x1)] := hl
  have hTT := hT.1
  have hN20 := fun j (hj : j ≤ T) => zq_N_le hok hT hj
  refine lv_aload_n hx hb dX1_runTo_0 rfl (lv_at hl 0 rfl) ?_
  refine lv_iload_n hx hb dX1_runTo_1 rfl (lv_at hl 1 rfl) ?_
  refine zq_c1i (rest := []) F hI (m1_isPlace l a ca u x1) q240 q242 qs14 q23 q243 rfl hdX1_isPlace (by decide) hl.1 rfl (Nat.le_of_ble_eq_true rfl) dX1_runTo_2 (by decide) (fun r2 u2 H locs hp2 hI => ?_)
  obtain ⟨hu2, hp2⟩ := hp2
  rw [hu2] at hI
  refine lv_if_ne (tgt := 10) hx hb dX1_runTo_5 (by decide) (fun c5 => ?_) (fun c5 => ?_)
  · obtain ⟨k, hk, ex⟩ := zq_b_t hp2 c5
    subst ex
    have loop : ∀ (d j : Nat) (v : zq_St), T + 1 < j + d → j ≤ T + 1 → q < j → (∀ r, q < r → r < j → zq_N P r ≠ k) → zq_I1 P q v → ∀ (H : Heap) (locs : List Loc) (ls : Array Slot), zq_IW D (zq_t1 ca) A s (zq_w1 a ca v) H locs → lv_has ls 4 [(3, .int (nI j)), (2, .int (nI T)), (0, .ref (a 0)), (1, .int (nI k))] → W p l e (zq_rm 3) s m args below meth c H locs 0 0 Q (F0 m 22 ls []) := by
      intro d
      induction d with
      | zero =>
        intro j v g1 g2
        exact absurd g1 (by omega)
      | succ d ih =>
        intro j v hj1 hj2 hj3 gno g0 H locs ls hI hl
        refine lv_iload_n hx hb dX1_runTo_22 rfl (lv_at hl 0 rfl) ?_
        refine lv_iload_n hx hb dX1_runTo_23 rfl (lv_at hl 1 rfl) ?_
        refine lv_icmp_gt (tgt := 53) hx hb dX1_runTo_24 (by decide) (fun c24 => ?_) (fun c24 => ?_)
        · have ej : j = T + 1 := by have := zq_lti (by omega) (by omega) c24; omega
          refine lv_bipush (v := (-3)) hx hb dX1_runTo_53 (by decide) ?_
          exact hQ _ _ (-3) v _ _ rfl hI (⟨q, Or.inr (Or.inl ⟨k, hk, rfl, fun r g2 g3 => gno r g2 (by omega), rfl, rfl⟩), g0⟩) dX1_runTo_55
        · have hj := zq_nlt (by omega) (by omega) c24
          refine lv_aload_n hx hb dX1_runTo_27 rfl (lv_at hl 2 rfl) ?_
          refine lv_iload_n hx hb dX1_runTo_28 rfl (lv_at hl 0 rfl) ?_
          refine zq_c1v (rest := []) F hI (m1_state l a ca v P n T hok hT g0.1 j _ rfl (by omega)) q277 q279 qs20 q23 q280 rfl hdX1_state (by decide) hl.1 rfl (Nat.le_of_ble_eq_true rfl) dX1_runTo_29 (by decide) (fun u29 H locs hp29 hI => ?_)
          have g1 := zq_I1_k g0 hp29.2
          refine lv_aload_n hx hb dX1_runTo_32 rfl (lv_at hl 2 rfl) ?_
          refine zq_g1 F hI 9 (.int (u29 9 0)) rfl (by decide) q201 dX1_runTo_33 ?_
          refine zq_top (z := (nI (zq_N P j))) hp29.1.2.2.1 ?_
          refine lv_iload_n hx hb dX1_runTo_36 rfl (lv_at hl 3 rfl) ?_
          refine lv_icmp_ne (tgt := 47) hx hb dX1_runTo_37 (by decide) (fun c37 => ?_) (fun c37 => ?_)
          · have hne : zq_N P j ≠ k := fun g => c37 (by rw [g])
            refine lv_iinc (v := (nI (j + 1))) (lv' := [(3, .int (nI (j + 1))), (2, .int (nI T)), (0, .ref (a 0)), (1, .int (nI k))]) hx hb dX1_runTo_47 hl (k := 0) rfl (zq_inc1 j) (by decide) rfl (fun ls hl => ?_)
            refine lv_goto (tgt := 22) hx hb dX1_runTo_50 (by decide) ?_
            exact ih (j + 1) u29 (by omega) (by omega) (by omega) (zq_rx gno hne) g1 _ _ _ hI (lv_sub hl [0, 1, 2, 3] rfl)
          · have hNj : zq_N P j ≤ 20 := by
              rcases Nat.lt_or_ge (zq_N P j) 21 with g | g
              · omega
              · exact hN20 j hj
            have heq : zq_N P j = k := zq_nIj (by omega) (by omega) c37
            refine lv_aload_n hx hb dX1_runTo_40 rfl (lv_at hl 2 rfl) ?_
            refine lv_iload_n hx hb dX1_runTo_41 rfl (lv_at hl 0 rfl) ?_
            refine zq_p1 (ty := .int) (ws' := zq_w1 a ca (va_up u29 6 (fun _ => (nI j)))) F hI 6 (by decide) q198 rfl (by decide +kernel) rfl rfl rfl dX1_runTo_42 (fun H locs hI => ?_)
            refine lv_iload_n hx hb dX1_runTo_45 rfl (lv_at hl 0 rfl) ?_
            exact hQ _ _ (nI j) (va_up u29 6 (fun _ => (nI j))) _ _ rfl hI (⟨j, Or.inl ⟨k, j, hk, rfl, hj3, hj, heq, gno, rfl, rfl⟩, zq_A_of g1.1 rfl rfl rfl rfl rfl rfl, rfl⟩) dX1_runTo_46
    refine lv_aload_n hx hb dX1_runTo_10 rfl (lv_at hl 0 rfl) ?_
    refine zq_c1i (rest := []) F hI (m1_steps l a ca u P n hok h0.1) q252 q253 q254 q23 q255 rfl hdX1_steps (by decide) hl.1 rfl (Nat.le_of_ble_eq_true rfl) dX1_runTo_11 (by decide) (fun r11 u11 H locs hp11 hI => ?_)
    obtain ⟨T2, hT2, er, gk⟩ := hp11
    rw [zq_T_u hT2 hT] at er
    have g0 := zq_I1_k h0 gk
    refine zq_top (z := (nI T)) er ?_
    refine lv_istore_n (lv' := [(2, .int (nI T)), (0, .ref (a 0)), (1, .int (nI k))]) hx hb dX1_runTo_14 rfl hl (by decide) rfl (fun ls hl => ?_)
    refine lv_aload_n hx hb dX1_runTo_15 rfl (lv_at hl 1 rfl) ?_
    refine zq_g1 F hI 6 (.int (u11 6 0)) rfl (by decide) q198 dX1_runTo_16 ?_
    refine zq_top (z := (nI q)) g0.2 ?_
    refine lv_iconst (v := (nI 1)) hx hb dX1_runTo_19 (by decide) ?_
    refine lv_iadd hx hb dX1_runTo_20 ?_
    refine zq_top (z := (nI (q + 1))) (nI_1 q) ?_
    refine lv_istore_n (lv' := [(3, .int (nI (q + 1))), (2, .int (nI T)), (0, .ref (a 0)), (1, .int (nI k))]) hx hb dX1_runTo_21 rfl hl (by decide) rfl (fun ls hl => ?_)
    exact loop (T + 2) (q + 1) u11 (by omega) (by omega) (by omega) (fun r g2 g3 => absurd g3 (by omega)) g0 _ _ _ hI (lv_sub hl [0, 1, 2, 3] rfl)
  · refine lv_iconst (v := (-1)) hx hb dX1_runTo_8 (by decide) ?_
    exact hQ _ _ (-1) u _ _ rfl hI (⟨q, Or.inr (Or.inr ⟨zq_no2 (zq_b_f hp2 c5), rfl, rfl⟩), h0⟩) dX1_runTo_9
set_option maxHeartbeats 4000000 in
set_option maxRecDepth 100000 in
/-- the reference: backTo -/
theorem m1_backTo (l : Launch) (a : Nat → Nat) (ca : Nat → ClassId) (u : zq_St) (P : zq_St) (n T : Nat) (hok : zq_okP P n) (hT : zq_T P n T) (q : Nat) (hq : q ≤ T) (h0 : zq_I1 P q u) (x1 : Int32) : zq_Ci l yX1_backTo cX1_backTo 3 .int 3 (a 0) [.int x1] (zq_t1 ca) (zq_w1 a ca) u (fun r u' => ∃ q', zq_sBa P q x1 r q' ∧ zq_I1 P q' u') := by
  refine zq_starti (by decide) (Nat.le_of_ble_eq_true rfl) ?_
  intro p e s m args below meth c D A Q ls F hQ hI hl
  have hx := F.1
  have hb := F.2.1
  have hl : lv_has ls 3 [(0, .ref (a 0)), (1, .int x1)] := hl
  have hTT := hT.1
  have hN20 := fun j (hj : j ≤ T) => zq_N_le hok hT hj
  refine lv_aload_n hx hb dX1_backTo_0 rfl (lv_at hl 0 rfl) ?_
  refine lv_iload_n hx hb dX1_backTo_1 rfl (lv_at hl 1 rfl) ?_
  refine zq_c1i (rest := []) F hI (m1_isPlace l a ca u x1) q240 q242 qs14 q23 q243 rfl hdX1_isPlace (by decide) hl.1 rfl (Nat.le_of_ble_eq_true rfl) dX1_backTo_2 (by decide) (fun r2 u2 H locs hp2 hI => ?_)
  obtain ⟨hu2, hp2⟩ := hp2
  rw [hu2] at hI
  refine lv_if_ne (tgt := 10) hx hb dX1_backTo_5 (by decide) (fun c5 => ?_) (fun c5 => ?_)
  · obtain ⟨k, hk, ex⟩ := zq_b_t hp2 c5
    subst ex
    have loop : ∀ (j : Nat) (v : zq_St), j ≤ q → (∀ r, j ≤ r → r < q → zq_N P r ≠ k) → zq_I1 P q v → ∀ (H : Heap) (locs : List Loc) (ls : Array Slot), zq_IW D (zq_t1 ca) A s (zq_w1 a ca v) H locs → lv_has ls 3 [(2, .int (nI j - nI 1)), (0, .ref (a 0)), (1, .int (nI k))] → W p l e (zq_rm 3) s m args below meth c H locs 0 0 Q (F0 m 17 ls []) := by
      intro j
      induction j with
      | zero =>
        intro v hj gno g0 H locs ls hI hl
        refine lv_iload_n hx hb dX1_backTo_17 rfl (lv_at hl 0 rfl) ?_
        refine lv_if_lt (tgt := 47) hx hb dX1_backTo_18 (by decide) (fun c18 => ?_) (fun c18 => ?_)
        · refine lv_bipush (v := (-3)) hx hb dX1_backTo_47 (by decide) ?_
          exact hQ _ _ (-3) v _ _ rfl hI (⟨q, Or.inr (Or.inl ⟨k, hk, rfl, fun r g2 => gno r (by omega) g2, rfl, rfl⟩), g0⟩) dX1_backTo_49
        · exact absurd (by decide) c18
      | succ j ih =>
        intro v hj gno g0 H locs ls hI hl
        rw [zq_sub1 (by omega), show j + 1 - 1 = j by omega] at hl
        refine lv_iload_n hx hb dX1_backTo_17 rfl (lv_at hl 0 rfl) ?_
        refine lv_if_lt (tgt := 47) hx hb dX1_backTo_18 (by decide) (fun c18 => ?_) (fun c18 => ?_)
        · exact absurd c18 (nI_pos (by omega))
        · refine lv_aload_n hx hb dX1_backTo_21 rfl (lv_at hl 1 rfl) ?_
          refine lv_iload_n hx hb dX1_backTo_22 rfl (lv_at hl 0 rfl) ?_
          refine zq_c1v (rest := []) F hI (m1_state l a ca v P n T hok hT g0.1 j _ rfl (by omega)) q277 q279 qs20 q23 q280 rfl hdX1_state (by decide) hl.1 rfl (Nat.le_of_ble_eq_true rfl) dX1_backTo_23 (by decide) (fun u23 H locs hp23 hI => ?_)
          have g1 := zq_I1_k g0 hp23.2
          refine lv_aload_n hx hb dX1_backTo_26 rfl (lv_at hl 1 rfl) ?_
          refine zq_g1 F hI 9 (.int (u23 9 0)) rfl (by decide) q201 dX1_backTo_27 ?_
          refine zq_top (z := (nI (zq_N P j))) hp23.1.2.2.1 ?_
          refine lv_iload_n hx hb dX1_backTo_30 rfl (lv_at hl 2 rfl) ?_
          refine lv_icmp_ne (tgt := 41) hx hb dX1_backTo_31 (by decide) (fun c31 => ?_) (fun c31 => ?_)
          · have hne : zq_N P j ≠ k := fun g => c31 (by rw [g])
            refine lv_iinc (v := (nI j - nI 1)) (lv' := [(2, .int (nI j - nI 1)), (0, .ref (a 0)), (1, .int (nI k))]) hx hb dX1_backTo_41 hl (k := 0) rfl zq_sm (by decide) rfl (fun ls hl => ?_)
            refine lv_goto (tgt := 17) hx hb dX1_backTo_44 (by decide) ?_
            exact ih u23 (by omega) (zq_rb gno hne) g1 _ _ _ hI (lv_sub hl [0, 1, 2] rfl)
          · have hNj := hN20 j (by omega)
            have heq : zq_N P j = k := zq_nIj (by omega) (by omega) c31
            refine lv_aload_n hx hb dX1_backTo_34 rfl (lv_at hl 1 rfl) ?_
            refine lv_iload_n hx hb dX1_backTo_35 rfl (lv_at hl 0 rfl) ?_
            refine zq_p1 (ty := .int) (ws' := zq_w1 a ca (va_up u23 6 (fun _ => (nI j)))) F hI 6 (by decide) q198 rfl (by decide +kernel) rfl rfl rfl dX1_backTo_36 (fun H locs hI => ?_)
            refine lv_iload_n hx hb dX1_backTo_39 rfl (lv_at hl 0 rfl) ?_
            exact hQ _ _ (nI j) (va_up u23 6 (fun _ => (nI j))) _ _ rfl hI (⟨j, Or.inl ⟨k, j, hk, rfl, hj, heq, fun r g2 g3 => gno r (by omega) g3, rfl, rfl⟩, zq_A_of g1.1 rfl rfl rfl rfl rfl rfl, rfl⟩) dX1_backTo_40
    refine lv_aload_n hx hb dX1_backTo_10 rfl (lv_at hl 0 rfl) ?_
    refine zq_g1 F hI 6 (.int (u 6 0)) rfl (by decide) q198 dX1_backTo_11 ?_
    refine zq_top (z := (nI q)) h0.2 ?_
    refine lv_iconst (v := (nI 1)) hx hb dX1_backTo_14 (by decide) ?_
    refine lv_isub hx hb dX1_backTo_15 ?_
    refine lv_istore_n (lv' := [(2, .int ((nI q) - (nI 1))), (0, .ref (a 0)), (1, .int (nI k))]) hx hb dX1_backTo_16 rfl hl (by decide) rfl (fun ls hl => ?_)
    exact loop q u (by omega) (fun r g2 g3 => absurd g3 (by omega)) h0 _ _ _ hI (lv_sub hl [0, 1, 2] rfl)
  · refine lv_iconst (v := (-1)) hx hb dX1_backTo_8 (by decide) ?_
    exact hQ _ _ (-1) u _ _ rfl hI (⟨q, Or.inr (Or.inr ⟨zq_no2 (zq_b_f hp2 c5), rfl, rfl⟩), h0⟩) dX1_backTo_9
set_option maxHeartbeats 4000000 in
set_option maxRecDepth 100000 in
/-- the reference: backBeforeWrite -/
theorem m1_backBeforeWrite (l : Launch) (a : Nat → Nat) (ca : Nat → ClassId) (u : zq_St) (P : zq_St) (n T : Nat) (hok : zq_okP P n) (hT : zq_T P n T) (q : Nat) (hq : q ≤ T) (h0 : zq_I1 P q u) (x1 : Int32) : zq_Ci l yX1_backBeforeWrite cX1_backBeforeWrite 3 .int 3 (a 0) [.int x1] (zq_t1 ca) (zq_w1 a ca) u (fun r u' => ∃ q', zq_sBw P q x1 r q' ∧ zq_I1 P q' u') := by
  refine zq_starti (by decide) (Nat.le_of_ble_eq_true rfl) ?_
  intro p e s m args below meth c D A Q ls F hQ hI hl
  have hx := F.1
  have hb := F.2.1
  have hl : lv_has ls 3 [(0, .ref (a 0)), (1, .int x1)] := hl
  have hTT := hT.1
  refine lv_aload_n hx hb dX1_backBeforeWrite_0 rfl (lv_at hl 0 rfl) ?_
  refine lv_iload_n hx hb dX1_backBeforeWrite_1 rfl (lv_at hl 1 rfl) ?_
  refine zq_c1i (rest := []) F hI (m1_isVariable l a ca u x1) q244 q246 qs15 q23 q247 rfl hdX1_isVariable (by decide) hl.1 rfl (Nat.le_of_ble_eq_true rfl) dX1_backBeforeWrite_2 (by decide) (fun r2 u2 H locs hp2 hI => ?_)
  obtain ⟨hu2, hp2⟩ := hp2
  rw [hu2] at hI
  refine lv_if_ne (tgt := 10) hx hb dX1_backBeforeWrite_5 (by decide) (fun c5 => ?_) (fun c5 => ?_)
  · obtain ⟨k, hk, ex⟩ := zq_b_t hp2 c5
    subst ex
    refine lv_aload_n hx hb dX1_backBeforeWrite_10 rfl (lv_at hl 0 rfl) ?_
    refine lv_iconst (v := 0) hx hb dX1_backBeforeWrite_11 (by decide) ?_
    refine lv_iload_n hx hb dX1_backBeforeWrite_12 rfl (lv_at hl 1 rfl) ?_
    refine zq_c1i (rest := []) F hI (m1_lastWrite l a ca u P n T hok hT q hq h0 0 (nI k)) q309 q294 q295 q23 q296 rfl hdX1_lastWrite (by decide) hl.1 rfl (Nat.le_of_ble_eq_true rfl) dX1_backBeforeWrite_13 (by decide) (fun r13 u13 H locs hp13 hI => ?_)
    have er := zq_sLw_u hp13.1 (Or.inl ⟨k, hk, rfl, rfl, rfl⟩)
    have hlw := zq_lw_le P k q
    refine zq_top (z := (nI (zq_lw P k q))) er ?_
    refine lv_istore_n (lv' := [(2, .int (nI (zq_lw P k q))), (0, .ref (a 0)), (1, .int (nI k))]) hx hb dX1_backBeforeWrite_16 rfl hl (by decide) rfl (fun ls hl => ?_)
    refine lv_iload_n hx hb dX1_backBeforeWrite_17 rfl (lv_at hl 0 rfl) ?_
    refine lv_if_ne (tgt := 24) hx hb dX1_backBeforeWrite_18 (by decide) (fun c18 => ?_) (fun c18 => ?_)
    · have h18 := zq_nI0n c18
      refine lv_aload_n hx hb dX1_backBeforeWrite_24 rfl (lv_at hl 1 rfl) ?_
      refine lv_iload_n hx hb dX1_backBeforeWrite_25 rfl (lv_at hl 0 rfl) ?_
      refine lv_iconst (v := (nI 1)) hx hb dX1_backBeforeWrite_26 (by decide) ?_
      refine lv_isub hx hb dX1_backBeforeWrite_27 ?_
      refine zq_top (z := (nI ((zq_lw P k q) - 1))) (zq_sub1 (by omega)) ?_
      refine zq_p1 (ty := .int) (ws' := zq_w1 a ca (va_up u13 6 (fun _ => (nI ((zq_lw P k q) - 1))))) F hI 6 (by decide) q198 rfl (by decide +kernel) rfl rfl rfl dX1_backBeforeWrite_28 (fun H locs hI => ?_)
      refine lv_aload_n hx hb dX1_backBeforeWrite_31 rfl (lv_at hl 1 rfl) ?_
      refine zq_g1 F hI 6 (.int (nI ((zq_lw P k q) - 1))) rfl (by decide) q198 dX1_backBeforeWrite_32 ?_
      exact hQ _ _ (nI ((zq_lw P k q) - 1)) (va_up u13 6 (fun _ => (nI ((zq_lw P k q) - 1)))) _ _ rfl hI (⟨_, Or.inr (Or.inl ⟨k, hk, rfl, by omega, rfl, rfl⟩), zq_A_of hp13.2.1 rfl rfl rfl rfl rfl rfl, rfl⟩) dX1_backBeforeWrite_35
    · refine lv_bipush (v := (-3)) hx hb dX1_backBeforeWrite_21 (by decide) ?_
      exact hQ _ _ (-3) u13 _ _ rfl hI (⟨q, Or.inl ⟨k, hk, rfl, zq_nI0 (by omega) c18, rfl, rfl⟩, hp13.2⟩) dX1_backBeforeWrite_23
  · refine lv_iconst (v := (-1)) hx hb dX1_backBeforeWrite_8 (by decide) ?_
    exact hQ _ _ (-1) u _ _ rfl hI (⟨q, Or.inr (Or.inr ⟨zq_no2 (zq_b_f hp2 c5), rfl, rfl⟩), h0⟩) dX1_backBeforeWrite_9
end
section
/-! the constructor of the reference -/
set_option maxRecDepth 100000
abbrev zq_d1 : List Value := [.int 0, .null, .null, .null, .null, .int 0, .int 0, .null, .null, .int 0, .int 0, .int 0, .int 0]
abbrev zq_rn1 : Room := { frames := 1, cells := 6, slots := 94, locals := 30 }
set_option maxHeartbeats 4000000 in
set_option maxRecDepth 100000 in
theorem m1_init (l : Launch) (D : va_G) (h sz : Nat) : Met l yX1_init (ws_ yX1_init cX1_init 1 none) zq_rn1 (va_Pc [.ref h] (fun U => U.heap.size = sz ∧ va_P D zq_cl [(h, .inr (1, zq_d1))] U.heap ∧ va_K D zq_cl [] U ∧ va_D (fun _ => True) [(h, .inr (1, zq_d1))])) (va_Qv (fun u : (Nat → Nat) × (Nat → ClassId) × zq_St => u.1 0 = h ∧ zq_I1 (fun _ _ => 0) 0 u.2.2) (fun u t => va_P D zq_cl (zq_w1 u.1 u.2.1 u.2.2) t.heap ∧ va_K D zq_cl (zq_t1 u.2.1) t ∧ va_D (va_A [(h, .inr (1, zq_d1))] sz) (zq_w1 u.1 u.2.1 u.2.2)) (va_A [(h, .inr (1, zq_d1))] sz)) 6 94 (va_A [(h, .inr (1, zq_d1))] sz) := by
  refine Met.ofW (cc := cX1_init) (maxL := 1) (ret := none) (by decide) rfl ?_
  intro p e s m args below meth c s₁ B hml hv
  obtain ⟨rfl, hsz, hP, hK, hD0⟩ := hv
  have hx := B.exec
  have hb := B.bytes
  have hr := B.returns
  have hts := atoms_spec (ws := ws_ yX1_init cX1_init 1 none) B.pre
  have hts : ∀ w ∈ lw_all, w.before _ s = true := fun w h => hts w (List.mem_cons_of_mem _ h)
  have hown : s.vm.findClass RX1 = some m.cls := findClass_of_methodNamed B.named
  have hlocks := B.notSynchronized
  have hin : meth.name = "<init>" := (name_of_methodNamed B.named B.method).1
  subst hsz
  have hD := hD0.self (sz := s.heap.size)
  generalize hAe : va_A [(h, .inr (1, zq_d1))] s.heap.size = A at hD ⊢
  have hA : ∀ q : Nat, s.heap.size ≤ q → A q := fun q h => by rw [← hAe]; exact Or.inr h
  have hS : va_S A s.heap s.heap [] := va_S.rf
  have hl := lv_entry ([.ref h]) (n := 1) (Nat.le_of_ble_eq_true rfl)
  rw [lg_entry_eq]
  generalize (lg_sl ([.ref h]) ++ List.replicate (1 - (lg_sl ([.ref h])).length) Slot.unset).toArray = ls at hl ⊢
  have hl : lv_has ls 1 [(0, .ref h)] := hl
  refine lv_aload_n hx hb dX1_init_0 rfl (lv_at hl 0 rfl) ?_
  refine W.objInit hx hb hown (hts _ q191) (hts _ q30) (hts _ q31) rfl (by rw [hml]; exact hl.1) rfl dX1_init_1 (Nat.le_of_ble_eq_true rfl) (Nat.le_of_ble_eq_true rfl) ?_
  refine W.eq (g2 := F0 m 4 ls []) rfl ?_
  refine lv_aload_n hx hb dX1_init_4 rfl (lv_at hl 0 rfl) ?_
  refine lv_iconst (v := 0) hx hb dX1_init_5 (by decide) ?_
  refine va_put (D := D) (ci := 1) (v := .int 0) (ty := .int) (C := RX1) (T := TX1) (N := 13) hx hb hts in_X1 tyX1 tyX1_ok nmX1 hown hK hP hD hS 0 rfl rfl 0 (by decide) (hts _ q192) (fun _ h9 => h9) rfl (by decide +kernel) rfl rfl (Nat.le_of_ble_eq_true rfl) dX1_init_6 (fun H locs hP hD hS => ?_)
  have hP : va_P D zq_cl [(h, .inr (1, [.int 0, .null, .null, .null, .null, .int 0, .int 0, .null, .null, .int 0, .int 0, .int 0, .int 0]))] H := hP
  have hD : va_D A [(h, .inr (1, [.int 0, .null, .null, .null, .null, .int 0, .int 0, .null, .null, .int 0, .int 0, .int 0, .int 0]))] := hD
  refine lv_aload_n hx hb dX1_init_9 rfl (lv_at hl 0 rfl) ?_
  refine lv_bipush (v := 20) hx hb dX1_init_10 (by decide) ?_
  refine va_newa (atype := .int) (ty := .int) (n := 20) (N' := 20) (a0 := (20, .inl (fun _ => 0))) hx hb (hts _ q128) rfl hK hP hD hS hA (fun _ => rfl) (by decide) (by decide) (by decide) (Nat.le_of_ble_eq_true rfl) (Nat.le_of_ble_eq_true rfl) dX1_init_12 (fun q1_ c1_ H hK hP hD hS => ?_)
  have hK : va_K D zq_cl [(c1_, .int)] s := hK
  have hP : va_P D zq_cl [(h, .inr (1, [.int 0, .null, .null, .null, .null, .int 0, .int 0, .null, .null, .int 0, .int 0, .int 0, .int 0])), (q1_, .inl (c1_, 20, .inl (fun _ => 0)))] H := hP
  have hD : va_D A [(h, .inr (1, [.int 0, .null, .null, .null, .null, .int 0, .int 0, .null, .null, .int 0, .int 0, .int 0, .int 0])), (q1_, .inl (c1_, 20, .inl (fun _ => 0)))] := hD
  refine W.widen (k := 1) (n := 20) (by decide) (by decide) ?_
  refine va_put (D := D) (ci := 1) (v := .ref q1_) (ty := .array .int) (C := RX1) (T := TX1) (N := 13) hx hb hts in_X1 tyX1 tyX1_ok nmX1 hown hK hP hD hS 0 rfl rfl 1 (by decide) (hts _ q193) (fun _ h9 => h9) rfl (by decide +kernel) rfl rfl (Nat.le_of_ble_eq_true rfl) dX1_init_14 (fun H locs hP hD hS => ?_)
  have hP : va_P D zq_cl [(h, .inr (1, [.int 0, .ref q1_, .null, .null, .null, .int 0, .int 0, .null, .null, .int 0, .int 0, .int 0, .int 0])), (q1_, .inl (c1_, 20, .inl (fun _ => 0)))] H := hP
  have hD : va_D A [(h, .inr (1, [.int 0, .ref q1_, .null, .null, .null, .int 0, .int 0, .null, .null, .int 0, .int 0, .int 0, .int 0])), (q1_, .inl (c1_, 20, .inl (fun _ => 0)))] := hD
  refine lv_aload_n hx hb dX1_init_17 rfl (lv_at hl 0 rfl) ?_
  refine lv_bipush (v := 20) hx hb dX1_init_18 (by decide) ?_
  refine va_newa (atype := .int) (ty := .int) (n := 20) (N' := 20) (a0 := (20, .inl (fun _ => 0))) hx hb (hts _ q128) rfl hK hP hD hS hA (fun _ => rfl) (by decide) (by decide) (by decide) (Nat.le_of_ble_eq_true rfl) (Nat.le_of_ble_eq_true rfl) dX1_init_20 (fun q2_ c2_ H hK hP hD hS => ?_)
  have hK : va_K D zq_cl [(c1_, .int), (c2_, .int)] s := hK
  have hP : va_P D zq_cl [(h, .inr (1, [.int 0, .ref q1_, .null, .null, .null, .int 0, .int 0, .null, .null, .int 0, .int 0, .int 0, .int 0])), (q1_, .inl (c1_, 20, .inl (fun _ => 0))), (q2_, .inl (c2_, 20, .inl (fun _ => 0)))] H := hP
  have hD : va_D A [(h, .inr (1, [.int 0, .ref q1_, .null, .null, .null, .int 0, .int 0, .null, .null, .int 0, .int 0, .int 0, .int 0])), (q1_, .inl (c1_, 20, .inl (fun _ => 0))), (q2_, .inl (c2_, 20, .inl (fun _ => 0)))] := hD
  refine W.widen (k := 2) (n := 40) (by decide) (by decide) ?_
  refine va_put (D := D) (ci := 1) (v := .ref q2_) (ty := .array .int) (C := RX1) (T := TX1) (N := 13) hx hb hts in_X1 tyX1 tyX1_ok nmX1 hown hK hP hD hS 0 rfl rfl 2 (by decide) (hts _ q194) (fun _ h9 => h9) rfl (by decide +kernel) rfl rfl (Nat.le_of_ble_eq_true rfl) dX1_init_22 (fun H locs hP hD hS => ?_)
  have hP : va_P D zq_cl [(h, .inr (1, [.int 0, .ref q1_, .ref q2_, .null, .null, .int 0, .int 0, .null, .null, .int 0, .int 0, .int 0, .int 0])), (q1_, .inl (c1_, 20, .inl (fun _ => 0))), (q2_, .inl (c2_, 20, .inl (fun _ => 0)))] H := hP
  have hD : va_D A [(h, .inr (1, [.int 0, .ref q1_, .ref q2_, .null, .null, .int 0, .int 0, .null, .null, .int 0, .int 0, .int 0, .int 0])), (q1_, .inl (c1_, 20, .inl (fun _ => 0))), (q2_, .inl (c2_, 20, .inl (fun _ => 0)))] := hD
  refine lv_aload_n hx hb dX1_init_25 rfl (lv_at hl 0 rfl) ?_
  refine lv_bipush (v := 20) hx hb dX1_init_26 (by decide) ?_
  refine va_newa (atype := .int) (ty := .int) (n := 20) (N' := 20) (a0 := (20, .inl (fun _ => 0))) hx hb (hts _ q128) rfl hK hP hD hS hA (fun _ => rfl) (by decide) (by decide) (by decide) (Nat.le_of_ble_eq_true rfl) (Nat.le_of_ble_eq_true rfl) dX1_init_28 (fun q3_ c3_ H hK hP hD hS => ?_)
  have hK : va_K D zq_cl [(c1_, .int), (c2_, .int), (c3_, .int)] s := hK
  have hP : va_P D zq_cl [(h, .inr (1, [.int 0, .ref q1_, .ref q2_, .null, .null, .int 0, .int 0, .null, .null, .int 0, .int 0, .int 0, .int 0])), (q1_, .inl (c1_, 20, .inl (fun _ => 0))), (q2_, .inl (c2_, 20, .inl (fun _ => 0))), (q3_, .inl (c3_, 20, .inl (fun _ => 0)))] H := hP
  have hD : va_D A [(h, .inr (1, [.int 0, .ref q1_, .ref q2_, .null, .null, .int 0, .int 0, .null, .null, .int 0, .int 0, .int 0, .int 0])), (q1_, .inl (c1_, 20, .inl (fun _ => 0))), (q2_, .inl (c2_, 20, .inl (fun _ => 0))), (q3_, .inl (c3_, 20, .inl (fun _ => 0)))] := hD
  refine W.widen (k := 3) (n := 60) (by decide) (by decide) ?_
  refine va_put (D := D) (ci := 1) (v := .ref q3_) (ty := .array .int) (C := RX1) (T := TX1) (N := 13) hx hb hts in_X1 tyX1 tyX1_ok nmX1 hown hK hP hD hS 0 rfl rfl 3 (by decide) (hts _ q195) (fun _ h9 => h9) rfl (by decide +kernel) rfl rfl (Nat.le_of_ble_eq_true rfl) dX1_init_30 (fun H locs hP hD hS => ?_)
  have hP : va_P D zq_cl [(h, .inr (1, [.int 0, .ref q1_, .ref q2_, .ref q3_, .null, .int 0, .int 0, .null, .null, .int 0, .int 0, .int 0, .int 0])), (q1_, .inl (c1_, 20, .inl (fun _ => 0))), (q2_, .inl (c2_, 20, .inl (fun _ => 0))), (q3_, .inl (c3_, 20, .inl (fun _ => 0)))] H := hP
  have hD : va_D A [(h, .inr (1, [.int 0, .ref q1_, .ref q2_, .ref q3_, .null, .int 0, .int 0, .null, .null, .int 0, .int 0, .int 0, .int 0])), (q1_, .inl (c1_, 20, .inl (fun _ => 0))), (q2_, .inl (c2_, 20, .inl (fun _ => 0))), (q3_, .inl (c3_, 20, .inl (fun _ => 0)))] := hD
  refine lv_aload_n hx hb dX1_init_33 rfl (lv_at hl 0 rfl) ?_
  refine lv_bipush (v := 20) hx hb dX1_init_34 (by decide) ?_
  refine va_newa (atype := .int) (ty := .int) (n := 20) (N' := 20) (a0 := (20, .inl (fun _ => 0))) hx hb (hts _ q128) rfl hK hP hD hS hA (fun _ => rfl) (by decide) (by decide) (by decide) (Nat.le_of_ble_eq_true rfl) (Nat.le_of_ble_eq_true rfl) dX1_init_36 (fun q4_ c4_ H hK hP hD hS => ?_)
  have hK : va_K D zq_cl [(c1_, .int), (c2_, .int), (c3_, .int), (c4_, .int)] s := hK
  have hP : va_P D zq_cl [(h, .inr (1, [.int 0, .ref q1_, .ref q2_, .ref q3_, .null, .int 0, .int 0, .null, .null, .int 0, .int 0, .int 0, .int 0])), (q1_, .inl (c1_, 20, .inl (fun _ => 0))), (q2_, .inl (c2_, 20, .inl (fun _ => 0))), (q3_, .inl (c3_, 20, .inl (fun _ => 0))), (q4_, .inl (c4_, 20, .inl (fun _ => 0)))] H := hP
  have hD : va_D A [(h, .inr (1, [.int 0, .ref q1_, .ref q2_, .ref q3_, .null, .int 0, .int 0, .null, .null, .int 0, .int 0, .int 0, .int 0])), (q1_, .inl (c1_, 20, .inl (fun _ => 0))), (q2_, .inl (c2_, 20, .inl (fun _ => 0))), (q3_, .inl (c3_, 20, .inl (fun _ => 0))), (q4_, .inl (c4_, 20, .inl (fun _ => 0)))] := hD
  refine W.widen (k := 4) (n := 80) (by decide) (by decide) ?_
  refine va_put (D := D) (ci := 1) (v := .ref q4_) (ty := .array .int) (C := RX1) (T := TX1) (N := 13) hx hb hts in_X1 tyX1 tyX1_ok nmX1 hown hK hP hD hS 0 rfl rfl 4 (by decide) (hts _ q196) (fun _ h9 => h9) rfl (by decide +kernel) rfl rfl (Nat.le_of_ble_eq_true rfl) dX1_init_38 (fun H locs hP hD hS => ?_)
  have hP : va_P D zq_cl [(h, .inr (1, [.int 0, .ref q1_, .ref q2_, .ref q3_, .ref q4_, .int 0, .int 0, .null, .null, .int 0, .int 0, .int 0, .int 0])), (q1_, .inl (c1_, 20, .inl (fun _ => 0))), (q2_, .inl (c2_, 20, .inl (fun _ => 0))), (q3_, .inl (c3_, 20, .inl (fun _ => 0))), (q4_, .inl (c4_, 20, .inl (fun _ => 0)))] H := hP
  have hD : va_D A [(h, .inr (1, [.int 0, .ref q1_, .ref q2_, .ref q3_, .ref q4_, .int 0, .int 0, .null, .null, .int 0, .int 0, .int 0, .int 0])), (q1_, .inl (c1_, 20, .inl (fun _ => 0))), (q2_, .inl (c2_, 20, .inl (fun _ => 0))), (q3_, .inl (c3_, 20, .inl (fun _ => 0))), (q4_, .inl (c4_, 20, .inl (fun _ => 0)))] := hD
  refine lv_aload_n hx hb dX1_init_41 rfl (lv_at hl 0 rfl) ?_
  refine lv_iconst (v := 0) hx hb dX1_init_42 (by decide) ?_
  refine va_put (D := D) (ci := 1) (v := .int 0) (ty := .int) (C := RX1) (T := TX1) (N := 13) hx hb hts in_X1 tyX1 tyX1_ok nmX1 hown hK hP hD hS 0 rfl rfl 5 (by decide) (hts _ q197) (fun _ h9 => h9) rfl (by decide +kernel) rfl rfl (Nat.le_of_ble_eq_true rfl) dX1_init_43 (fun H locs hP hD hS => ?_)
  have hP : va_P D zq_cl [(h, .inr (1, [.int 0, .ref q1_, .ref q2_, .ref q3_, .ref q4_, .int 0, .int 0, .null, .null, .int 0, .int 0, .int 0, .int 0])), (q1_, .inl (c1_, 20, .inl (fun _ => 0))), (q2_, .inl (c2_, 20, .inl (fun _ => 0))), (q3_, .inl (c3_, 20, .inl (fun _ => 0))), (q4_, .inl (c4_, 20, .inl (fun _ => 0)))] H := hP
  have hD : va_D A [(h, .inr (1, [.int 0, .ref q1_, .ref q2_, .ref q3_, .ref q4_, .int 0, .int 0, .null, .null, .int 0, .int 0, .int 0, .int 0])), (q1_, .inl (c1_, 20, .inl (fun _ => 0))), (q2_, .inl (c2_, 20, .inl (fun _ => 0))), (q3_, .inl (c3_, 20, .inl (fun _ => 0))), (q4_, .inl (c4_, 20, .inl (fun _ => 0)))] := hD
  refine lv_aload_n hx hb dX1_init_46 rfl (lv_at hl 0 rfl) ?_
  refine lv_iconst (v := 0) hx hb dX1_init_47 (by decide) ?_
  refine va_put (D := D) (ci := 1) (v := .int 0) (ty := .int) (C := RX1) (T := TX1) (N := 13) hx hb hts in_X1 tyX1 tyX1_ok nmX1 hown hK hP hD hS 0 rfl rfl 6 (by decide) (hts _ q198) (fun _ h9 => h9) rfl (by decide +kernel) rfl rfl (Nat.le_of_ble_eq_true rfl) dX1_init_48 (fun H locs hP hD hS => ?_)
  have hP : va_P D zq_cl [(h, .inr (1, [.int 0, .ref q1_, .ref q2_, .ref q3_, .ref q4_, .int 0, .int 0, .null, .null, .int 0, .int 0, .int 0, .int 0])), (q1_, .inl (c1_, 20, .inl (fun _ => 0))), (q2_, .inl (c2_, 20, .inl (fun _ => 0))), (q3_, .inl (c3_, 20, .inl (fun _ => 0))), (q4_, .inl (c4_, 20, .inl (fun _ => 0)))] H := hP
  have hD : va_D A [(h, .inr (1, [.int 0, .ref q1_, .ref q2_, .ref q3_, .ref q4_, .int 0, .int 0, .null, .null, .int 0, .int 0, .int 0, .int 0])), (q1_, .inl (c1_, 20, .inl (fun _ => 0))), (q2_, .inl (c2_, 20, .inl (fun _ => 0))), (q3_, .inl (c3_, 20, .inl (fun _ => 0))), (q4_, .inl (c4_, 20, .inl (fun _ => 0)))] := hD
  refine lv_aload_n hx hb dX1_init_51 rfl (lv_at hl 0 rfl) ?_
  refine lv_bipush (v := 6) hx hb dX1_init_52 (by decide) ?_
  refine va_newa (atype := .int) (ty := .int) (n := 6) (N' := 6) (a0 := (6, .inl (fun _ => 0))) hx hb (hts _ q128) rfl hK hP hD hS hA (fun _ => rfl) (by decide) (by decide) (by decide) (Nat.le_of_ble_eq_true rfl) (Nat.le_of_ble_eq_true rfl) dX1_init_54 (fun q7_ c7_ H hK hP hD hS => ?_)
  have hK : va_K D zq_cl [(c1_, .int), (c2_, .int), (c3_, .int), (c4_, .int), (c7_, .int)] s := hK
  have hP : va_P D zq_cl [(h, .inr (1, [.int 0, .ref q1_, .ref q2_, .ref q3_, .ref q4_, .int 0, .int 0, .null, .null, .int 0, .int 0, .int 0, .int 0])), (q1_, .inl (c1_, 20, .inl (fun _ => 0))), (q2_, .inl (c2_, 20, .inl (fun _ => 0))), (q3_, .inl (c3_, 20, .inl (fun _ => 0))), (q4_, .inl (c4_, 20, .inl (fun _ => 0))), (q7_, .inl (c7_, 6, .inl (fun _ => 0)))] H := hP
  have hD : va_D A [(h, .inr (1, [.int 0, .ref q1_, .ref q2_, .ref q3_, .ref q4_, .int 0, .int 0, .null, .null, .int 0, .int 0, .int 0, .int 0])), (q1_, .inl (c1_, 20, .inl (fun _ => 0))), (q2_, .inl (c2_, 20, .inl (fun _ => 0))), (q3_, .inl (c3_, 20, .inl (fun _ => 0))), (q4_, .inl (c4_, 20, .inl (fun _ => 0))), (q7_, .inl (c7_, 6, .inl (fun _ => 0)))] := hD
  refine W.widen (k := 5) (n := 86) (by decide) (by decide) ?_
  refine va_put (D := D) (ci := 1) (v := .ref q7_) (ty := .array .int) (C := RX1) (T := TX1) (N := 13) hx hb hts in_X1 tyX1 tyX1_ok nmX1 hown hK hP hD hS 0 rfl rfl 7 (by decide) (hts _ q199) (fun _ h9 => h9) rfl (by decide +kernel) rfl rfl (Nat.le_of_ble_eq_true rfl) dX1_init_56 (fun H locs hP hD hS => ?_)
  have hP : va_P D zq_cl [(h, .inr (1, [.int 0, .ref q1_, .ref q2_, .ref q3_, .ref q4_, .int 0, .int 0, .ref q7_, .null, .int 0, .int 0, .int 0, .int 0])), (q1_, .inl (c1_, 20, .inl (fun _ => 0))), (q2_, .inl (c2_, 20, .inl (fun _ => 0))), (q3_, .inl (c3_, 20, .inl (fun _ => 0))), (q4_, .inl (c4_, 20, .inl (fun _ => 0))), (q7_, .inl (c7_, 6, .inl (fun _ => 0)))] H := hP
  have hD : va_D A [(h, .inr (1, [.int 0, .ref q1_, .ref q2_, .ref q3_, .ref q4_, .int 0, .int 0, .ref q7_, .null, .int 0, .int 0, .int 0, .int 0])), (q1_, .inl (c1_, 20, .inl (fun _ => 0))), (q2_, .inl (c2_, 20, .inl (fun _ => 0))), (q3_, .inl (c3_, 20, .inl (fun _ => 0))), (q4_, .inl (c4_, 20, .inl (fun _ => 0))), (q7_, .inl (c7_, 6, .inl (fun _ => 0)))] := hD
  refine lv_aload_n hx hb dX1_init_59 rfl (lv_at hl 0 rfl) ?_
  refine lv_bipush (v := 8) hx hb dX1_init_60 (by decide) ?_
  refine va_newa (atype := .int) (ty := .int) (n := 8) (N' := 8) (a0 := (8, .inl (fun _ => 0))) hx hb (hts _ q128) rfl hK hP hD hS hA (fun _ => rfl) (by decide) (by decide) (by decide) (Nat.le_of_ble_eq_true rfl) (Nat.le_of_ble_eq_true rfl) dX1_init_62 (fun q8_ c8_ H hK hP hD hS => ?_)
  have hK : va_K D zq_cl [(c1_, .int), (c2_, .int), (c3_, .int), (c4_, .int), (c7_, .int), (c8_, .int)] s := hK
  have hP : va_P D zq_cl [(h, .inr (1, [.int 0, .ref q1_, .ref q2_, .ref q3_, .ref q4_, .int 0, .int 0, .ref q7_, .null, .int 0, .int 0, .int 0, .int 0])), (q1_, .inl (c1_, 20, .inl (fun _ => 0))), (q2_, .inl (c2_, 20, .inl (fun _ => 0))), (q3_, .inl (c3_, 20, .inl (fun _ => 0))), (q4_, .inl (c4_, 20, .inl (fun _ => 0))), (q7_, .inl (c7_, 6, .inl (fun _ => 0))), (q8_, .inl (c8_, 8, .inl (fun _ => 0)))] H := hP
  have hD : va_D A [(h, .inr (1, [.int 0, .ref q1_, .ref q2_, .ref q3_, .ref q4_, .int 0, .int 0, .ref q7_, .null, .int 0, .int 0, .int 0, .int 0])), (q1_, .inl (c1_, 20, .inl (fun _ => 0))), (q2_, .inl (c2_, 20, .inl (fun _ => 0))), (q3_, .inl (c3_, 20, .inl (fun _ => 0))), (q4_, .inl (c4_, 20, .inl (fun _ => 0))), (q7_, .inl (c7_, 6, .inl (fun _ => 0))), (q8_, .inl (c8_, 8, .inl (fun _ => 0)))] := hD
  refine W.widen (k := 6) (n := 94) (by decide) (by decide) ?_
  refine va_put (D := D) (ci := 1) (v := .ref q8_) (ty := .array .int) (C := RX1) (T := TX1) (N := 13) hx hb hts in_X1 tyX1 tyX1_ok nmX1 hown hK hP hD hS 0 rfl rfl 8 (by decide) (hts _ q200) (fun _ h9 => h9) rfl (by decide +kernel) rfl rfl (Nat.le_of_ble_eq_true rfl) dX1_init_64 (fun H locs hP hD hS => ?_)
  have hP : va_P D zq_cl [(h, .inr (1, [.int 0, .ref q1_, .ref q2_, .ref q3_, .ref q4_, .int 0, .int 0, .ref q7_, .ref q8_, .int 0, .int 0, .int 0, .int 0])), (q1_, .inl (c1_, 20, .inl (fun _ => 0))), (q2_, .inl (c2_, 20, .inl (fun _ => 0))), (q3_, .inl (c3_, 20, .inl (fun _ => 0))), (q4_, .inl (c4_, 20, .inl (fun _ => 0))), (q7_, .inl (c7_, 6, .inl (fun _ => 0))), (q8_, .inl (c8_, 8, .inl (fun _ => 0)))] H := hP
  have hD : va_D A [(h, .inr (1, [.int 0, .ref q1_, .ref q2_, .ref q3_, .ref q4_, .int 0, .int 0, .ref q7_, .ref q8_, .int 0, .int 0, .int 0, .int 0])), (q1_, .inl (c1_, 20, .inl (fun _ => 0))), (q2_, .inl (c2_, 20, .inl (fun _ => 0))), (q3_, .inl (c3_, 20, .inl (fun _ => 0))), (q4_, .inl (c4_, 20, .inl (fun _ => 0))), (q7_, .inl (c7_, 6, .inl (fun _ => 0))), (q8_, .inl (c8_, 8, .inl (fun _ => 0)))] := hD
  have key : ∀ (a : Nat → Nat) (ca : Nat → ClassId), a 0 = h → va_K D zq_cl (zq_t1 ca) s → va_P D zq_cl (zq_w1 a ca (fun _ _ => 0)) H → va_D A (zq_w1 a ca (fun _ _ => 0)) → W p l e (headSpec (ws_ yX1_init cX1_init 1 none) zq_rn1).room s m ([.ref h] : List Value).toArray below meth c H locs 6 94 (MQ below (va_Qv (fun u : (Nat → Nat) × (Nat → ClassId) × zq_St => u.1 0 = h ∧ zq_I1 (fun _ _ => 0) 0 u.2.2) (fun u t => va_P D zq_cl (zq_w1 u.1 u.2.1 u.2.2) t.heap ∧ va_K D zq_cl (zq_t1 u.2.1) t ∧ va_D A (zq_w1 u.1 u.2.1 u.2.2)) A) ([.ref h] : List Value).toArray s 6 94 A) (F0 m 67 ls []) := by
    intro a ca ea hK2 hP2 hD2
    subst ea
    exact W.vret hx hb hr (fun t ht hW => ⟨⟨(a, ca, fun _ _ => 0), rfl, ⟨rfl, ⟨rfl, rfl, rfl, rfl, rfl, rfl⟩, rfl⟩, by show va_P D zq_cl (zq_w1 a ca (fun _ _ => 0)) t.heap; rw [ht]; exact hP2, va_K.moved hW.alike hK2, hD2⟩, hS.F ht⟩) hS.2.2 dX1_init_67
  exact key (fun k => ([h, q1_, q2_, q3_, q4_, 0, 0, q7_, q8_, 0, 0, 0, 0] : List Nat).getD k 0) (fun k => ([c1_, c1_, c2_, c3_, c4_, c1_, c1_, c7_, c8_, c1_, c1_, c1_, c1_] : List ClassId).getD k c1_) rfl hK hP hD
end
section
/-! the constructor of the debugger -/
set_option maxRecDepth 100000
abbrev zq_d0 : List Value := [.int 0, .null, .null, .null, .null, .int 0, .null, .int 0, .int 0, .null, .null, .null, .null, .null, .null, .null, .null, .null]
abbrev zq_rn0 : Room := { frames := 4, cells := 14, slots := 1405, locals := 120 }
set_option maxHeartbeats 4000000 in
set_option maxRecDepth 100000 in
theorem m0_init (l : Launch) (D : va_G) (h sz : Nat) : Met l yX0_init (ws_ yX0_init cX0_init 1 none) zq_rn0 (va_Pc [.ref h] (fun U => U.heap.size = sz ∧ va_P D zq_cl [(h, .inr (0, zq_d0))] U.heap ∧ va_K D zq_cl [] U ∧ va_D (fun _ => True) [(h, .inr (0, zq_d0))])) (va_Qv (fun u : (Nat → Nat) × (Nat → ClassId) × zq_St => u.1 0 = h ∧ ∃ T, zq_I0 (fun _ _ => 0) 0 T 0 u.2.2) (fun u t => va_P D zq_cl (zq_w0 u.1 u.2.1 u.2.2) t.heap ∧ va_K D zq_cl (zq_t0 u.2.1) t ∧ va_D (va_A [(h, .inr (0, zq_d0))] sz) (zq_w0 u.1 u.2.1 u.2.2)) (va_A [(h, .inr (0, zq_d0))] sz)) 14 1405 (va_A [(h, .inr (0, zq_d0))] sz) := by
  refine Met.ofW (cc := cX0_init) (maxL := 1) (ret := none) (by decide) rfl ?_
  intro p e s m args below meth c s₁ B hml hv
  obtain ⟨rfl, hsz, hP, hK, hD0⟩ := hv
  have hx := B.exec
  have hb := B.bytes
  have hr := B.returns
  have hts := atoms_spec (ws := ws_ yX0_init cX0_init 1 none) B.pre
  have hts : ∀ w ∈ lw_all, w.before _ s = true := fun w h => hts w (List.mem_cons_of_mem _ h)
  have hown : s.vm.findClass RX0 = some m.cls := findClass_of_methodNamed B.named
  have hlocks := B.notSynchronized
  have hin : meth.name = "<init>" := (name_of_methodNamed B.named B.method).1
  subst hsz
  have hD := hD0.self (sz := s.heap.size)
  generalize hAe : va_A [(h, .inr (0, zq_d0))] s.heap.size = A at hD ⊢
  have hA : ∀ q : Nat, s.heap.size ≤ q → A q := fun q h => by rw [← hAe]; exact Or.inr h
  have hS : va_S A s.heap s.heap [] := va_S.rf
  have hl := lv_entry ([.ref h]) (n := 1) (Nat.le_of_ble_eq_true rfl)
  rw [lg_entry_eq]
  generalize (lg_sl ([.ref h]) ++ List.replicate (1 - (lg_sl ([.ref h])).length) Slot.unset).toArray = ls at hl ⊢
  have hl : lv_has ls 1 [(0, .ref h)] := hl
  refine lv_aload_n hx hb dX0_init_0 rfl (lv_at hl 0 rfl) ?_
  refine W.objInit hx hb hown (hts _ q29) (hts _ q30) (hts _ q31) rfl (by rw [hml]; exact hl.1) rfl dX0_init_1 (Nat.le_of_ble_eq_true rfl) (Nat.le_of_ble_eq_true rfl) ?_
  refine W.eq (g2 := F0 m 4 ls []) rfl ?_
  refine lv_aload_n hx hb dX0_init_4 rfl (lv_at hl 0 rfl) ?_
  refine lv_bipush (v := 20) hx hb dX0_init_5 (by decide) ?_
  refine va_newa (atype := .byte) (ty := .byte) (n := 20) (N' := 20) (a0 := (20, .inl (fun _ => 0))) hx hb (hts _ q127) rfl hK hP hD hS hA (fun _ => rfl) (by decide) (by decide) (by decide) (Nat.le_of_ble_eq_true rfl) (Nat.le_of_ble_eq_true rfl) dX0_init_7 (fun q1_ c1_ H hK hP hD hS => ?_)
  have hK : va_K D zq_cl [(c1_, .byte)] s := hK
  have hP : va_P D zq_cl [(h, .inr (0, [.int 0, .null, .null, .null, .null, .int 0, .null, .int 0, .int 0, .null, .null, .null, .null, .null, .null, .null, .null, .null])), (q1_, .inl (c1_, 20, .inl (fun _ => 0)))] H := hP
  have hD : va_D A [(h, .inr (0, [.int 0, .null, .null, .null, .null, .int 0, .null, .int 0, .int 0, .null, .null, .null, .null, .null, .null, .null, .null, .null])), (q1_, .inl (c1_, 20, .inl (fun _ => 0)))] := hD
  refine W.widen (k := 1) (n := 20) (by decide) (by decide) ?_
  refine va_putF (D := D) (ci := 0) (v := .ref q1_) (ty := .array .byte) (C := RX0) (T := TX0) (N := 18) hx hb hts in_X0 tyX0 tyX0_ok nmX0 hown hK hP hD hS 0 rfl rfl 1 (by decide) (hts _ q73) (fun _ h9 => h9) rfl hin rfl (by decide +kernel) rfl rfl (Nat.le_of_ble_eq_true rfl) dX0_init_9 (fun H locs hP hD hS => ?_)
  have hP : va_P D zq_cl [(h, .inr (0, [.int 0, .ref q1_, .null, .null, .null, .int 0, .null, .int 0, .int 0, .null, .null, .null, .null, .null, .null, .null, .null, .null])), (q1_, .inl (c1_, 20, .inl (fun _ => 0)))] H := hP
  have hD : va_D A [(h, .inr (0, [.int 0, .ref q1_, .null, .null, .null, .int 0, .null, .int 0, .int 0, .null, .null, .null, .null, .null, .null, .null, .null, .null])), (q1_, .inl (c1_, 20, .inl (fun _ => 0)))] := hD
  refine lv_aload_n hx hb dX0_init_12 rfl (lv_at hl 0 rfl) ?_
  refine lv_bipush (v := 20) hx hb dX0_init_13 (by decide) ?_
  refine va_newa (atype := .int) (ty := .int) (n := 20) (N' := 20) (a0 := (20, .inl (fun _ => 0))) hx hb (hts _ q128) rfl hK hP hD hS hA (fun _ => rfl) (by decide) (by decide) (by decide) (Nat.le_of_ble_eq_true rfl) (Nat.le_of_ble_eq_true rfl) dX0_init_15 (fun q2_ c2_ H hK hP hD hS => ?_)
  have hK : va_K D zq_cl [(c1_, .byte), (c2_, .int)] s := hK
  have hP : va_P D zq_cl [(h, .inr (0, [.int 0, .ref q1_, .null, .null, .null, .int 0, .null, .int 0, .int 0, .null, .null, .null, .null, .null, .null, .null, .null, .null])), (q1_, .inl (c1_, 20, .inl (fun _ => 0))), (q2_, .inl (c2_, 20, .inl (fun _ => 0)))] H := hP
  have hD : va_D A [(h, .inr (0, [.int 0, .ref q1_, .null, .null, .null, .int 0, .null, .int 0, .int 0, .null, .null, .null, .null, .null, .null, .null, .null, .null])), (q1_, .inl (c1_, 20, .inl (fun _ => 0))), (q2_, .inl (c2_, 20, .inl (fun _ => 0)))] := hD
  refine W.widen (k := 2) (n := 40) (by decide) (by decide) ?_
  refine va_putF (D := D) (ci := 0) (v := .ref q2_) (ty := .array .int) (C := RX0) (T := TX0) (N := 18) hx hb hts in_X0 tyX0 tyX0_ok nmX0 hown hK hP hD hS 0 rfl rfl 2 (by decide) (hts _ q74) (fun _ h9 => h9) rfl hin rfl (by decide +kernel) rfl rfl (Nat.le_of_ble_eq_true rfl) dX0_init_17 (fun H locs hP hD hS => ?_)
  have hP : va_P D zq_cl [(h, .inr (0, [.int 0, .ref q1_, .ref q2_, .null, .null, .int 0, .null, .int 0, .int 0, .null, .null, .null, .null, .null, .null, .null, .null, .null])), (q1_, .inl (c1_, 20, .inl (fun _ => 0))), (q2_, .inl (c2_, 20, .inl (fun _ => 0)))] H := hP
  have hD : va_D A [(h, .inr (0, [.int 0, .ref q1_, .ref q2_, .null, .null, .int 0, .null, .int 0, .int 0, .null, .null, .null, .null, .null, .null, .null, .null, .null])), (q1_, .inl (c1_, 20, .inl (fun _ => 0))), (q2_, .inl (c2_, 20, .inl (fun _ => 0)))] := hD
  refine lv_aload_n hx hb dX0_init_20 rfl (lv_at hl 0 rfl) ?_
  refine lv_bipush (v := 20) hx hb dX0_init_21 (by decide) ?_
  refine va_newa (atype := .int) (ty := .int) (n := 20) (N' := 20) (a0 := (20, .inl (fun _ => 0))) hx hb (hts _ q128) rfl hK hP hD hS hA (fun _ => rfl) (by decide) (by decide) (by decide) (Nat.le_of_ble_eq_true rfl) (Nat.le_of_ble_eq_true rfl) dX0_init_23 (fun q3_ c3_ H hK hP hD hS => ?_)
  have hK : va_K D zq_cl [(c1_, .byte), (c2_, .int), (c3_, .int)] s := hK
  have hP : va_P D zq_cl [(h, .inr (0, [.int 0, .ref q1_, .ref q2_, .null, .null, .int 0, .null, .int 0, .int 0, .null, .null, .null, .null, .null, .null, .null, .null, .null])), (q1_, .inl (c1_, 20, .inl (fun _ => 0))), (q2_, .inl (c2_, 20, .inl (fun _ => 0))), (q3_, .inl (c3_, 20, .inl (fun _ => 0)))] H := hP
  have hD : va_D A [(h, .inr (0, [.int 0, .ref q1_, .ref q2_, .null, .null, .int 0, .null, .int 0, .int 0, .null, .null, .null, .null, .null, .null, .null, .null, .null])), (q1_, .inl (c1_, 20, .inl (fun _ => 0))), (q2_, .inl (c2_, 20, .inl (fun _ => 0))), (q3_, .inl (c3_, 20, .inl (fun _ => 0)))] := hD
  refine W.widen (k := 3) (n := 60) (by decide) (by decide) ?_
  refine va_putF (D := D) (ci := 0) (v := .ref q3_) (ty := .array .int) (C := RX0) (T := TX0) (N := 18) hx hb hts in_X0 tyX0 tyX0_ok nmX0 hown hK hP hD hS 0 rfl rfl 3 (by decide) (hts _ q75) (fun _ h9 => h9) rfl hin rfl (by decide +kernel) rfl rfl (Nat.le_of_ble_eq_true rfl) dX0_init_25 (fun H locs hP hD hS => ?_)
  have hP : va_P D zq_cl [(h, .inr (0, [.int 0, .ref q1_, .ref q2_, .ref q3_, .null, .int 0, .null, .int 0, .int 0, .null, .null, .null, .null, .null, .null, .null, .null, .null])), (q1_, .inl (c1_, 20, .inl (fun _ => 0))), (q2_, .inl (c2_, 20, .inl (fun _ => 0))), (q3_, .inl (c3_, 20, .inl (fun _ => 0)))] H := hP
  have hD : va_D A [(h, .inr (0, [.int 0, .ref q1_, .ref q2_, .ref q3_, .null, .int 0, .null, .int 0, .int 0, .null, .null, .null, .null, .null, .null, .null, .null, .null])), (q1_, .inl (c1_, 20, .inl (fun _ => 0))), (q2_, .inl (c2_, 20, .inl (fun _ => 0))), (q3_, .inl (c3_, 20, .inl (fun _ => 0)))] := hD
  refine lv_aload_n hx hb dX0_init_28 rfl (lv_at hl 0 rfl) ?_
  refine lv_bipush (v := 20) hx hb dX0_init_29 (by decide) ?_
  refine va_newa (atype := .int) (ty := .int) (n := 20) (N' := 20) (a0 := (20, .inl (fun _ => 0))) hx hb (hts _ q128) rfl hK hP hD hS hA (fun _ => rfl) (by decide) (by decide) (by decide) (Nat.le_of_ble_eq_true rfl) (Nat.le_of_ble_eq_true rfl) dX0_init_31 (fun q4_ c4_ H hK hP hD hS => ?_)
  have hK : va_K D zq_cl [(c1_, .byte), (c2_, .int), (c3_, .int), (c4_, .int)] s := hK
  have hP : va_P D zq_cl [(h, .inr (0, [.int 0, .ref q1_, .ref q2_, .ref q3_, .null, .int 0, .null, .int 0, .int 0, .null, .null, .null, .null, .null, .null, .null, .null, .null])), (q1_, .inl (c1_, 20, .inl (fun _ => 0))), (q2_, .inl (c2_, 20, .inl (fun _ => 0))), (q3_, .inl (c3_, 20, .inl (fun _ => 0))), (q4_, .inl (c4_, 20, .inl (fun _ => 0)))] H := hP
  have hD : va_D A [(h, .inr (0, [.int 0, .ref q1_, .ref q2_, .ref q3_, .null, .int 0, .null, .int 0, .int 0, .null, .null, .null, .null, .null, .null, .null, .null, .null])), (q1_, .inl (c1_, 20, .inl (fun _ => 0))), (q2_, .inl (c2_, 20, .inl (fun _ => 0))), (q3_, .inl (c3_, 20, .inl (fun _ => 0))), (q4_, .inl (c4_, 20, .inl (fun _ => 0)))] := hD
  refine W.widen (k := 4) (n := 80) (by decide) (by decide) ?_
  refine va_putF (D := D) (ci := 0) (v := .ref q4_) (ty := .array .int) (C := RX0) (T := TX0) (N := 18) hx hb hts in_X0 tyX0 tyX0_ok nmX0 hown hK hP hD hS 0 rfl rfl 4 (by decide) (hts _ q76) (fun _ h9 => h9) rfl hin rfl (by decide +kernel) rfl rfl (Nat.le_of_ble_eq_true rfl) dX0_init_33 (fun H locs hP hD hS => ?_)
  have hP : va_P D zq_cl [(h, .inr (0, [.int 0, .ref q1_, .ref q2_, .ref q3_, .ref q4_, .int 0, .null, .int 0, .int 0, .null, .null, .null, .null, .null, .null, .null, .null, .null])), (q1_, .inl (c1_, 20, .inl (fun _ => 0))), (q2_, .inl (c2_, 20, .inl (fun _ => 0))), (q3_, .inl (c3_, 20, .inl (fun _ => 0))), (q4_, .inl (c4_, 20, .inl (fun _ => 0)))] H := hP
  have hD : va_D A [(h, .inr (0, [.int 0, .ref q1_, .ref q2_, .ref q3_, .ref q4_, .int 0, .null, .int 0, .int 0, .null, .null, .null, .null, .null, .null, .null, .null, .null])), (q1_, .inl (c1_, 20, .inl (fun _ => 0))), (q2_, .inl (c2_, 20, .inl (fun _ => 0))), (q3_, .inl (c3_, 20, .inl (fun _ => 0))), (q4_, .inl (c4_, 20, .inl (fun _ => 0)))] := hD
  refine lv_aload_n hx hb dX0_init_36 rfl (lv_at hl 0 rfl) ?_
  refine lv_bipush (v := 14) hx hb dX0_init_37 (by decide) ?_
  refine va_newa (atype := .int) (ty := .int) (n := 14) (N' := 14) (a0 := (14, .inl (fun _ => 0))) hx hb (hts _ q128) rfl hK hP hD hS hA (fun _ => rfl) (by decide) (by decide) (by decide) (Nat.le_of_ble_eq_true rfl) (Nat.le_of_ble_eq_true rfl) dX0_init_39 (fun q6_ c6_ H hK hP hD hS => ?_)
  have hK : va_K D zq_cl [(c1_, .byte), (c2_, .int), (c3_, .int), (c4_, .int), (c6_, .int)] s := hK
  have hP : va_P D zq_cl [(h, .inr (0, [.int 0, .ref q1_, .ref q2_, .ref q3_, .ref q4_, .int 0, .null, .int 0, .int 0, .null, .null, .null, .null, .null, .null, .null, .null, .null])), (q1_, .inl (c1_, 20, .inl (fun _ => 0))), (q2_, .inl (c2_, 20, .inl (fun _ => 0))), (q3_, .inl (c3_, 20, .inl (fun _ => 0))), (q4_, .inl (c4_, 20, .inl (fun _ => 0))), (q6_, .inl (c6_, 14, .inl (fun _ => 0)))] H := hP
  have hD : va_D A [(h, .inr (0, [.int 0, .ref q1_, .ref q2_, .ref q3_, .ref q4_, .int 0, .null, .int 0, .int 0, .null, .null, .null, .null, .null, .null, .null, .null, .null])), (q1_, .inl (c1_, 20, .inl (fun _ => 0))), (q2_, .inl (c2_, 20, .inl (fun _ => 0))), (q3_, .inl (c3_, 20, .inl (fun _ => 0))), (q4_, .inl (c4_, 20, .inl (fun _ => 0))), (q6_, .inl (c6_, 14, .inl (fun _ => 0)))] := hD
  refine W.widen (k := 5) (n := 94) (by decide) (by decide) ?_
  refine va_putF (D := D) (ci := 0) (v := .ref q6_) (ty := .array .int) (C := RX0) (T := TX0) (N := 18) hx hb hts in_X0 tyX0 tyX0_ok nmX0 hown hK hP hD hS 0 rfl rfl 6 (by decide) (hts _ q78) (fun _ h9 => h9) rfl hin rfl (by decide +kernel) rfl rfl (Nat.le_of_ble_eq_true rfl) dX0_init_41 (fun H locs hP hD hS => ?_)
  have hP : va_P D zq_cl [(h, .inr (0, [.int 0, .ref q1_, .ref q2_, .ref q3_, .ref q4_, .int 0, .ref q6_, .int 0, .int 0, .null, .null, .null, .null, .null, .null, .null, .null, .null])), (q1_, .inl (c1_, 20, .inl (fun _ => 0))), (q2_, .inl (c2_, 20, .inl (fun _ => 0))), (q3_, .inl (c3_, 20, .inl (fun _ => 0))), (q4_, .inl (c4_, 20, .inl (fun _ => 0))), (q6_, .inl (c6_, 14, .inl (fun _ => 0)))] H := hP
  have hD : va_D A [(h, .inr (0, [.int 0, .ref q1_, .ref q2_, .ref q3_, .ref q4_, .int 0, .ref q6_, .int 0, .int 0, .null, .null, .null, .null, .null, .null, .null, .null, .null])), (q1_, .inl (c1_, 20, .inl (fun _ => 0))), (q2_, .inl (c2_, 20, .inl (fun _ => 0))), (q3_, .inl (c3_, 20, .inl (fun _ => 0))), (q4_, .inl (c4_, 20, .inl (fun _ => 0))), (q6_, .inl (c6_, 14, .inl (fun _ => 0)))] := hD
  refine lv_aload_n hx hb dX0_init_44 rfl (lv_at hl 0 rfl) ?_
  refine lv_sipush (v := 201) hx hb dX0_init_45 (by decide) ?_
  refine va_newa (atype := .byte) (ty := .byte) (n := 201) (N' := 201) (a0 := (201, .inl (fun _ => 0))) hx hb (hts _ q127) rfl hK hP hD hS hA (fun _ => rfl) (by decide) (by decide) (by decide) (Nat.le_of_ble_eq_true rfl) (Nat.le_of_ble_eq_true rfl) dX0_init_48 (fun q9_ c9_ H hK hP hD hS => ?_)
  have hK : va_K D zq_cl [(c1_, .byte), (c2_, .int), (c3_, .int), (c4_, .int), (c6_, .int), (c9_, .byte)] s := hK
  have hP : va_P D zq_cl [(h, .inr (0, [.int 0, .ref q1_, .ref q2_, .ref q3_, .ref q4_, .int 0, .ref q6_, .int 0, .int 0, .null, .null, .null, .null, .null, .null, .null, .null, .null])), (q1_, .inl (c1_, 20, .inl (fun _ => 0))), (q2_, .inl (c2_, 20, .inl (fun _ => 0))), (q3_, .inl (c3_, 20, .inl (fun _ => 0))), (q4_, .inl (c4_, 20, .inl (fun _ => 0))), (q6_, .inl (c6_, 14, .inl (fun _ => 0))), (q9_, .inl (c9_, 201, .inl (fun _ => 0)))] H := hP
  have hD : va_D A [(h, .inr (0, [.int 0, .ref q1_, .ref q2_, .ref q3_, .ref q4_, .int 0, .ref q6_, .int 0, .int 0, .null, .null, .null, .null, .null, .null, .null, .null, .null])), (q1_, .inl (c1_, 20, .inl (fun _ => 0))), (q2_, .inl (c2_, 20, .inl (fun _ => 0))), (q3_, .inl (c3_, 20, .inl (fun _ => 0))), (q4_, .inl (c4_, 20, .inl (fun _ => 0))), (q6_, .inl (c6_, 14, .inl (fun _ => 0))), (q9_, .inl (c9_, 201, .inl (fun _ => 0)))] := hD
  refine W.widen (k := 6) (n := 295) (by decide) (by decide) ?_
  refine va_putF (D := D) (ci := 0) (v := .ref q9_) (ty := .array .byte) (C := RX0) (T := TX0) (N := 18) hx hb hts in_X0 tyX0 tyX0_ok nmX0 hown hK hP hD hS 0 rfl rfl 9 (by decide) (hts _ q81) (fun _ h9 => h9) rfl hin rfl (by decide +kernel) rfl rfl (Nat.le_of_ble_eq_true rfl) dX0_init_50 (fun H locs hP hD hS => ?_)
  have hP : va_P D zq_cl [(h, .inr (0, [.int 0, .ref q1_, .ref q2_, .ref q3_, .ref q4_, .int 0, .ref q6_, .int 0, .int 0, .ref q9_, .null, .null, .null, .null, .null, .null, .null, .null])), (q1_, .inl (c1_, 20, .inl (fun _ => 0))), (q2_, .inl (c2_, 20, .inl (fun _ => 0))), (q3_, .inl (c3_, 20, .inl (fun _ => 0))), (q4_, .inl (c4_, 20, .inl (fun _ => 0))), (q6_, .inl (c6_, 14, .inl (fun _ => 0))), (q9_, .inl (c9_, 201, .inl (fun _ => 0)))] H := hP
  have hD : va_D A [(h, .inr (0, [.int 0, .ref q1_, .ref q2_, .ref q3_, .ref q4_, .int 0, .ref q6_, .int 0, .int 0, .ref q9_, .null, .null, .null, .null, .null, .null, .null, .null])), (q1_, .inl (c1_, 20, .inl (fun _ => 0))), (q2_, .inl (c2_, 20, .inl (fun _ => 0))), (q3_, .inl (c3_, 20, .inl (fun _ => 0))), (q4_, .inl (c4_, 20, .inl (fun _ => 0))), (q6_, .inl (c6_, 14, .inl (fun _ => 0))), (q9_, .inl (c9_, 201, .inl (fun _ => 0)))] := hD
  refine lv_aload_n hx hb dX0_init_53 rfl (lv_at hl 0 rfl) ?_
  refine lv_sipush (v := 201) hx hb dX0_init_54 (by decide) ?_
  refine va_newa (atype := .int) (ty := .int) (n := 201) (N' := 201) (a0 := (201, .inl (fun _ => 0))) hx hb (hts _ q128) rfl hK hP hD hS hA (fun _ => rfl) (by decide) (by decide) (by decide) (Nat.le_of_ble_eq_true rfl) (Nat.le_of_ble_eq_true rfl) dX0_init_57 (fun q10_ c10_ H hK hP hD hS => ?_)
  have hK : va_K D zq_cl [(c1_, .byte), (c2_, .int), (c3_, .int), (c4_, .int), (c6_, .int), (c9_, .byte), (c10_, .int)] s := hK
  have hP : va_P D zq_cl [(h, .inr (0, [.int 0, .ref q1_, .ref q2_, .ref q3_, .ref q4_, .int 0, .ref q6_, .int 0, .int 0, .ref q9_, .null, .null, .null, .null, .null, .null, .null, .null])), (q1_, .inl (c1_, 20, .inl (fun _ => 0))), (q2_, .inl (c2_, 20, .inl (fun _ => 0))), (q3_, .inl (c3_, 20, .inl (fun _ => 0))), (q4_, .inl (c4_, 20, .inl (fun _ => 0))), (q6_, .inl (c6_, 14, .inl (fun _ => 0))), (q9_, .inl (c9_, 201, .inl (fun _ => 0))), (q10_, .inl (c10_, 201, .inl (fun _ => 0)))] H := hP
  have hD : va_D A [(h, .inr (0, [.int 0, .ref q1_, .ref q2_, .ref q3_, .ref q4_, .int 0, .ref q6_, .int 0, .int 0, .ref q9_, .null, .null, .null, .null, .null, .null, .null, .null])), (q1_, .inl (c1_, 20, .inl (fun _ => 0))), (q2_, .inl (c2_, 20, .inl (fun _ => 0))), (q3_, .inl (c3_, 20, .inl (fun _ => 0))), (q4_, .inl (c4_, 20, .inl (fun _ => 0))), (q6_, .inl (c6_, 14, .inl (fun _ => 0))), (q9_, .inl (c9_, 201, .inl (fun _ => 0))), (q10_, .inl (c10_, 201, .inl (fun _ => 0)))] := hD
  refine W.widen (k := 7) (n := 496) (by decide) (by decide) ?_
  refine va_putF (D := D) (ci := 0) (v := .ref q10_) (ty := .array .int) (C := RX0) (T := TX0) (N := 18) hx hb hts in_X0 tyX0 tyX0_ok nmX0 hown hK hP hD hS 0 rfl rfl 10 (by decide) (hts _ q82) (fun _ h9 => h9) rfl hin rfl (by decide +kernel) rfl rfl (Nat.le_of_ble_eq_true rfl) dX0_init_59 (fun H locs hP hD hS => ?_)
  have hP : va_P D zq_cl [(h, .inr (0, [.int 0, .ref q1_, .ref q2_, .ref q3_, .ref q4_, .int 0, .ref q6_, .int 0, .int 0, .ref q9_, .ref q10_, .null, .null, .null, .null, .null, .null, .null])), (q1_, .inl (c1_, 20, .inl (fun _ => 0))), (q2_, .inl (c2_, 20, .inl (fun _ => 0))), (q3_, .inl (c3_, 20, .inl (fun _ => 0))), (q4_, .inl (c4_, 20, .inl (fun _ => 0))), (q6_, .inl (c6_, 14, .inl (fun _ => 0))), (q9_, .inl (c9_, 201, .inl (fun _ => 0))), (q10_, .inl (c10_, 201, .inl (fun _ => 0)))] H := hP
  have hD : va_D A [(h, .inr (0, [.int 0, .ref q1_, .ref q2_, .ref q3_, .ref q4_, .int 0, .ref q6_, .int 0, .int 0, .ref q9_, .ref q10_, .null, .null, .null, .null, .null, .null, .null])), (q1_, .inl (c1_, 20, .inl (fun _ => 0))), (q2_, .inl (c2_, 20, .inl (fun _ => 0))), (q3_, .inl (c3_, 20, .inl (fun _ => 0))), (q4_, .inl (c4_, 20, .inl (fun _ => 0))), (q6_, .inl (c6_, 14, .inl (fun _ => 0))), (q9_, .inl (c9_, 201, .inl (fun _ => 0))), (q10_, .inl (c10_, 201, .inl (fun _ => 0)))] := hD
  refine lv_aload_n hx hb dX0_init_62 rfl (lv_at hl 0 rfl) ?_
  refine lv_sipush (v := 201) hx hb dX0_init_63 (by decide) ?_
  refine va_newa (atype := .int) (ty := .int) (n := 201) (N' := 201) (a0 := (201, .inl (fun _ => 0))) hx hb (hts _ q128) rfl hK hP hD hS hA (fun _ => rfl) (by decide) (by decide) (by decide) (Nat.le_of_ble_eq_true rfl) (Nat.le_of_ble_eq_true rfl) dX0_init_66 (fun q11_ c11_ H hK hP hD hS => ?_)
  have hK : va_K D zq_cl [(c1_, .byte), (c2_, .int), (c3_, .int), (c4_, .int), (c6_, .int), (c9_, .byte), (c10_, .int), (c11_, .int)] s := hK
  have hP : va_P D zq_cl [(h, .inr (0, [.int 0, .ref q1_, .ref q2_, .ref q3_, .ref q4_, .int 0, .ref q6_, .int 0, .int 0, .ref q9_, .ref q10_, .null, .null, .null, .null, .null, .null, .null])), (q1_, .inl (c1_, 20, .inl (fun _ => 0))), (q2_, .inl (c2_, 20, .inl (fun _ => 0))), (q3_, .inl (c3_, 20, .inl (fun _ => 0))), (q4_, .inl (c4_, 20, .inl (fun _ => 0))), (q6_, .inl (c6_, 14, .inl (fun _ => 0))), (q9_, .inl (c9_, 201, .inl (fun _ => 0))), (q10_, .inl (c10_, 201, .inl (fun _ => 0))), (q11_, .inl (c11_, 201, .inl (fun _ => 0)))] H := hP
  have hD : va_D A [(h, .inr (0, [.int 0, .ref q1_, .ref q2_, .ref q3_, .ref q4_, .int 0, .ref q6_, .int 0, .int 0, .ref q9_, .ref q10_, .null, .null, .null, .null, .null, .null, .null])), (q1_, .inl (c1_, 20, .inl (fun _ => 0))), (q2_, .inl (c2_, 20, .inl (fun _ => 0))), (q3_, .inl (c3_, 20, .inl (fun _ => 0))), (q4_, .inl (c4_, 20, .inl (fun _ => 0))), (q6_, .inl (c6_, 14, .inl (fun _ => 0))), (q9_, .inl (c9_, 201, .inl (fun _ => 0))), (q10_, .inl (c10_, 201, .inl (fun _ => 0))), (q11_, .inl (c11_, 201, .inl (fun _ => 0)))] := hD
  refine W.widen (k := 8) (n := 697) (by decide) (by decide) ?_
  refine va_putF (D := D) (ci := 0) (v := .ref q11_) (ty := .array .int) (C := RX0) (T := TX0) (N := 18) hx hb hts in_X0 tyX0 tyX0_ok nmX0 hown hK hP hD hS 0 rfl rfl 11 (by decide) (hts _ q83) (fun _ h9 => h9) rfl hin rfl (by decide +kernel) rfl rfl (Nat.le_of_ble_eq_true rfl) dX0_init_68 (fun H locs hP hD hS => ?_)
  have hP : va_P D zq_cl [(h, .inr (0, [.int 0, .ref q1_, .ref q2_, .ref q3_, .ref q4_, .int 0, .ref q6_, .int 0, .int 0, .ref q9_, .ref q10_, .ref q11_, .null, .null, .null, .null, .null, .null])), (q1_, .inl (c1_, 20, .inl (fun _ => 0))), (q2_, .inl (c2_, 20, .inl (fun _ => 0))), (q3_, .inl (c3_, 20, .inl (fun _ => 0))), (q4_, .inl (c4_, 20, .inl (fun _ => 0))), (q6_, .inl (c6_, 14, .inl (fun _ => 0))), (q9_, .inl (c9_, 201, .inl (fun _ => 0))), (q10_, .inl (c10_, 201, .inl (fun _ => 0))), (q11_, .inl (c11_, 201, .inl (fun _ => 0)))] H := hP
  have hD : va_D A [(h, .inr (0, [.int 0, .ref q1_, .ref q2_, .ref q3_, .ref q4_, .int 0, .ref q6_, .int 0, .int 0, .ref q9_, .ref q10_, .ref q11_, .null, .null, .null, .null, .null, .null])), (q1_, .inl (c1_, 20, .inl (fun _ => 0))), (q2_, .inl (c2_, 20, .inl (fun _ => 0))), (q3_, .inl (c3_, 20, .inl (fun _ => 0))), (q4_, .inl (c4_, 20, .inl (fun _ => 0))), (q6_, .inl (c6_, 14, .inl (fun _ => 0))), (q9_, .inl (c9_, 201, .inl (fun _ => 0))), (q10_, .inl (c10_, 201, .inl (fun _ => 0))), (q11_, .inl (c11_, 201, .inl (fun _ => 0)))] := hD
  refine lv_aload_n hx hb dX0_init_71 rfl (lv_at hl 0 rfl) ?_
  refine lv_sipush (v := 201) hx hb dX0_init_72 (by decide) ?_
  refine va_newa (atype := .short) (ty := .short) (n := 201) (N' := 201) (a0 := (201, .inl (fun _ => 0))) hx hb (hts _ q129) rfl hK hP hD hS hA (fun _ => rfl) (by decide) (by decide) (by decide) (Nat.le_of_ble_eq_true rfl) (Nat.le_of_ble_eq_true rfl) dX0_init_75 (fun q12_ c12_ H hK hP hD hS => ?_)
  have hK : va_K D zq_cl [(c1_, .byte), (c2_, .int), (c3_, .int), (c4_, .int), (c6_, .int), (c9_, .byte), (c10_, .int), (c11_, .int), (c12_, .short)] s := hK
  have hP : va_P D zq_cl [(h, .inr (0, [.int 0, .ref q1_, .ref q2_, .ref q3_, .ref q4_, .int 0, .ref q6_, .int 0, .int 0, .ref q9_, .ref q10_, .ref q11_, .null, .null, .null, .null, .null, .null])), (q1_, .inl (c1_, 20, .inl (fun _ => 0))), (q2_, .inl (c2_, 20, .inl (fun _ => 0))), (q3_, .inl (c3_, 20, .inl (fun _ => 0))), (q4_, .inl (c4_, 20, .inl (fun _ => 0))), (q6_, .inl (c6_, 14, .inl (fun _ => 0))), (q9_, .inl (c9_, 201, .inl (fun _ => 0))), (q10_, .inl (c10_, 201, .inl (fun _ => 0))), (q11_, .inl (c11_, 201, .inl (fun _ => 0))), (q12_, .inl (c12_, 201, .inl (fun _ => 0)))] H := hP
  have hD : va_D A [(h, .inr (0, [.int 0, .ref q1_, .ref q2_, .ref q3_, .ref q4_, .int 0, .ref q6_, .int 0, .int 0, .ref q9_, .ref q10_, .ref q11_, .null, .null, .null, .null, .null, .null])), (q1_, .inl (c1_, 20, .inl (fun _ => 0))), (q2_, .inl (c2_, 20, .inl (fun _ => 0))), (q3_, .inl (c3_, 20, .inl (fun _ => 0))), (q4_, .inl (c4_, 20, .inl (fun _ => 0))), (q6_, .inl (c6_, 14, .inl (fun _ => 0))), (q9_, .inl (c9_, 201, .inl (fun _ => 0))), (q10_, .inl (c10_, 201, .inl (fun _ => 0))), (q11_, .inl (c11_, 201, .inl (fun _ => 0))), (q12_, .inl (c12_, 201, .inl (fun _ => 0)))] := hD
  refine W.widen (k := 9) (n := 898) (by decide) (by decide) ?_
  refine va_putF (D := D) (ci := 0) (v := .ref q12_) (ty := .array .short) (C := RX0) (T := TX0) (N := 18) hx hb hts in_X0 tyX0 tyX0_ok nmX0 hown hK hP hD hS 0 rfl rfl 12 (by decide) (hts _ q84) (fun _ h9 => h9) rfl hin rfl (by decide +kernel) rfl rfl (Nat.le_of_ble_eq_true rfl) dX0_init_77 (fun H locs hP hD hS => ?_)
  have hP : va_P D zq_cl [(h, .inr (0, [.int 0, .ref q1_, .ref q2_, .ref q3_, .ref q4_, .int 0, .ref q6_, .int 0, .int 0, .ref q9_, .ref q10_, .ref q11_, .ref q12_, .null, .null, .null, .null, .null])), (q1_, .inl (c1_, 20, .inl (fun _ => 0))), (q2_, .inl (c2_, 20, .inl (fun _ => 0))), (q3_, .inl (c3_, 20, .inl (fun _ => 0))), (q4_, .inl (c4_, 20, .inl (fun _ => 0))), (q6_, .inl (c6_, 14, .inl (fun _ => 0))), (q9_, .inl (c9_, 201, .inl (fun _ => 0))), (q10_, .inl (c10_, 201, .inl (fun _ => 0))), (q11_, .inl (c11_, 201, .inl (fun _ => 0))), (q12_, .inl (c12_, 201, .inl (fun _ => 0)))] H := hP
  have hD : va_D A [(h, .inr (0, [.int 0, .ref q1_, .ref q2_, .ref q3_, .ref q4_, .int 0, .ref q6_, .int 0, .int 0, .ref q9_, .ref q10_, .ref q11_, .ref q12_, .null, .null, .null, .null, .null])), (q1_, .inl (c1_, 20, .inl (fun _ => 0))), (q2_, .inl (c2_, 20, .inl (fun _ => 0))), (q3_, .inl (c3_, 20, .inl (fun _ => 0))), (q4_, .inl (c4_, 20, .inl (fun _ => 0))), (q6_, .inl (c6_, 14, .inl (fun _ => 0))), (q9_, .inl (c9_, 201, .inl (fun _ => 0))), (q10_, .inl (c10_, 201, .inl (fun _ => 0))), (q11_, .inl (c11_, 201, .inl (fun _ => 0))), (q12_, .inl (c12_, 201, .inl (fun _ => 0)))] := hD
  refine lv_aload_n hx hb dX0_init_80 rfl (lv_at hl 0 rfl) ?_
  refine lv_sipush (v := 201) hx hb dX0_init_81 (by decide) ?_
  refine va_newa (atype := .byte) (ty := .byte) (n := 201) (N' := 201) (a0 := (201, .inl (fun _ => 0))) hx hb (hts _ q127) rfl hK hP hD hS hA (fun _ => rfl) (by decide) (by decide) (by decide) (Nat.le_of_ble_eq_true rfl) (Nat.le_of_ble_eq_true rfl) dX0_init_84 (fun q13_ c13_ H hK hP hD hS => ?_)
  have hK : va_K D zq_cl [(c1_, .byte), (c2_, .int), (c3_, .int), (c4_, .int), (c6_, .int), (c9_, .byte), (c10_, .int), (c11_, .int), (c12_, .short), (c13_, .byte)] s := hK
  have hP : va_P D zq_cl [(h, .inr (0, [.int 0, .ref q1_, .ref q2_, .ref q3_, .ref q4_, .int 0, .ref q6_, .int 0, .int 0, .ref q9_, .ref q10_, .ref q11_, .ref q12_, .null, .null, .null, .null, .null])), (q1_, .inl (c1_, 20, .inl (fun _ => 0))), (q2_, .inl (c2_, 20, .inl (fun _ => 0))), (q3_, .inl (c3_, 20, .inl (fun _ => 0))), (q4_, .inl (c4_, 20, .inl (fun _ => 0))), (q6_, .inl (c6_, 14, .inl (fun _ => 0))), (q9_, .inl (c9_, 201, .inl (fun _ => 0))), (q10_, .inl (c10_, 201, .inl (fun _ => 0))), (q11_, .inl (c11_, 201, .inl (fun _ => 0))), (q12_, .inl (c12_, 201, .inl (fun _ => 0))), (q13_, .inl (c13_, 201, .inl (fun _ => 0)))] H := hP
  have hD : va_D A [(h, .inr (0, [.int 0, .ref q1_, .ref q2_, .ref q3_, .ref q4_, .int 0, .ref q6_, .int 0, .int 0, .ref q9_, .ref q10_, .ref q11_, .ref q12_, .null, .null, .null, .null, .null])), (q1_, .inl (c1_, 20, .inl (fun _ => 0))), (q2_, .inl (c2_, 20, .inl (fun _ => 0))), (q3_, .inl (c3_, 20, .inl (fun _ => 0))), (q4_, .inl (c4_, 20, .inl (fun _ => 0))), (q6_, .inl (c6_, 14, .inl (fun _ => 0))), (q9_, .inl (c9_, 201, .inl (fun _ => 0))), (q10_, .inl (c10_, 201, .inl (fun _ => 0))), (q11_, .inl (c11_, 201, .inl (fun _ => 0))), (q12_, .inl (c12_, 201, .inl (fun _ => 0))), (q13_, .inl (c13_, 201, .inl (fun _ => 0)))] := hD
  refine W.widen (k := 10) (n := 1099) (by decide) (by decide) ?_
  refine va_putF (D := D) (ci := 0) (v := .ref q13_) (ty := .array .byte) (C := RX0) (T := TX0) (N := 18) hx hb hts in_X0 tyX0 tyX0_ok nmX0 hown hK hP hD hS 0 rfl rfl 13 (by decide) (hts _ q85) (fun _ h9 => h9) rfl hin rfl (by decide +kernel) rfl rfl (Nat.le_of_ble_eq_true rfl) dX0_init_86 (fun H locs hP hD hS => ?_)
  have hP : va_P D zq_cl [(h, .inr (0, [.int 0, .ref q1_, .ref q2_, .ref q3_, .ref q4_, .int 0, .ref q6_, .int 0, .int 0, .ref q9_, .ref q10_, .ref q11_, .ref q12_, .ref q13_, .null, .null, .null, .null])), (q1_, .inl (c1_, 20, .inl (fun _ => 0))), (q2_, .inl (c2_, 20, .inl (fun _ => 0))), (q3_, .inl (c3_, 20, .inl (fun _ => 0))), (q4_, .inl (c4_, 20, .inl (fun _ => 0))), (q6_, .inl (c6_, 14, .inl (fun _ => 0))), (q9_, .inl (c9_, 201, .inl (fun _ => 0))), (q10_, .inl (c10_, 201, .inl (fun _ => 0))), (q11_, .inl (c11_, 201, .inl (fun _ => 0))), (q12_, .inl (c12_, 201, .inl (fun _ => 0))), (q13_, .inl (c13_, 201, .inl (fun _ => 0)))] H := hP
  have hD : va_D A [(h, .inr (0, [.int 0, .ref q1_, .ref q2_, .ref q3_, .ref q4_, .int 0, .ref q6_, .int 0, .int 0, .ref q9_, .ref q10_, .ref q11_, .ref q12_, .ref q13_, .null, .null, .null, .null])), (q1_, .inl (c1_, 20, .inl (fun _ => 0))), (q2_, .inl (c2_, 20, .inl (fun _ => 0))), (q3_, .inl (c3_, 20, .inl (fun _ => 0))), (q4_, .inl (c4_, 20, .inl (fun _ => 0))), (q6_, .inl (c6_, 14, .inl (fun _ => 0))), (q9_, .inl (c9_, 201, .inl (fun _ => 0))), (q10_, .inl (c10_, 201, .inl (fun _ => 0))), (q11_, .inl (c11_, 201, .inl (fun _ => 0))), (q12_, .inl (c12_, 201, .inl (fun _ => 0))), (q13_, .inl (c13_, 201, .inl (fun _ => 0)))] := hD
  refine lv_aload_n hx hb dX0_init_89 rfl (lv_at hl 0 rfl) ?_
  refine lv_sipush (v := 201) hx hb dX0_init_90 (by decide) ?_
  refine va_newa (atype := .short) (ty := .short) (n := 201) (N' := 201) (a0 := (201, .inl (fun _ => 0))) hx hb (hts _ q129) rfl hK hP hD hS hA (fun _ => rfl) (by decide) (by decide) (by decide) (Nat.le_of_ble_eq_true rfl) (Nat.le_of_ble_eq_true rfl) dX0_init_93 (fun q14_ c14_ H hK hP hD hS => ?_)
  have hK : va_K D zq_cl [(c1_, .byte), (c2_, .int), (c3_, .int), (c4_, .int), (c6_, .int), (c9_, .byte), (c10_, .int), (c11_, .int), (c12_, .short), (c13_, .byte), (c14_, .short)] s := hK
  have hP : va_P D zq_cl [(h, .inr (0, [.int 0, .ref q1_, .ref q2_, .ref q3_, .ref q4_, .int 0, .ref q6_, .int 0, .int 0, .ref q9_, .ref q10_, .ref q11_, .ref q12_, .ref q13_, .null, .null, .null, .null])), (q1_, .inl (c1_, 20, .inl (fun _ => 0))), (q2_, .inl (c2_, 20, .inl (fun _ => 0))), (q3_, .inl (c3_, 20, .inl (fun _ => 0))), (q4_, .inl (c4_, 20, .inl (fun _ => 0))), (q6_, .inl (c6_, 14, .inl (fun _ => 0))), (q9_, .inl (c9_, 201, .inl (fun _ => 0))), (q10_, .inl (c10_, 201, .inl (fun _ => 0))), (q11_, .inl (c11_, 201, .inl (fun _ => 0))), (q12_, .inl (c12_, 201, .inl (fun _ => 0))), (q13_, .inl (c13_, 201, .inl (fun _ => 0))), (q14_, .inl (c14_, 201, .inl (fun _ => 0)))] H := hP
  have hD : va_D A [(h, .inr (0, [.int 0, .ref q1_, .ref q2_, .ref q3_, .ref q4_, .int 0, .ref q6_, .int 0, .int 0, .ref q9_, .ref q10_, .ref q11_, .ref q12_, .ref q13_, .null, .null, .null, .null])), (q1_, .inl (c1_, 20, .inl (fun _ => 0))), (q2_, .inl (c2_, 20, .inl (fun _ => 0))), (q3_, .inl (c3_, 20, .inl (fun _ => 0))), (q4_, .inl (c4_, 20, .inl (fun _ => 0))), (q6_, .inl (c6_, 14, .inl (fun _ => 0))), (q9_, .inl (c9_, 201, .inl (fun _ => 0))), (q10_, .inl (c10_, 201, .inl (fun _ => 0))), (q11_, .inl (c11_, 201, .inl (fun _ => 0))), (q12_, .inl (c12_, 201, .inl (fun _ => 0))), (q13_, .inl (c13_, 201, .inl (fun _ => 0))), (q14_, .inl (c14_, 201, .inl (fun _ => 0)))] := hD
  refine W.widen (k := 11) (n := 1300) (by decide) (by decide) ?_
  refine va_putF (D := D) (ci := 0) (v := .ref q14_) (ty := .array .short) (C := RX0) (T := TX0) (N := 18) hx hb hts in_X0 tyX0 tyX0_ok nmX0 hown hK hP hD hS 0 rfl rfl 14 (by decide) (hts _ q86) (fun _ h9 => h9) rfl hin rfl (by decide +kernel) rfl rfl (Nat.le_of_ble_eq_true rfl) dX0_init_95 (fun H locs hP hD hS => ?_)
  have hP : va_P D zq_cl [(h, .inr (0, [.int 0, .ref q1_, .ref q2_, .ref q3_, .ref q4_, .int 0, .ref q6_, .int 0, .int 0, .ref q9_, .ref q10_, .ref q11_, .ref q12_, .ref q13_, .ref q14_, .null, .null, .null])), (q1_, .inl (c1_, 20, .inl (fun _ => 0))), (q2_, .inl (c2_, 20, .inl (fun _ => 0))), (q3_, .inl (c3_, 20, .inl (fun _ => 0))), (q4_, .inl (c4_, 20, .inl (fun _ => 0))), (q6_, .inl (c6_, 14, .inl (fun _ => 0))), (q9_, .inl (c9_, 201, .inl (fun _ => 0))), (q10_, .inl (c10_, 201, .inl (fun _ => 0))), (q11_, .inl (c11_, 201, .inl (fun _ => 0))), (q12_, .inl (c12_, 201, .inl (fun _ => 0))), (q13_, .inl (c13_, 201, .inl (fun _ => 0))), (q14_, .inl (c14_, 201, .inl (fun _ => 0)))] H := hP
  have hD : va_D A [(h, .inr (0, [.int 0, .ref q1_, .ref q2_, .ref q3_, .ref q4_, .int 0, .ref q6_, .int 0, .int 0, .ref q9_, .ref q10_, .ref q11_, .ref q12_, .ref q13_, .ref q14_, .null, .null, .null])), (q1_, .inl (c1_, 20, .inl (fun _ => 0))), (q2_, .inl (c2_, 20, .inl (fun _ => 0))), (q3_, .inl (c3_, 20, .inl (fun _ => 0))), (q4_, .inl (c4_, 20, .inl (fun _ => 0))), (q6_, .inl (c6_, 14, .inl (fun _ => 0))), (q9_, .inl (c9_, 201, .inl (fun _ => 0))), (q10_, .inl (c10_, 201, .inl (fun _ => 0))), (q11_, .inl (c11_, 201, .inl (fun _ => 0))), (q12_, .inl (c12_, 201, .inl (fun _ => 0))), (q13_, .inl (c13_, 201, .inl (fun _ => 0))), (q14_, .inl (c14_, 201, .inl (fun _ => 0)))] := hD
  refine lv_aload_n hx hb dX0_init_98 rfl (lv_at hl 0 rfl) ?_
  refine lv_bipush (v := 14) hx hb dX0_init_99 (by decide) ?_
  refine va_newa (atype := .short) (ty := .short) (n := 14) (N' := 14) (a0 := (14, .inl (fun _ => 0))) hx hb (hts _ q129) rfl hK hP hD hS hA (fun _ => rfl) (by decide) (by decide) (by decide) (Nat.le_of_ble_eq_true rfl) (Nat.le_of_ble_eq_true rfl) dX0_init_101 (fun q15_ c15_ H hK hP hD hS => ?_)
  have hK : va_K D zq_cl [(c1_, .byte), (c2_, .int), (c3_, .int), (c4_, .int), (c6_, .int), (c9_, .byte), (c10_, .int), (c11_, .int), (c12_, .short), (c13_, .byte), (c14_, .short), (c15_, .short)] s := hK
  have hP : va_P D zq_cl [(h, .inr (0, [.int 0, .ref q1_, .ref q2_, .ref q3_, .ref q4_, .int 0, .ref q6_, .int 0, .int 0, .ref q9_, .ref q10_, .ref q11_, .ref q12_, .ref q13_, .ref q14_, .null, .null, .null])), (q1_, .inl (c1_, 20, .inl (fun _ => 0))), (q2_, .inl (c2_, 20, .inl (fun _ => 0))), (q3_, .inl (c3_, 20, .inl (fun _ => 0))), (q4_, .inl (c4_, 20, .inl (fun _ => 0))), (q6_, .inl (c6_, 14, .inl (fun _ => 0))), (q9_, .inl (c9_, 201, .inl (fun _ => 0))), (q10_, .inl (c10_, 201, .inl (fun _ => 0))), (q11_, .inl (c11_, 201, .inl (fun _ => 0))), (q12_, .inl (c12_, 201, .inl (fun _ => 0))), (q13_, .inl (c13_, 201, .inl (fun _ => 0))), (q14_, .inl (c14_, 201, .inl (fun _ => 0))), (q15_, .inl (c15_, 14, .inl (fun _ => 0)))] H := hP
  have hD : va_D A [(h, .inr (0, [.int 0, .ref q1_, .ref q2_, .ref q3_, .ref q4_, .int 0, .ref q6_, .int 0, .int 0, .ref q9_, .ref q10_, .ref q11_, .ref q12_, .ref q13_, .ref q14_, .null, .null, .null])), (q1_, .inl (c1_, 20, .inl (fun _ => 0))), (q2_, .inl (c2_, 20, .inl (fun _ => 0))), (q3_, .inl (c3_, 20, .inl (fun _ => 0))), (q4_, .inl (c4_, 20, .inl (fun _ => 0))), (q6_, .inl (c6_, 14, .inl (fun _ => 0))), (q9_, .inl (c9_, 201, .inl (fun _ => 0))), (q10_, .inl (c10_, 201, .inl (fun _ => 0))), (q11_, .inl (c11_, 201, .inl (fun _ => 0))), (q12_, .inl (c12_, 201, .inl (fun _ => 0))), (q13_, .inl (c13_, 201, .inl (fun _ => 0))), (q14_, .inl (c14_, 201, .inl (fun _ => 0))), (q15_, .inl (c15_, 14, .inl (fun _ => 0)))] := hD
  refine W.widen (k := 12) (n := 1314) (by decide) (by decide) ?_
  refine va_putF (D := D) (ci := 0) (v := .ref q15_) (ty := .array .short) (C := RX0) (T := TX0) (N := 18) hx hb hts in_X0 tyX0 tyX0_ok nmX0 hown hK hP hD hS 0 rfl rfl 15 (by decide) (hts _ q87) (fun _ h9 => h9) rfl hin rfl (by decide +kernel) rfl rfl (Nat.le_of_ble_eq_true rfl) dX0_init_103 (fun H locs hP hD hS => ?_)
  have hP : va_P D zq_cl [(h, .inr (0, [.int 0, .ref q1_, .ref q2_, .ref q3_, .ref q4_, .int 0, .ref q6_, .int 0, .int 0, .ref q9_, .ref q10_, .ref q11_, .ref q12_, .ref q13_, .ref q14_, .ref q15_, .null, .null])), (q1_, .inl (c1_, 20, .inl (fun _ => 0))), (q2_, .inl (c2_, 20, .inl (fun _ => 0))), (q3_, .inl (c3_, 20, .inl (fun _ => 0))), (q4_, .inl (c4_, 20, .inl (fun _ => 0))), (q6_, .inl (c6_, 14, .inl (fun _ => 0))), (q9_, .inl (c9_, 201, .inl (fun _ => 0))), (q10_, .inl (c10_, 201, .inl (fun _ => 0))), (q11_, .inl (c11_, 201, .inl (fun _ => 0))), (q12_, .inl (c12_, 201, .inl (fun _ => 0))), (q13_, .inl (c13_, 201, .inl (fun _ => 0))), (q14_, .inl (c14_, 201, .inl (fun _ => 0))), (q15_, .inl (c15_, 14, .inl (fun _ => 0)))] H := hP
  have hD : va_D A [(h, .inr (0, [.int 0, .ref q1_, .ref q2_, .ref q3_, .ref q4_, .int 0, .ref q6_, .int 0, .int 0, .ref q9_, .ref q10_, .ref q11_, .ref q12_, .ref q13_, .ref q14_, .ref q15_, .null, .null])), (q1_, .inl (c1_, 20, .inl (fun _ => 0))), (q2_, .inl (c2_, 20, .inl (fun _ => 0))), (q3_, .inl (c3_, 20, .inl (fun _ => 0))), (q4_, .inl (c4_, 20, .inl (fun _ => 0))), (q6_, .inl (c6_, 14, .inl (fun _ => 0))), (q9_, .inl (c9_, 201, .inl (fun _ => 0))), (q10_, .inl (c10_, 201, .inl (fun _ => 0))), (q11_, .inl (c11_, 201, .inl (fun _ => 0))), (q12_, .inl (c12_, 201, .inl (fun _ => 0))), (q13_, .inl (c13_, 201, .inl (fun _ => 0))), (q14_, .inl (c14_, 201, .inl (fun _ => 0))), (q15_, .inl (c15_, 14, .inl (fun _ => 0)))] := hD
  refine lv_aload_n hx hb dX0_init_106 rfl (lv_at hl 0 rfl) ?_
  refine lv_bipush (v := 21) hx hb dX0_init_107 (by decide) ?_
  refine va_newa (atype := .short) (ty := .short) (n := 21) (N' := 21) (a0 := (21, .inl (fun _ => 0))) hx hb (hts _ q129) rfl hK hP hD hS hA (fun _ => rfl) (by decide) (by decide) (by decide) (Nat.le_of_ble_eq_true rfl) (Nat.le_of_ble_eq_true rfl) dX0_init_109 (fun q16_ c16_ H hK hP hD hS => ?_)
  have hK : va_K D zq_cl [(c1_, .byte), (c2_, .int), (c3_, .int), (c4_, .int), (c6_, .int), (c9_, .byte), (c10_, .int), (c11_, .int), (c12_, .short), (c13_, .byte), (c14_, .short), (c15_, .short), (c16_, .short)] s := hK
  have hP : va_P D zq_cl [(h, .inr (0, [.int 0, .ref q1_, .ref q2_, .ref q3_, .ref q4_, .int 0, .ref q6_, .int 0, .int 0, .ref q9_, .ref q10_, .ref q11_, .ref q12_, .ref q13_, .ref q14_, .ref q15_, .null, .null])), (q1_, .inl (c1_, 20, .inl (fun _ => 0))), (q2_, .inl (c2_, 20, .inl (fun _ => 0))), (q3_, .inl (c3_, 20, .inl (fun _ => 0))), (q4_, .inl (c4_, 20, .inl (fun _ => 0))), (q6_, .inl (c6_, 14, .inl (fun _ => 0))), (q9_, .inl (c9_, 201, .inl (fun _ => 0))), (q10_, .inl (c10_, 201, .inl (fun _ => 0))), (q11_, .inl (c11_, 201, .inl (fun _ => 0))), (q12_, .inl (c12_, 201, .inl (fun _ => 0))), (q13_, .inl (c13_, 201, .inl (fun _ => 0))), (q14_, .inl (c14_, 201, .inl (fun _ => 0))), (q15_, .inl (c15_, 14, .inl (fun _ => 0))), (q16_, .inl (c16_, 21, .inl (fun _ => 0)))] H := hP
  have hD : va_D A [(h, .inr (0, [.int 0, .ref q1_, .ref q2_, .ref q3_, .ref q4_, .int 0, .ref q6_, .int 0, .int 0, .ref q9_, .ref q10_, .ref q11_, .ref q12_, .ref q13_, .ref q14_, .ref q15_, .null, .null])), (q1_, .inl (c1_, 20, .inl (fun _ => 0))), (q2_, .inl (c2_, 20, .inl (fun _ => 0))), (q3_, .inl (c3_, 20, .inl (fun _ => 0))), (q4_, .inl (c4_, 20, .inl (fun _ => 0))), (q6_, .inl (c6_, 14, .inl (fun _ => 0))), (q9_, .inl (c9_, 201, .inl (fun _ => 0))), (q10_, .inl (c10_, 201, .inl (fun _ => 0))), (q11_, .inl (c11_, 201, .inl (fun _ => 0))), (q12_, .inl (c12_, 201, .inl (fun _ => 0))), (q13_, .inl (c13_, 201, .inl (fun _ => 0))), (q14_, .inl (c14_, 201, .inl (fun _ => 0))), (q15_, .inl (c15_, 14, .inl (fun _ => 0))), (q16_, .inl (c16_, 21, .inl (fun _ => 0)))] := hD
  refine W.widen (k := 13) (n := 1335) (by decide) (by decide) ?_
  refine va_putF (D := D) (ci := 0) (v := .ref q16_) (ty := .array .short) (C := RX0) (T := TX0) (N := 18) hx hb hts in_X0 tyX0 tyX0_ok nmX0 hown hK hP hD hS 0 rfl rfl 16 (by decide) (hts _ q88) (fun _ h9 => h9) rfl hin rfl (by decide +kernel) rfl rfl (Nat.le_of_ble_eq_true rfl) dX0_init_111 (fun H locs hP hD hS => ?_)
  have hP : va_P D zq_cl [(h, .inr (0, [.int 0, .ref q1_, .ref q2_, .ref q3_, .ref q4_, .int 0, .ref q6_, .int 0, .int 0, .ref q9_, .ref q10_, .ref q11_, .ref q12_, .ref q13_, .ref q14_, .ref q15_, .ref q16_, .null])), (q1_, .inl (c1_, 20, .inl (fun _ => 0))), (q2_, .inl (c2_, 20, .inl (fun _ => 0))), (q3_, .inl (c3_, 20, .inl (fun _ => 0))), (q4_, .inl (c4_, 20, .inl (fun _ => 0))), (q6_, .inl (c6_, 14, .inl (fun _ => 0))), (q9_, .inl (c9_, 201, .inl (fun _ => 0))), (q10_, .inl (c10_, 201, .inl (fun _ => 0))), (q11_, .inl (c11_, 201, .inl (fun _ => 0))), (q12_, .inl (c12_, 201, .inl (fun _ => 0))), (q13_, .inl (c13_, 201, .inl (fun _ => 0))), (q14_, .inl (c14_, 201, .inl (fun _ => 0))), (q15_, .inl (c15_, 14, .inl (fun _ => 0))), (q16_, .inl (c16_, 21, .inl (fun _ => 0)))] H := hP
  have hD : va_D A [(h, .inr (0, [.int 0, .ref q1_, .ref q2_, .ref q3_, .ref q4_, .int 0, .ref q6_, .int 0, .int 0, .ref q9_, .ref q10_, .ref q11_, .ref q12_, .ref q13_, .ref q14_, .ref q15_, .ref q16_, .null])), (q1_, .inl (c1_, 20, .inl (fun _ => 0))), (q2_, .inl (c2_, 20, .inl (fun _ => 0))), (q3_, .inl (c3_, 20, .inl (fun _ => 0))), (q4_, .inl (c4_, 20, .inl (fun _ => 0))), (q6_, .inl (c6_, 14, .inl (fun _ => 0))), (q9_, .inl (c9_, 201, .inl (fun _ => 0))), (q10_, .inl (c10_, 201, .inl (fun _ => 0))), (q11_, .inl (c11_, 201, .inl (fun _ => 0))), (q12_, .inl (c12_, 201, .inl (fun _ => 0))), (q13_, .inl (c13_, 201, .inl (fun _ => 0))), (q14_, .inl (c14_, 201, .inl (fun _ => 0))), (q15_, .inl (c15_, 14, .inl (fun _ => 0))), (q16_, .inl (c16_, 21, .inl (fun _ => 0)))] := hD
  refine lv_aload_n hx hb dX0_init_114 rfl (lv_at hl 0 rfl) ?_
  refine lv_bipush (v := 70) hx hb dX0_init_115 (by decide) ?_
  refine va_newa (atype := .int) (ty := .int) (n := 70) (N' := 70) (a0 := (70, .inl (fun _ => 0))) hx hb (hts _ q128) rfl hK hP hD hS hA (fun _ => rfl) (by decide) (by decide) (by decide) (Nat.le_of_ble_eq_true rfl) (Nat.le_of_ble_eq_true rfl) dX0_init_117 (fun q17_ c17_ H hK hP hD hS => ?_)
  have hK : va_K D zq_cl [(c1_, .byte), (c2_, .int), (c3_, .int), (c4_, .int), (c6_, .int), (c9_, .byte), (c10_, .int), (c11_, .int), (c12_, .short), (c13_, .byte), (c14_, .short), (c15_, .short), (c16_, .short), (c17_, .int)] s := hK
  have hP : va_P D zq_cl [(h, .inr (0, [.int 0, .ref q1_, .ref q2_, .ref q3_, .ref q4_, .int 0, .ref q6_, .int 0, .int 0, .ref q9_, .ref q10_, .ref q11_, .ref q12_, .ref q13_, .ref q14_, .ref q15_, .ref q16_, .null])), (q1_, .inl (c1_, 20, .inl (fun _ => 0))), (q2_, .inl (c2_, 20, .inl (fun _ => 0))), (q3_, .inl (c3_, 20, .inl (fun _ => 0))), (q4_, .inl (c4_, 20, .inl (fun _ => 0))), (q6_, .inl (c6_, 14, .inl (fun _ => 0))), (q9_, .inl (c9_, 201, .inl (fun _ => 0))), (q10_, .inl (c10_, 201, .inl (fun _ => 0))), (q11_, .inl (c11_, 201, .inl (fun _ => 0))), (q12_, .inl (c12_, 201, .inl (fun _ => 0))), (q13_, .inl (c13_, 201, .inl (fun _ => 0))), (q14_, .inl (c14_, 201, .inl (fun _ => 0))), (q15_, .inl (c15_, 14, .inl (fun _ => 0))), (q16_, .inl (c16_, 21, .inl (fun _ => 0))), (q17_, .inl (c17_, 70, .inl (fun _ => 0)))] H := hP
  have hD : va_D A [(h, .inr (0, [.int 0, .ref q1_, .ref q2_, .ref q3_, .ref q4_, .int 0, .ref q6_, .int 0, .int 0, .ref q9_, .ref q10_, .ref q11_, .ref q12_, .ref q13_, .ref q14_, .ref q15_, .ref q16_, .null])), (q1_, .inl (c1_, 20, .inl (fun _ => 0))), (q2_, .inl (c2_, 20, .inl (fun _ => 0))), (q3_, .inl (c3_, 20, .inl (fun _ => 0))), (q4_, .inl (c4_, 20, .inl (fun _ => 0))), (q6_, .inl (c6_, 14, .inl (fun _ => 0))), (q9_, .inl (c9_, 201, .inl (fun _ => 0))), (q10_, .inl (c10_, 201, .inl (fun _ => 0))), (q11_, .inl (c11_, 201, .inl (fun _ => 0))), (q12_, .inl (c12_, 201, .inl (fun _ => 0))), (q13_, .inl (c13_, 201, .inl (fun _ => 0))), (q14_, .inl (c14_, 201, .inl (fun _ => 0))), (q15_, .inl (c15_, 14, .inl (fun _ => 0))), (q16_, .inl (c16_, 21, .inl (fun _ => 0))), (q17_, .inl (c17_, 70, .inl (fun _ => 0)))] := hD
  refine W.widen (k := 14) (n := 1405) (by decide) (by decide) ?_
  refine va_putF (D := D) (ci := 0) (v := .ref q17_) (ty := .array .int) (C := RX0) (T := TX0) (N := 18) hx hb hts in_X0 tyX0 tyX0_ok nmX0 hown hK hP hD hS 0 rfl rfl 17 (by decide) (hts _ q89) (fun _ h9 => h9) rfl hin rfl (by decide +kernel) rfl rfl (Nat.le_of_ble_eq_true rfl) dX0_init_119 (fun H locs hP hD hS => ?_)
  have hP : va_P D zq_cl [(h, .inr (0, [.int 0, .ref q1_, .ref q2_, .ref q3_, .ref q4_, .int 0, .ref q6_, .int 0, .int 0, .ref q9_, .ref q10_, .ref q11_, .ref q12_, .ref q13_, .ref q14_, .ref q15_, .ref q16_, .ref q17_])), (q1_, .inl (c1_, 20, .inl (fun _ => 0))), (q2_, .inl (c2_, 20, .inl (fun _ => 0))), (q3_, .inl (c3_, 20, .inl (fun _ => 0))), (q4_, .inl (c4_, 20, .inl (fun _ => 0))), (q6_, .inl (c6_, 14, .inl (fun _ => 0))), (q9_, .inl (c9_, 201, .inl (fun _ => 0))), (q10_, .inl (c10_, 201, .inl (fun _ => 0))), (q11_, .inl (c11_, 201, .inl (fun _ => 0))), (q12_, .inl (c12_, 201, .inl (fun _ => 0))), (q13_, .inl (c13_, 201, .inl (fun _ => 0))), (q14_, .inl (c14_, 201, .inl (fun _ => 0))), (q15_, .inl (c15_, 14, .inl (fun _ => 0))), (q16_, .inl (c16_, 21, .inl (fun _ => 0))), (q17_, .inl (c17_, 70, .inl (fun _ => 0)))] H := hP
  have hD : va_D A [(h, .inr (0, [.int 0, .ref q1_, .ref q2_, .ref q3_, .ref q4_, .int 0, .ref q6_, .int 0, .int 0, .ref q9_, .ref q10_, .ref q11_, .ref q12_, .ref q13_, .ref q14_, .ref q15_, .ref q16_, .ref q17_])), (q1_, .inl (c1_, 20, .inl (fun _ => 0))), (q2_, .inl (c2_, 20, .inl (fun _ => 0))), (q3_, .inl (c3_, 20, .inl (fun _ => 0))), (q4_, .inl (c4_, 20, .inl (fun _ => 0))), (q6_, .inl (c6_, 14, .inl (fun _ => 0))), (q9_, .inl (c9_, 201, .inl (fun _ => 0))), (q10_, .inl (c10_, 201, .inl (fun _ => 0))), (q11_, .inl (c11_, 201, .inl (fun _ => 0))), (q12_, .inl (c12_, 201, .inl (fun _ => 0))), (q13_, .inl (c13_, 201, .inl (fun _ => 0))), (q14_, .inl (c14_, 201, .inl (fun _ => 0))), (q15_, .inl (c15_, 14, .inl (fun _ => 0))), (q16_, .inl (c16_, 21, .inl (fun _ => 0))), (q17_, .inl (c17_, 70, .inl (fun _ => 0)))] := hD
  have key : ∀ (a : Nat → Nat) (ca : Nat → ClassId), a 0 = h → va_K D zq_cl (zq_t0 ca) s → va_P D zq_cl (zq_w0 a ca (fun _ _ => 0)) H → va_D A (zq_w0 a ca (fun _ _ => 0)) → W p l e (headSpec (ws_ yX0_init cX0_init 1 none) zq_rn0).room s m ([.ref h] : List Value).toArray below meth c H locs 14 1405 (MQ below (va_Qv (fun u : (Nat → Nat) × (Nat → ClassId) × zq_St => u.1 0 = h ∧ ∃ T, zq_I0 (fun _ _ => 0) 0 T 0 u.2.2) (fun u t => va_P D zq_cl (zq_w0 u.1 u.2.1 u.2.2) t.heap ∧ va_K D zq_cl (zq_t0 u.2.1) t ∧ va_D A (zq_w0 u.1 u.2.1 u.2.2)) A) ([.ref h] : List Value).toArray s 14 1405 A) (F0 m 122 ls []) := by
    intro a ca ea hK2 hP2 hD2
    subst ea
    have F : CallFix p m c cX0_init 1 s ([.ref (a 0)] : List Value).toArray lw_all RX0 := ⟨hx, hb, hml, hown, hts⟩
    have hI : zq_IW D (zq_t0 ca) A s (zq_w0 a ca (fun _ _ => 0)) H locs := ⟨hK2, hP2, hD2, hS, hA⟩
    refine lv_aload_n hx hb dX0_init_122 rfl (lv_at hl 0 rfl) ?_
    refine zq_c0v (rest := []) F hI (m0_execute l a ca (fun _ _ => 0) (fun _ _ => 0) 0 ⟨rfl, by omega, fun i hi => absurd hi (by omega)⟩ ⟨rfl, rfl, rfl, rfl, rfl, rfl⟩) q32 q34 qs0 q22 q35 rfl hdX0_execute (by decide) hl.1 rfl (Nat.le_of_ble_eq_true rfl) dX0_init_123 (by decide) (fun u2 H locs hp hI => ?_)
    exact W.vret hx hb hr (fun t ht hW => ⟨⟨(a, ca, u2), rfl, ⟨rfl, hp⟩, by show va_P D zq_cl (zq_w0 a ca u2) t.heap; rw [ht]; exact hI.2.1, va_K.moved hW.alike hI.1, hI.2.2.1⟩, hI.2.2.2.1.F ht⟩) hI.2.2.2.1.2.2 dX0_init_126
  exact key (fun k => ([h, q1_, q2_, q3_, q4_, 0, q6_, 0, 0, q9_, q10_, q11_, q12_, q13_, q14_, q15_, q16_, q17_] : List Nat).getD k 0) (fun k => ([c1_, c1_, c2_, c3_, c4_, c1_, c6_, c1_, c1_, c9_, c10_, c11_, c12_, c13_, c14_, c15_, c16_, c17_] : List ClassId).getD k c1_) rfl hK hP hD
end
section
/-! THE CLAIM OUT OF ONE WALK OF THE LAW'S BODY. Your part is whole_start (and what it stands on); all else here is the same for every law, but numbers. -/
def R_law : String := "TraceDebuggerLaw"
def lw_P (b : Addr) (xs : List Int32) (args : Array Value) (s : State) : Prop := args = #[.ref b] ∧ s.IntsAt b xs ∧ xs.length ≤ 320 ∧ (Jvm.Cond.and given_1 narrow_1).before args s = true
def lw_Q (_ : Array Value) (s : State) (o : Outcome) (t : State) : Prop := o = .returned (some (.int 1)) ∧ Framed s o t [] 600000 7290000
def lw_Z (below : List Frame) (a : Array Value) (s : State) : State → Prop := fun t => ∃ o, t.status = .running ∧ Ended t below o ∧ lw_Q a s o t
/-- the law's own end, with 1 on the stack, nothing written that was there before, its room as the claim has it -/
theorem lw_ret {p : Program} {l : Launch} {e : Env} {s : State} {m : MethodId} {below : List Frame} {meth : Method} {c : Code} {b : Nat} (hx : p.tables.exec = Jvm.exec) (hb : c.code = code) (hr : meth.sig.returnType = ret) (hlocks : meth.locks = false) {pc : Nat} {H : Heap} {ls : Array Slot} (hdg : decode code pc = .ok (.ireturn, 1)) : W p l e room_1 s m #[Value.ref b] below meth c H [] 600000 7290000 (lw_Z below #[Value.ref b] s) (F0 m pc ls [.int 1]) := by
  intro T hT X
  obtain ⟨fs, hret, hrun, hended, hW, hframe⟩ := X.leave (v := some (.int 1)) (hlocks := hlocks) (fun h => by rw [hr] at h; cases h)
  have hmeth' : T.vm.method? m = some meth := X.method'
  refine ⟨T.setFrames fs, ?_, .returned (some (.int 1)), hrun, hended, rfl, ⟨_, rfl⟩, hW, hframe⟩
  jvm_step X.here [X.here.top, hx, hb, hdg, hmeth', hr, ret, narrow_b1]
  (try refine ⟨rfl, ?_⟩); (try refine ⟨rfl, ?_⟩)
  first | (intro acts; rw [hret _ acts rfl rfl rfl]) | rw [hret _ _ rfl rfl rfl]
  exact Steps.refl _
/-- what holds at the law's entry: the machine, the code, the tables' words (any of lw_tbl by 'hts w (by decide +kernel)'), the script of L ints xs at the cell b, what the Statement gives of the start (any of its parts by flat_of_before) -/
def lw_At (p : Program) (s : State) (m : MethodId) (meth : Method) (c : Code) (b L : Nat) (xs : Nat → Int32) : Prop :=
  p.tables.exec = Jvm.exec ∧ c.code = code ∧ meth.sig.returnType = ret ∧ c.maxLocals = 4 ∧ s.vm.findClass R_law = some m.cls ∧ (∀ w ∈ lw_tbl, w.before #[Value.ref b] s = true) ∧ va_X b L xs s s.heap ∧ b < s.heap.size ∧ meth.locks = false ∧ (Jvm.Cond.and given_1 narrow_1).before #[Value.ref b] s = true
end
section
/-! the law's level: two objects side by side -/
set_option maxRecDepth 100000
def zq_L (D : va_G) (a : Nat → Nat) (ca : Nat → ClassId) (g : Nat → Nat) (cg : Nat → ClassId) (A : Nat → Prop) (s : State) (u v : zq_St) (H : Heap) (locs : List Loc) : Prop := va_K D zq_cl (zq_t0 ca) s ∧ va_K D zq_cl (zq_t1 cg) s ∧ va_P D zq_cl (zq_w0 a ca u) H ∧ va_P D zq_cl (zq_w1 g cg v) H ∧ va_D A (zq_w0 a ca u ++ zq_w1 g cg v) ∧ va_S A s.heap H locs ∧ ∀ q : Nat, s.heap.size ≤ q → A q
theorem zq_Dl {A : Nat → Prop} {w1 w2 : va_W} (h : va_D A (w1 ++ w2)) : va_D A w1 := by
  have k : ∀ (i : Nat) (x : Nat × va_E), w1[i]? = some x → (w1 ++ w2)[i]? = some x := fun i x hi => by
    rw [List.getElem?_append_left (List.getElem?_eq_some_iff.mp hi).1]
    exact hi
  exact ⟨fun i j x y hi hj e => h.1 i j x y (k i x hi) (k j y hj) e, fun i x hi => h.2 i x (k i x hi)⟩
theorem zq_Dr {A : Nat → Prop} {w1 w2 : va_W} (h : va_D A (w1 ++ w2)) : va_D A w2 := by
  have k : ∀ (i : Nat) (x : Nat × va_E), w2[i]? = some x → (w1 ++ w2)[w1.length + i]? = some x := fun i x hi => by
    rw [List.getElem?_append_right (by omega), show w1.length + i - w1.length = i by omega]
    exact hi
  exact ⟨fun i j x y hi hj e => by have := h.1 _ _ x y (k i x hi) (k j y hj) e; omega, fun i x hi => h.2 _ x (k i x hi)⟩
theorem zq_i5 {L i : Nat} (hL : L ≤ 320) (hi : i < 1000) (h : ¬ nI L - nI 5 < nI i) : i + 5 ≤ L := by
  have h1 : (nI L - nI 5).toInt = (L : Int) - 5 := pk_sub_toInt (by omega) (by omega)
  have h2 : (nI i).toInt = (i : Int) := nI_toInt (by omega)
  rw [Int32.lt_iff_toInt_lt, h1, h2] at h
  omega
theorem zq_sw (x : Int32) : ∃ j : Nat, j < 16 ∧ x &&& 15 = nI j := by
  obtain ⟨j, h1, h2⟩ := pk_andE x (m := 15) 4 (by decide)
  exact ⟨j, by omega, h2⟩
section ZL
variable {p : Program} {l : Launch} {e : Env} {R : Room} {s : State} {m : MethodId} {args : Array Value} {below : List Frame} {meth : Method} {c : Code} {H : Heap} {locs : List Loc} {cells slots : Nat} {Q : State → Prop}
variable {cc : ByteArray} {pc nL : Nat} {ls : Array Slot} {rest st0 : List Value} {D : va_G} {A : Nat → Prop} {own : String}
variable {y : MethodName} {bb : ByteArray} {L lev idx : Nat} {r : FieldType} {As : List Value} {u v : zq_St} {a g : Nat → Nat} {ca cg : Nat → ClassId}
theorem zq_scr (hx : p.tables.exec = Jvm.exec) (hb : c.code = cc) {b N : Nat} {xs : Nat → Int32} (hX : va_X b N xs s s.heap) (hbl : b < s.heap.size) (hbA : ¬ A b) (hS : va_S A s.heap H locs) {i : Int32} (j : Nat) (hi : i = nI j) (hj : j < N) (hN : N < 1000) (hdg : decode cc pc = .ok (.iaload, 1))
    (kk : W p l e R s m args below meth c H locs cells slots Q (F0 m (pc + 1) ls (.int (xs j) :: rest))) : W p l e R s m args below meth c H locs cells slots Q (F0 m pc ls (.int i :: .ref b :: rest)) := by
  subst hi
  refine va_sld hx hb hX hbl hbA hS (vp_in_nI hj (by omega)) hdg ?_
  rw [nI_clamp (show j < 2 ^ 31 by omega)]
  exact kk
theorem zq_L0 {post : Int32 → zq_St → Prop} (F : CallFix p m c cc nL s args lw_all own) (hI : zq_L D a ca g cg A s u v H locs) (hM : zq_Ci l y bb L r lev (a 0) As (zq_t0 ca) (zq_w0 a ca) u post) (h1 : Cond.methodLink own idx y ∈ lw_all) (h2 : Cond.instanceMethod y ∈ lw_all) (h3 : Cond.selects y.cls y y ∈ lw_all) (h4 : Cond.initialized y.cls ∈ lw_all) (h5 : Cond.code y bb L (some r) ∈ lw_all) (hy : (y.cls, TX0, 18) = (RX0, TX0, 18)) (hd : y.cls = y.cls ∧ y.cls ≠ "java/lang/invoke/MethodHandle" ∧ y.cls ≠ "java/lang/invoke/VarHandle" ∧ (parseMethodDescriptor y.desc).map (fun d => d.parameters.length) = some As.length) (hR : lev + 1 ≤ R.frames ∧ 8 + (L + 11) + 30 * lev ≤ R.locals) (hsize : ls.size = nL) (hstack : st0 = As.reverse ++ .ref (a 0) :: rest) (hW : (rest.map fun v => v.category).sum ≤ 8) (hdg : decode cc pc = .ok (.invokevirtual idx, 3)) (hf : cells ≤ R.cells ∧ slots ≤ R.slots)
    (kk : ∀ (z : Int32) (u' : zq_St) (H1 : Heap) (locs1 : List Loc), post z u' → zq_L D a ca g cg A s u' v H1 locs1 → W p l e R s m args below meth c H1 locs1 cells slots Q (F0 m (pc + 3) ls (.int z :: rest))) : W p l e R s m args below meth c H locs cells slots Q (F0 m pc ls st0) := by
  obtain ⟨hK, hK1, hP, hP1, hD, hS, hA⟩ := hI
  refine zq_calli (ci := 0) (N := 18) (T := TX0) F hM (lw_V h1 h2 h3 h4 h5) hd hR hK hP (zq_Dl hD) hS hA (congrArg some hy.symm) rfl hsize hstack hW hdg hf (fun z u' H1 locs1 hp hP2 hz hk hS1 => ?_)
  exact kk z u' H1 locs1 hp ⟨hK, hK1, hP2, zq_keep hD hP1 hk, zq_Dmap hD rfl, hS1, hA⟩
theorem zq_L1 {post : Int32 → zq_St → Prop} (F : CallFix p m c cc nL s args lw_all own) (hI : zq_L D a ca g cg A s u v H locs) (hM : zq_Ci l y bb L r lev (g 0) As (zq_t1 cg) (zq_w1 g cg) v post) (h1 : Cond.methodLink own idx y ∈ lw_all) (h2 : Cond.instanceMethod y ∈ lw_all) (h3 : Cond.selects y.cls y y ∈ lw_all) (h4 : Cond.initialized y.cls ∈ lw_all) (h5 : Cond.code y bb L (some r) ∈ lw_all) (hy : (y.cls, TX1, 13) = (RX1, TX1, 13)) (hd : y.cls = y.cls ∧ y.cls ≠ "java/lang/invoke/MethodHandle" ∧ y.cls ≠ "java/lang/invoke/VarHandle" ∧ (parseMethodDescriptor y.desc).map (fun d => d.parameters.length) = some As.length) (hR : lev + 1 ≤ R.frames ∧ 8 + (L + 11) + 30 * lev ≤ R.locals) (hsize : ls.size = nL) (hstack : st0 = As.reverse ++ .ref (g 0) :: rest) (hW : (rest.map fun v => v.category).sum ≤ 8) (hdg : decode cc pc = .ok (.invokevirtual idx, 3)) (hf : cells ≤ R.cells ∧ slots ≤ R.slots)
    (kk : ∀ (z : Int32) (v' : zq_St) (H1 : Heap) (locs1 : List Loc), post z v' → zq_L D a ca g cg A s u v' H1 locs1 → W p l e R s m args below meth c H1 locs1 cells slots Q (F0 m (pc + 3) ls (.int z :: rest))) : W p l e R s m args below meth c H locs cells slots Q (F0 m pc ls st0) := by
  obtain ⟨hK, hK1, hP, hP1, hD, hS, hA⟩ := hI
  refine zq_calli (ci := 1) (N := 13) (T := TX1) F hM (lw_V h1 h2 h3 h4 h5) hd hR hK1 hP1 (zq_Dr hD) hS hA (congrArg some hy.symm) rfl hsize hstack hW hdg hf (fun z u' H1 locs1 hp hP2 hz hk hS1 => ?_)
  exact kk z u' H1 locs1 hp ⟨hK, hK1, zq_keep2 hD hP hk, hP2, zq_Dmap hD rfl, hS1, hA⟩
end ZL
set_option maxHeartbeats 8000000 in
set_option maxRecDepth 100000 in
/-- the law's loop at its head: i ints read; both objects are at one program and one time -/
theorem zq_loop {p : Program} {e : Env} {s : State} {m : MethodId} {below : List Frame} {meth : Method} {c : Code} (l : Launch) {b L : Nat} {xs : Nat → Int32} (hL : L ≤ 320) (C0 : lw_At p s m meth c b L xs) (D : va_G) (a g : Nat → Nat) (ca cg : Nat → ClassId) : ∀ (d i : Nat) (P : zq_St) (n T q : Nat) (u v : zq_St), L < i + d → i ≤ L → zq_I0 P n T q u → zq_I1 P q v → ∀ (H : Heap) (locs : List Loc) (ls : Array Slot), zq_L D a ca g cg (fun q => s.heap.size ≤ q) s u v H locs → lv_has ls 4 [(0, .ref b), (1, .ref (a 0)), (2, .ref (g 0)), (3, .int (nI i))] → W p l e room_1 s m #[Value.ref b] below meth c H locs 22 1530 (lw_Z below #[Value.ref b] s) (F0 m 18 ls []) := by
  obtain ⟨hx, hb, hr, hml, hown, hts0, hX, hbl, hlocks, hgv⟩ := id C0
  have hts : ∀ w ∈ lw_all, w.before #[Value.ref b] s = true := fun w h => hts0 w (lw_all_tbl h)
  have F : CallFix p m c code 4 s #[Value.ref b] lw_all R_law := ⟨hx, hb, hml, hown, hts⟩
  have hbA : ¬ (fun q : Nat => s.heap.size ≤ q) b := Nat.not_le.mpr hbl
  intro d
  induction d with
  | zero =>
    intro i P n T q u v g1 g2
    exact absurd g1 (by omega)
  | succ d ih =>
    intro i P n T q u v hi1 hi2 h0 h1 H locs ls hI hl
    refine lv_iload_n hx hb dL_law_18 rfl (lv_at hl 3 rfl) ?_
    refine lv_aload_n hx hb dL_law_19 rfl (lv_at hl 0 rfl) ?_
    refine va_slen hx hb hX hbl hbA hI.2.2.2.2.2.1 dL_law_20 ?_
    refine lv_iconst (v := (nI 5)) hx hb dL_law_21 (by decide) ?_
    refine lv_isub hx hb dL_law_22 ?_
    refine lv_icmp_gt (tgt := 371) hx hb dL_law_23 (by decide) (fun c23 => ?_) (fun c23 => ?_)
    · refine lv_iconst (v := 1) hx hb dL_law_371 (by decide) ?_
      refine va_forget (fun q hq => hI.2.2.2.2.2.1.2.2 q hq) ?_
      refine W.widen (k := 600000) (n := 7290000) (by decide) (by decide) ?_
      exact lw_ret hx hb hr hlocks dL_law_372
    · have hi5 : i + 5 ≤ L := zq_i5 hL (by omega) c23
      have next : ∀ (P : zq_St) (n T q : Nat) (u v : zq_St), zq_I0 P n T q u → zq_I1 P q v → ∀ (H : Heap) (locs : List Loc) (ls : Array Slot), zq_L D a ca g cg (fun q => s.heap.size ≤ q) s u v H locs → lv_has ls 4 [(0, .ref b), (1, .ref (a 0)), (2, .ref (g 0)), (3, .int (nI i))] → W p l e room_1 s m #[Value.ref b] below meth c H locs 22 1530 (lw_Z below #[Value.ref b] s) (F0 m 365 ls []) := by
        intro P n T q u v h0 h1 H locs ls hI hl
        refine lv_iinc (v := (nI (i + 5))) (lv' := [(3, .int (nI (i + 5))), (0, .ref b), (1, .ref (a 0)), (2, .ref (g 0))]) hx hb dL_law_365 hl (k := 3) rfl (nI_add i 5) (by decide) rfl (fun ls hl => ?_)
        refine lv_goto (tgt := 18) hx hb dL_law_368 (by decide) ?_
        exact ih (i + 5) P n T q u v (by omega) (by omega) h0 h1 _ _ _ hI (lv_sub hl [1, 2, 3, 0] rfl)
      refine lv_aload_n hx hb dL_law_26 rfl (lv_at hl 0 rfl) ?_
      refine lv_iload_n hx hb dL_law_27 rfl (lv_at hl 3 rfl) ?_
      refine zq_scr hx hb hX hbl hbA hI.2.2.2.2.2.1 i rfl (by omega) (by omega) dL_law_28 ?_
      refine lv_bipush (v := 15) hx hb dL_law_29 (by decide) ?_
      refine lv_iand hx hb dL_law_31 ?_
      obtain ⟨j, hj, ej⟩ := zq_sw (xs i)
      refine zq_top (z := (nI j)) ej ?_
      rcases (show j = 0 ∨ j = 1 ∨ j = 2 ∨ j = 3 ∨ j = 4 ∨ j = 5 ∨ j = 6 ∨ j = 7 ∨ j = 8 ∨ j = 9 ∨ j = 10 ∨ j = 11 ∨ j = 12 ∨ j = 13 ∨ j = 14 ∨ j = 15 by omega) with rfl | rfl | rfl | rfl | rfl | rfl | rfl | rfl | rfl | rfl | rfl | rfl | rfl | rfl | rfl | rfl
      · refine lv_tableIn (off := 60) (tgt := 92) hx hb dL_law_32 (by decide) (by decide) (by decide) (by decide) ?_
        refine lv_aload_n hx hb dL_law_92 rfl (lv_at hl 1 rfl) ?_
        refine lv_aload_n hx hb dL_law_93 rfl (lv_at hl 0 rfl) ?_
        refine lv_iload_n hx hb dL_law_94 rfl (lv_at hl 3 rfl) ?_
        refine lv_iconst (v := (nI 1)) hx hb dL_law_95 (by decide) ?_
        refine lv_iadd hx hb dL_law_96 ?_
        refine zq_top (z := (nI (i + 1))) (nI_add i 1) ?_
        refine zq_scr hx hb hX hbl hbA hI.2.2.2.2.2.1 (i + 1) rfl (by omega) (by omega) dL_law_97 ?_
        refine lv_aload_n hx hb dL_law_98 rfl (lv_at hl 0 rfl) ?_
        refine lv_iload_n hx hb dL_law_99 rfl (lv_at hl 3 rfl) ?_
        refine lv_iconst (v := (nI 2)) hx hb dL_law_100 (by decide) ?_
        refine lv_iadd hx hb dL_law_101 ?_
        refine zq_top (z := (nI (i + 2))) (nI_add i 2) ?_
        refine zq_scr hx hb hX hbl hbA hI.2.2.2.2.2.1 (i + 2) rfl (by omega) (by omega) dL_law_102 ?_
        refine lv_aload_n hx hb dL_law_103 rfl (lv_at hl 0 rfl) ?_
        refine lv_iload_n hx hb dL_law_104 rfl (lv_at hl 3 rfl) ?_
        refine lv_iconst (v := (nI 3)) hx hb dL_law_105 (by decide) ?_
        refine lv_iadd hx hb dL_law_106 ?_
        refine zq_top (z := (nI (i + 3))) (nI_add i 3) ?_
        refine zq_scr hx hb hX hbl hbA hI.2.2.2.2.2.1 (i + 3) rfl (by omega) (by omega) dL_law_107 ?_
        refine lv_aload_n hx hb dL_law_108 rfl (lv_at hl 0 rfl) ?_
        refine lv_iload_n hx hb dL_law_109 rfl (lv_at hl 3 rfl) ?_
        refine lv_iconst (v := (nI 4)) hx hb dL_law_110 (by decide) ?_
        refine lv_iadd hx hb dL_law_111 ?_
        refine zq_top (z := (nI (i + 4))) (nI_add i 4) ?_
        refine zq_scr hx hb hX hbl hbA hI.2.2.2.2.2.1 (i + 4) rfl (by omega) (by omega) dL_law_112 ?_
        refine zq_L0 (rest := []) F hI (m0_emit l a ca u P n T q h0 (xs (i + 1)) (xs (i + 2)) (xs (i + 3)) (xs (i + 4))) q130 q131 q132 q22 q133 rfl hdX0_emit (by decide) hl.1 rfl (Nat.le_of_ble_eq_true rfl) dL_law_113 (by decide) (fun r0 u0 H locs hp0 hI => ?_)
        refine lv_aload_n hx hb dL_law_116 rfl (lv_at hl 2 rfl) ?_
        refine lv_aload_n hx hb dL_law_117 rfl (lv_at hl 0 rfl) ?_
        refine lv_iload_n hx hb dL_law_118 rfl (lv_at hl 3 rfl) ?_
        refine lv_iconst (v := (nI 1)) hx hb dL_law_119 (by decide) ?_
        refine lv_iadd hx hb dL_law_120 ?_
        refine zq_top (z := (nI (i + 1))) (nI_add i 1) ?_
        refine zq_scr hx hb hX hbl hbA hI.2.2.2.2.2.1 (i + 1) rfl (by omega) (by omega) dL_law_121 ?_
        refine lv_aload_n hx hb dL_law_122 rfl (lv_at hl 0 rfl) ?_
        refine lv_iload_n hx hb dL_law_123 rfl (lv_at hl 3 rfl) ?_
        refine lv_iconst (v := (nI 2)) hx hb dL_law_124 (by decide) ?_
        refine lv_iadd hx hb dL_law_125 ?_
        refine zq_top (z := (nI (i + 2))) (nI_add i 2) ?_
        refine zq_scr hx hb hX hbl hbA hI.2.2.2.2.2.1 (i + 2) rfl (by omega) (by omega) dL_law_126 ?_
        refine lv_aload_n hx hb dL_law_127 rfl (lv_at hl 0 rfl) ?_
        refine lv_iload_n hx hb dL_law_128 rfl (lv_at hl 3 rfl) ?_
        refine lv_iconst (v := (nI 3)) hx hb dL_law_129 (by decide) ?_
        refine lv_iadd hx hb dL_law_130 ?_
        refine zq_top (z := (nI (i + 3))) (nI_add i 3) ?_
        refine zq_scr hx hb hX hbl hbA hI.2.2.2.2.2.1 (i + 3) rfl (by omega) (by omega) dL_law_131 ?_
        refine lv_aload_n hx hb dL_law_132 rfl (lv_at hl 0 rfl) ?_
        refine lv_iload_n hx hb dL_law_133 rfl (lv_at hl 3 rfl) ?_
        refine lv_iconst (v := (nI 4)) hx hb dL_law_134 (by decide) ?_
        refine lv_iadd hx hb dL_law_135 ?_
        refine zq_top (z := (nI (i + 4))) (nI_add i 4) ?_
        refine zq_scr hx hb hX hbl hbA hI.2.2.2.2.2.1 (i + 4) rfl (by omega) (by omega) dL_law_136 ?_
        refine zq_L1 (rest := [.int r0]) F hI (m1_emit l g cg v P n q h0.1 h1 (xs (i + 1)) (xs (i + 2)) (xs (i + 3)) (xs (i + 4))) q232 q233 q234 q23 q235 rfl hdX1_emit (by decide) hl.1 rfl (Nat.le_of_ble_eq_true rfl) dL_law_137 (by decide) (fun r1 v0 H locs hp1 hI => ?_)
        obtain ⟨P1, n1, T1, q1, hs1, g0⟩ := hp0
        obtain ⟨P2, n2, q2, hs2, g1⟩ := hp1
        obtain ⟨er, eP, en, eq⟩ := zq_sEm_u hs1 hs2
        subst eP
        subst en
        subst eq
        refine lv_icmp_eq (tgt := 365) hx hb dL_law_140 (by decide) (fun ce => ?_) (fun ce => absurd er ce)
        exact next P1 n1 T1 q1 u0 v0 g0 g1 _ _ _ hI (lv_sub hl [0, 1, 2, 3] rfl)
      · refine lv_tableIn (off := 113) (tgt := 145) hx hb dL_law_32 (by decide) (by decide) (by decide) (by decide) ?_
        refine lv_aload_n hx hb dL_law_145 rfl (lv_at hl 1 rfl) ?_
        refine lv_aload_n hx hb dL_law_146 rfl (lv_at hl 0 rfl) ?_
        refine lv_iload_n hx hb dL_law_147 rfl (lv_at hl 3 rfl) ?_
        refine lv_iconst (v := (nI 1)) hx hb dL_law_148 (by decide) ?_
        refine lv_iadd hx hb dL_law_149 ?_
        refine zq_top (z := (nI (i + 1))) (nI_add i 1) ?_
        refine zq_scr hx hb hX hbl hbA hI.2.2.2.2.2.1 (i + 1) rfl (by omega) (by omega) dL_law_150 ?_
        refine zq_L0 (rest := []) F hI (m0_input l a ca u P n T q h0 (xs (i + 1))) q142 q143 q144 q22 q145 rfl hdX0_input (by decide) hl.1 rfl (Nat.le_of_ble_eq_true rfl) dL_law_151 (by decide) (fun r0 u0 H locs hp0 hI => ?_)
        refine lv_aload_n hx hb dL_law_154 rfl (lv_at hl 2 rfl) ?_
        refine lv_aload_n hx hb dL_law_155 rfl (lv_at hl 0 rfl) ?_
        refine lv_iload_n hx hb dL_law_156 rfl (lv_at hl 3 rfl) ?_
        refine lv_iconst (v := (nI 1)) hx hb dL_law_157 (by decide) ?_
        refine lv_iadd hx hb dL_law_158 ?_
        refine zq_top (z := (nI (i + 1))) (nI_add i 1) ?_
        refine zq_scr hx hb hX hbl hbA hI.2.2.2.2.2.1 (i + 1) rfl (by omega) (by omega) dL_law_159 ?_
        refine zq_L1 (rest := [.int r0]) F hI (m1_input l g cg v P n q h0.1 h1 (xs (i + 1))) q248 q249 q250 q23 q251 rfl hdX1_input (by decide) hl.1 rfl (Nat.le_of_ble_eq_true rfl) dL_law_160 (by decide) (fun r1 v0 H locs hp1 hI => ?_)
        obtain ⟨T1, er1, g0⟩ := hp0
        obtain ⟨T2, hT2, er2, g1⟩ := hp1
        have er : r0 = r1 := by rw [er1, er2, zq_T_u g0.2.1 hT2]
        refine lv_icmp_eq (tgt := 365) hx hb dL_law_163 (by decide) (fun ce => ?_) (fun ce => absurd er ce)
        exact next (zq_pi P (xs (i + 1))) n T1 0 u0 v0 g0 g1 _ _ _ hI (lv_sub hl [0, 1, 2, 3] rfl)
      · refine lv_tableIn (off := 136) (tgt := 168) hx hb dL_law_32 (by decide) (by decide) (by decide) (by decide) ?_
        refine lv_aload_n hx hb dL_law_168 rfl (lv_at hl 1 rfl) ?_
        refine zq_L0 (rest := []) F hI (m0_steps l a ca u P n T q h0) q146 q147 q148 q22 q149 rfl hdX0_steps (by decide) hl.1 rfl (Nat.le_of_ble_eq_true rfl) dL_law_169 (by decide) (fun r0 u0 H locs hp0 hI => ?_)
        refine lv_aload_n hx hb dL_law_172 rfl (lv_at hl 2 rfl) ?_
        refine zq_L1 (rest := [.int r0]) F hI (m1_steps l g cg v P n h0.1 h1.1) q272 q253 q254 q23 q255 rfl hdX1_steps (by decide) hl.1 rfl (Nat.le_of_ble_eq_true rfl) dL_law_173 (by decide) (fun r1 v0 H locs hp1 hI => ?_)
        obtain ⟨er1, g0⟩ := hp0
        obtain ⟨T2, hT2, er2, gk⟩ := hp1
        have g1 := zq_I1_k h1 gk
        have er : r0 = r1 := by rw [er1, er2, zq_T_u h0.2.1 hT2]
        refine lv_icmp_eq (tgt := 365) hx hb dL_law_176 (by decide) (fun ce => ?_) (fun ce => absurd er ce)
        exact next P n T q u0 v0 g0 g1 _ _ _ hI (lv_sub hl [0, 1, 2, 3] rfl)
      · refine lv_tableIn (off := 149) (tgt := 181) hx hb dL_law_32 (by decide) (by decide) (by decide) (by decide) ?_
        refine lv_aload_n hx hb dL_law_181 rfl (lv_at hl 1 rfl) ?_
        refine lv_aload_n hx hb dL_law_182 rfl (lv_at hl 0 rfl) ?_
        refine lv_iload_n hx hb dL_law_183 rfl (lv_at hl 3 rfl) ?_
        refine lv_iconst (v := (nI 1)) hx hb dL_law_184 (by decide) ?_
        refine lv_iadd hx hb dL_law_185 ?_
        refine zq_top (z := (nI (i + 1))) (nI_add i 1) ?_
        refine zq_scr hx hb hX hbl hbA hI.2.2.2.2.2.1 (i + 1) rfl (by omega) (by omega) dL_law_186 ?_
        refine zq_L0 (rest := []) F hI (m0_goTo l a ca u P n T q h0 (xs (i + 1))) q150 q151 q152 q22 q153 rfl hdX0_goTo (by decide) hl.1 rfl (Nat.le_of_ble_eq_true rfl) dL_law_187 (by decide) (fun r0 u0 H locs hp0 hI => ?_)
        refine lv_aload_n hx hb dL_law_190 rfl (lv_at hl 2 rfl) ?_
        refine lv_aload_n hx hb dL_law_191 rfl (lv_at hl 0 rfl) ?_
        refine lv_iload_n hx hb dL_law_192 rfl (lv_at hl 3 rfl) ?_
        refine lv_iconst (v := (nI 1)) hx hb dL_law_193 (by decide) ?_
        refine lv_iadd hx hb dL_law_194 ?_
        refine zq_top (z := (nI (i + 1))) (nI_add i 1) ?_
        refine zq_scr hx hb hX hbl hbA hI.2.2.2.2.2.1 (i + 1) rfl (by omega) (by omega) dL_law_195 ?_
        refine zq_L1 (rest := [.int r0]) F hI (m1_goTo l g cg v P n T h0.1 h0.2.1 q h0.2.2.1 h1 (xs (i + 1))) q273 q274 q275 q23 q276 rfl hdX1_goTo (by decide) hl.1 rfl (Nat.le_of_ble_eq_true rfl) dL_law_196 (by decide) (fun r1 v0 H locs hp1 hI => ?_)
        obtain ⟨q1, hs1, g0⟩ := hp0
        obtain ⟨q2, hs2, g1⟩ := hp1
        obtain ⟨er, eq⟩ := zq_sGo_u h0.2.1.1 hs1 hs2
        subst eq
        refine lv_icmp_eq (tgt := 365) hx hb dL_law_199 (by decide) (fun ce => ?_) (fun ce => absurd er ce)
        exact next P n T q1 u0 v0 g0 g1 _ _ _ hI (lv_sub hl [0, 1, 2, 3] rfl)
      · refine lv_tableIn (off := 172) (tgt := 204) hx hb dL_law_32 (by decide) (by decide) (by decide) (by decide) ?_
        refine lv_aload_n hx hb dL_law_204 rfl (lv_at hl 1 rfl) ?_
        refine zq_L0 (rest := []) F hI (m0_time l a ca u P n T q h0) q154 q155 q156 q22 q157 rfl hdX0_time (by decide) hl.1 rfl (Nat.le_of_ble_eq_true rfl) dL_law_205 (by decide) (fun r0 u0 H locs hp0 hI => ?_)
        refine lv_aload_n hx hb dL_law_208 rfl (lv_at hl 2 rfl) ?_
        refine zq_L1 (rest := [.int r0]) F hI (m1_time l g cg v P q h1) q281 q282 q283 q23 q284 rfl hdX1_time (by decide) hl.1 rfl (Nat.le_of_ble_eq_true rfl) dL_law_209 (by decide) (fun r1 v0 H locs hp1 hI => ?_)
        obtain ⟨er1, g0⟩ := hp0
        obtain ⟨er2, g1⟩ := hp1
        have er : r0 = r1 := by rw [er1, er2]
        refine lv_icmp_eq (tgt := 365) hx hb dL_law_212 (by decide) (fun ce => ?_) (fun ce => absurd er ce)
        exact next P n T q u0 v0 g0 g1 _ _ _ hI (lv_sub hl [0, 1, 2, 3] rfl)
      · refine lv_tableIn (off := 185) (tgt := 217) hx hb dL_law_32 (by decide) (by decide) (by decide) (by decide) ?_
        refine lv_aload_n hx hb dL_law_217 rfl (lv_at hl 1 rfl) ?_
        refine lv_aload_n hx hb dL_law_218 rfl (lv_at hl 0 rfl) ?_
        refine lv_iload_n hx hb dL_law_219 rfl (lv_at hl 3 rfl) ?_
        refine lv_iconst (v := (nI 1)) hx hb dL_law_220 (by decide) ?_
        refine lv_iadd hx hb dL_law_221 ?_
        refine zq_top (z := (nI (i + 1))) (nI_add i 1) ?_
        refine zq_scr hx hb hX hbl hbA hI.2.2.2.2.2.1 (i + 1) rfl (by omega) (by omega) dL_law_222 ?_
        refine zq_L0 (rest := []) F hI (m0_variable l a ca u P n T q h0 (xs (i + 1))) q158 q159 q160 q22 q161 rfl hdX0_variable (by decide) hl.1 rfl (Nat.le_of_ble_eq_true rfl) dL_law_223 (by decide) (fun r0 u0 H locs hp0 hI => ?_)
        refine lv_aload_n hx hb dL_law_226 rfl (lv_at hl 2 rfl) ?_
        refine lv_aload_n hx hb dL_law_227 rfl (lv_at hl 0 rfl) ?_
        refine lv_iload_n hx hb dL_law_228 rfl (lv_at hl 3 rfl) ?_
        refine lv_iconst (v := (nI 1)) hx hb dL_law_229 (by decide) ?_
        refine lv_iadd hx hb dL_law_230 ?_
        refine zq_top (z := (nI (i + 1))) (nI_add i 1) ?_
        refine zq_scr hx hb hX hbl hbA hI.2.2.2.2.2.1 (i + 1) rfl (by omega) (by omega) dL_law_231 ?_
        refine zq_L1 (rest := [.int r0]) F hI (m1_variable l g cg v P n T h0.1 h0.2.1 q h0.2.2.1 h1 (xs (i + 1))) q285 q286 q287 q23 q288 rfl hdX1_variable (by decide) hl.1 rfl (Nat.le_of_ble_eq_true rfl) dL_law_232 (by decide) (fun r1 v0 H locs hp1 hI => ?_)
        obtain ⟨hs1, g0⟩ := hp0
        obtain ⟨hs2, g1⟩ := hp1
        have er := zq_sVa_u hs1 hs2
        refine lv_icmp_eq (tgt := 365) hx hb dL_law_235 (by decide) (fun ce => ?_) (fun ce => absurd er ce)
        exact next P n T q u0 v0 g0 g1 _ _ _ hI (lv_sub hl [0, 1, 2, 3] rfl)
      · refine lv_tableIn (off := 208) (tgt := 240) hx hb dL_law_32 (by decide) (by decide) (by decide) (by decide) ?_
        refine lv_aload_n hx hb dL_law_240 rfl (lv_at hl 1 rfl) ?_
        refine lv_aload_n hx hb dL_law_241 rfl (lv_at hl 0 rfl) ?_
        refine lv_iload_n hx hb dL_law_242 rfl (lv_at hl 3 rfl) ?_
        refine lv_iconst (v := (nI 1)) hx hb dL_law_243 (by decide) ?_
        refine lv_iadd hx hb dL_law_244 ?_
        refine zq_top (z := (nI (i + 1))) (nI_add i 1) ?_
        refine zq_scr hx hb hX hbl hbA hI.2.2.2.2.2.1 (i + 1) rfl (by omega) (by omega) dL_law_245 ?_
        refine zq_L0 (rest := []) F hI (m0_cell l a ca u P n T q h0 (xs (i + 1))) q162 q163 q164 q22 q165 rfl hdX0_cell (by decide) hl.1 rfl (Nat.le_of_ble_eq_true rfl) dL_law_246 (by decide) (fun r0 u0 H locs hp0 hI => ?_)
        refine lv_aload_n hx hb dL_law_249 rfl (lv_at hl 2 rfl) ?_
        refine lv_aload_n hx hb dL_law_250 rfl (lv_at hl 0 rfl) ?_
        refine lv_iload_n hx hb dL_law_251 rfl (lv_at hl 3 rfl) ?_
        refine lv_iconst (v := (nI 1)) hx hb dL_law_252 (by decide) ?_
        refine lv_iadd hx hb dL_law_253 ?_
        refine zq_top (z := (nI (i + 1))) (nI_add i 1) ?_
        refine zq_scr hx hb hX hbl hbA hI.2.2.2.2.2.1 (i + 1) rfl (by omega) (by omega) dL_law_254 ?_
        refine zq_L1 (rest := [.int r0]) F hI (m1_cell l g cg v P n T h0.1 h0.2.1 q h0.2.2.1 h1 (xs (i + 1))) q289 q290 q291 q23 q292 rfl hdX1_cell (by decide) hl.1 rfl (Nat.le_of_ble_eq_true rfl) dL_law_255 (by decide) (fun r1 v0 H locs hp1 hI => ?_)
        obtain ⟨hs1, g0⟩ := hp0
        obtain ⟨hs2, g1⟩ := hp1
        have er := zq_sCe_u hs1 hs2
        refine lv_icmp_eq (tgt := 365) hx hb dL_law_258 (by decide) (fun ce => ?_) (fun ce => absurd er ce)
        exact next P n T q u0 v0 g0 g1 _ _ _ hI (lv_sub hl [0, 1, 2, 3] rfl)
      · refine lv_tableIn (off := 231) (tgt := 263) hx hb dL_law_32 (by decide) (by decide) (by decide) (by decide) ?_
        refine lv_aload_n hx hb dL_law_263 rfl (lv_at hl 1 rfl) ?_
        refine lv_aload_n hx hb dL_law_264 rfl (lv_at hl 0 rfl) ?_
        refine lv_iload_n hx hb dL_law_265 rfl (lv_at hl 3 rfl) ?_
        refine lv_iconst (v := (nI 1)) hx hb dL_law_266 (by decide) ?_
        refine lv_iadd hx hb dL_law_267 ?_
        refine zq_top (z := (nI (i + 1))) (nI_add i 1) ?_
        refine zq_scr hx hb hX hbl hbA hI.2.2.2.2.2.1 (i + 1) rfl (by omega) (by omega) dL_law_268 ?_
        refine lv_aload_n hx hb dL_law_269 rfl (lv_at hl 0 rfl) ?_
        refine lv_iload_n hx hb dL_law_270 rfl (lv_at hl 3 rfl) ?_
        refine lv_iconst (v := (nI 2)) hx hb dL_law_271 (by decide) ?_
        refine lv_iadd hx hb dL_law_272 ?_
        refine zq_top (z := (nI (i + 2))) (nI_add i 2) ?_
        refine zq_scr hx hb hX hbl hbA hI.2.2.2.2.2.1 (i + 2) rfl (by omega) (by omega) dL_law_273 ?_
        refine zq_L0 (rest := []) F hI (m0_lastWrite l a ca u P n T q h0 (xs (i + 1)) (xs (i + 2))) q166 q167 q168 q22 q169 rfl hdX0_lastWrite (by decide) hl.1 rfl (Nat.le_of_ble_eq_true rfl) dL_law_274 (by decide) (fun r0 u0 H locs hp0 hI => ?_)
        refine lv_aload_n hx hb dL_law_277 rfl (lv_at hl 2 rfl) ?_
        refine lv_aload_n hx hb dL_law_278 rfl (lv_at hl 0 rfl) ?_
        refine lv_iload_n hx hb dL_law_279 rfl (lv_at hl 3 rfl) ?_
        refine lv_iconst (v := (nI 1)) hx hb dL_law_280 (by decide) ?_
        refine lv_iadd hx hb dL_law_281 ?_
        refine zq_top (z := (nI (i + 1))) (nI_add i 1) ?_
        refine zq_scr hx hb hX hbl hbA hI.2.2.2.2.2.1 (i + 1) rfl (by omega) (by omega) dL_law_282 ?_
        refine lv_aload_n hx hb dL_law_283 rfl (lv_at hl 0 rfl) ?_
        refine lv_iload_n hx hb dL_law_284 rfl (lv_at hl 3 rfl) ?_
        refine lv_iconst (v := (nI 2)) hx hb dL_law_285 (by decide) ?_
        refine lv_iadd hx hb dL_law_286 ?_
        refine zq_top (z := (nI (i + 2))) (nI_add i 2) ?_
        refine zq_scr hx hb hX hbl hbA hI.2.2.2.2.2.1 (i + 2) rfl (by omega) (by omega) dL_law_287 ?_
        refine zq_L1 (rest := [.int r0]) F hI (m1_lastWrite l g cg v P n T h0.1 h0.2.1 q h0.2.2.1 h1 (xs (i + 1)) (xs (i + 2))) q293 q294 q295 q23 q296 rfl hdX1_lastWrite (by decide) hl.1 rfl (Nat.le_of_ble_eq_true rfl) dL_law_288 (by decide) (fun r1 v0 H locs hp1 hI => ?_)
        obtain ⟨hs1, g0⟩ := hp0
        obtain ⟨hs2, g1⟩ := hp1
        have er := zq_sLw_u hs1 hs2
        refine lv_icmp_eq (tgt := 365) hx hb dL_law_291 (by decide) (fun ce => ?_) (fun ce => absurd er ce)
        exact next P n T q u0 v0 g0 g1 _ _ _ hI (lv_sub hl [0, 1, 2, 3] rfl)
      · refine lv_tableIn (off := 264) (tgt := 296) hx hb dL_law_32 (by decide) (by decide) (by decide) (by decide) ?_
        refine lv_aload_n hx hb dL_law_296 rfl (lv_at hl 1 rfl) ?_
        refine lv_aload_n hx hb dL_law_297 rfl (lv_at hl 0 rfl) ?_
        refine lv_iload_n hx hb dL_law_298 rfl (lv_at hl 3 rfl) ?_
        refine lv_iconst (v := (nI 1)) hx hb dL_law_299 (by decide) ?_
        refine lv_iadd hx hb dL_law_300 ?_
        refine zq_top (z := (nI (i + 1))) (nI_add i 1) ?_
        refine zq_scr hx hb hX hbl hbA hI.2.2.2.2.2.1 (i + 1) rfl (by omega) (by omega) dL_law_301 ?_
        refine zq_L0 (rest := []) F hI (m0_runTo l a ca u P n T q h0 (xs (i + 1))) q174 q175 q176 q22 q177 rfl hdX0_runTo (by decide) hl.1 rfl (Nat.le_of_ble_eq_true rfl) dL_law_302 (by decide) (fun r0 u0 H locs hp0 hI => ?_)
        refine lv_aload_n hx hb dL_law_305 rfl (lv_at hl 2 rfl) ?_
        refine lv_aload_n hx hb dL_law_306 rfl (lv_at hl 0 rfl) ?_
        refine lv_iload_n hx hb dL_law_307 rfl (lv_at hl 3 rfl) ?_
        refine lv_iconst (v := (nI 1)) hx hb dL_law_308 (by decide) ?_
        refine lv_iadd hx hb dL_law_309 ?_
        refine zq_top (z := (nI (i + 1))) (nI_add i 1) ?_
        refine zq_scr hx hb hX hbl hbA hI.2.2.2.2.2.1 (i + 1) rfl (by omega) (by omega) dL_law_310 ?_
        refine zq_L1 (rest := [.int r0]) F hI (m1_runTo l g cg v P n T h0.1 h0.2.1 q h0.2.2.1 h1 (xs (i + 1))) q297 q298 q299 q23 q300 rfl hdX1_runTo (by decide) hl.1 rfl (Nat.le_of_ble_eq_true rfl) dL_law_311 (by decide) (fun r1 v0 H locs hp1 hI => ?_)
        obtain ⟨q1, hs1, g0⟩ := hp0
        obtain ⟨q2, hs2, g1⟩ := hp1
        obtain ⟨er, eq⟩ := zq_sRu_u hs1 hs2
        subst eq
        refine lv_icmp_eq (tgt := 365) hx hb dL_law_314 (by decide) (fun ce => ?_) (fun ce => absurd er ce)
        exact next P n T q1 u0 v0 g0 g1 _ _ _ hI (lv_sub hl [0, 1, 2, 3] rfl)
      · refine lv_tableIn (off := 287) (tgt := 319) hx hb dL_law_32 (by decide) (by decide) (by decide) (by decide) ?_
        refine lv_aload_n hx hb dL_law_319 rfl (lv_at hl 1 rfl) ?_
        refine lv_aload_n hx hb dL_law_320 rfl (lv_at hl 0 rfl) ?_
        refine lv_iload_n hx hb dL_law_321 rfl (lv_at hl 3 rfl) ?_
        refine lv_iconst (v := (nI 1)) hx hb dL_law_322 (by decide) ?_
        refine lv_iadd hx hb dL_law_323 ?_
        refine zq_top (z := (nI (i + 1))) (nI_add i 1) ?_
        refine zq_scr hx hb hX hbl hbA hI.2.2.2.2.2.1 (i + 1) rfl (by omega) (by omega) dL_law_324 ?_
        refine zq_L0 (rest := []) F hI (m0_backTo l a ca u P n T q h0 (xs (i + 1))) q178 q179 q180 q22 q181 rfl hdX0_backTo (by decide) hl.1 rfl (Nat.le_of_ble_eq_true rfl) dL_law_325 (by decide) (fun r0 u0 H locs hp0 hI => ?_)
        refine lv_aload_n hx hb dL_law_328 rfl (lv_at hl 2 rfl) ?_
        refine lv_aload_n hx hb dL_law_329 rfl (lv_at hl 0 rfl) ?_
        refine lv_iload_n hx hb dL_law_330 rfl (lv_at hl 3 rfl) ?_
        refine lv_iconst (v := (nI 1)) hx hb dL_law_331 (by decide) ?_
        refine lv_iadd hx hb dL_law_332 ?_
        refine zq_top (z := (nI (i + 1))) (nI_add i 1) ?_
        refine zq_scr hx hb hX hbl hbA hI.2.2.2.2.2.1 (i + 1) rfl (by omega) (by omega) dL_law_333 ?_
        refine zq_L1 (rest := [.int r0]) F hI (m1_backTo l g cg v P n T h0.1 h0.2.1 q h0.2.2.1 h1 (xs (i + 1))) q301 q302 q303 q23 q304 rfl hdX1_backTo (by decide) hl.1 rfl (Nat.le_of_ble_eq_true rfl) dL_law_334 (by decide) (fun r1 v0 H locs hp1 hI => ?_)
        obtain ⟨q1, hs1, g0⟩ := hp0
        obtain ⟨q2, hs2, g1⟩ := hp1
        obtain ⟨er, eq⟩ := zq_sBa_u hs1 hs2
        subst eq
        refine lv_icmp_eq (tgt := 365) hx hb dL_law_337 (by decide) (fun ce => ?_) (fun ce => absurd er ce)
        exact next P n T q1 u0 v0 g0 g1 _ _ _ hI (lv_sub hl [0, 1, 2, 3] rfl)
      · refine lv_tableIn (off := 310) (tgt := 342) hx hb dL_law_32 (by decide) (by decide) (by decide) (by decide) ?_
        refine lv_aload_n hx hb dL_law_342 rfl (lv_at hl 1 rfl) ?_
        refine lv_aload_n hx hb dL_law_343 rfl (lv_at hl 0 rfl) ?_
        refine lv_iload_n hx hb dL_law_344 rfl (lv_at hl 3 rfl) ?_
        refine lv_iconst (v := (nI 1)) hx hb dL_law_345 (by decide) ?_
        refine lv_iadd hx hb dL_law_346 ?_
        refine zq_top (z := (nI (i + 1))) (nI_add i 1) ?_
        refine zq_scr hx hb hX hbl hbA hI.2.2.2.2.2.1 (i + 1) rfl (by omega) (by omega) dL_law_347 ?_
        refine zq_L0 (rest := []) F hI (m0_backBeforeWrite l a ca u P n T q h0 (xs (i + 1))) q182 q183 q184 q22 q185 rfl hdX0_backBeforeWrite (by decide) hl.1 rfl (Nat.le_of_ble_eq_true rfl) dL_law_348 (by decide) (fun r0 u0 H locs hp0 hI => ?_)
        refine lv_aload_n hx hb dL_law_351 rfl (lv_at hl 2 rfl) ?_
        refine lv_aload_n hx hb dL_law_352 rfl (lv_at hl 0 rfl) ?_
        refine lv_iload_n hx hb dL_law_353 rfl (lv_at hl 3 rfl) ?_
        refine lv_iconst (v := (nI 1)) hx hb dL_law_354 (by decide) ?_
        refine lv_iadd hx hb dL_law_355 ?_
        refine zq_top (z := (nI (i + 1))) (nI_add i 1) ?_
        refine zq_scr hx hb hX hbl hbA hI.2.2.2.2.2.1 (i + 1) rfl (by omega) (by omega) dL_law_356 ?_
        refine zq_L1 (rest := [.int r0]) F hI (m1_backBeforeWrite l g cg v P n T h0.1 h0.2.1 q h0.2.2.1 h1 (xs (i + 1))) q305 q306 q307 q23 q308 rfl hdX1_backBeforeWrite (by decide) hl.1 rfl (Nat.le_of_ble_eq_true rfl) dL_law_357 (by decide) (fun r1 v0 H locs hp1 hI => ?_)
        obtain ⟨q1, hs1, g0⟩ := hp0
        obtain ⟨q2, hs2, g1⟩ := hp1
        obtain ⟨er, eq⟩ := zq_sBw_u hs1 hs2
        subst eq
        refine lv_icmp_eq (tgt := 365) hx hb dL_law_360 (by decide) (fun ce => ?_) (fun ce => absurd er ce)
        exact next P n T q1 u0 v0 g0 g1 _ _ _ hI (lv_sub hl [0, 1, 2, 3] rfl)
      · refine lv_tableOut (tgt := 365) hx hb dL_law_32 (by decide) (by decide) ?_
        exact next P n T q u v h0 h1 _ _ _ hI (lv_sub hl [0, 1, 2, 3] rfl)
      · refine lv_tableOut (tgt := 365) hx hb dL_law_32 (by decide) (by decide) ?_
        exact next P n T q u v h0 h1 _ _ _ hI (lv_sub hl [0, 1, 2, 3] rfl)
      · refine lv_tableOut (tgt := 365) hx hb dL_law_32 (by decide) (by decide) ?_
        exact next P n T q u v h0 h1 _ _ _ hI (lv_sub hl [0, 1, 2, 3] rfl)
      · refine lv_tableOut (tgt := 365) hx hb dL_law_32 (by decide) (by decide) ?_
        exact next P n T q u v h0 h1 _ _ _ hI (lv_sub hl [0, 1, 2, 3] rfl)
      · refine lv_tableOut (tgt := 365) hx hb dL_law_32 (by decide) (by decide) ?_
        exact next P n T q u v h0 h1 _ _ _ hI (lv_sub hl [0, 1, 2, 3] rfl)
end
section
set_option maxRecDepth 100000
set_option maxHeartbeats 8000000 in
set_option maxRecDepth 100000 in
theorem whole_start {p : Program} {e : Env} {s : State} {m : MethodId} {below : List Frame} {meth : Method} {c : Code} (l : Launch) {b L : Nat} {xs : Nat → Int32} (hL : L ≤ 320) (C0 : lw_At p s m meth c b L xs) : W p l e room_1 s m #[Value.ref b] below meth c s.heap [] 0 0 (lw_Z below #[Value.ref b] s) (entryFrame m ([Value.ref b] : List Value).toArray 4) := by
  obtain ⟨hx, hb, hr, hml, hown, hts0, hX, hbl, hlocks, hgv⟩ := id C0
  have hts : ∀ w ∈ lw_all, w.before #[Value.ref b] s = true := fun w h => hts0 w (lw_all_tbl h)
  have F : CallFix p m c code 4 s #[Value.ref b] lw_all R_law := ⟨hx, hb, hml, hown, hts⟩
  have hA : ∀ q : Nat, s.heap.size ≤ q → (fun q : Nat => s.heap.size ≤ q) q := fun _ h => h
  obtain ⟨c0_, iS0, hKn0⟩ := u_known (C := RX0) (T := TX0) (N := 18) (n := 18) hts0 (fun w h => lw_all_tbl (in_X0 w h)) (hts _ q25)
  obtain ⟨c1_, iS1, hKn1⟩ := u_known (C := RX1) (T := TX1) (N := 13) (n := 13) hts0 (fun w h => lw_all_tbl (in_X1 w h)) (hts _ q187)
  obtain ⟨D, hKc⟩ : ∃ D : va_G, ∀ (k : Nat) (q : vw_C), zq_cl[k]? = some q → u_Kn s q.1 q.2.1 q.2.2 (D.1 k) (D.2 k) := by
    refine ⟨(fun k => if k = 0 then c0_ else c1_, fun k => if k = 0 then iS0 else iS1), ?_⟩
    intro k q hq
    match k, hq with
    | 0, hq => cases hq; exact hKn0
    | 1, hq => cases hq; exact hKn1
    | k + 2, hq => simp [zq_cl] at hq
  have hS : va_S (fun q : Nat => s.heap.size ≤ q) s.heap s.heap [] := va_S.rf
  have hK : va_K D zq_cl [] s := ⟨hKc, fun k q h => by simp at h⟩
  have hP : va_P D zq_cl [] s.heap := fun k q h => by simp at h
  have hD : va_D (fun q : Nat => s.heap.size ≤ q) [] := ⟨fun i j p q h => by simp at h, fun k q h => by simp at h⟩
  have hl := lv_entry ([.ref b]) (n := 4) (Nat.le_of_ble_eq_true rfl)
  rw [lg_entry_eq]
  generalize (lg_sl ([.ref b]) ++ List.replicate (4 - (lg_sl ([.ref b])).length) Slot.unset).toArray = ls at hl ⊢
  have hl : lv_has ls 4 [(0, .ref b)] := hl
  refine va_new (ci := 0) (fs := zq_d0) (C := RX0) (T := TX0) (N := 18) hx hb hts in_X0 tyX0 tyX0_ok hown (hts _ q24) (hts _ q25) (hts _ q22) hK hP hD hS hA rfl (fun j hj => by rcases (show j = 0 ∨ j = 1 ∨ j = 2 ∨ j = 3 ∨ j = 4 ∨ j = 5 ∨ j = 6 ∨ j = 7 ∨ j = 8 ∨ j = 9 ∨ j = 10 ∨ j = 11 ∨ j = 12 ∨ j = 13 ∨ j = 14 ∨ j = 15 ∨ j = 16 ∨ j = 17 by omega) with rfl | rfl | rfl | rfl | rfl | rfl | rfl | rfl | rfl | rfl | rfl | rfl | rfl | rfl | rfl | rfl | rfl | rfl <;> rfl) (by decide) (by decide) dL_law_0 (fun h0_ H hP hD hS => ?_)
  refine W.widen (k := 1) (n := 18) (by decide) (by decide) ?_
  refine lv_dup hx hb dL_law_3 rfl ?_
  have hP : va_P D zq_cl [(h0_, .inr (0, zq_d0))] H := hP
  have hD : va_D (fun q : Nat => s.heap.size ≤ q) [(h0_, .inr (0, zq_d0))] := hD
  have hPc := hP
  have hDc := hD
  have hFc : ∀ q, va_A [(h0_, .inr (0, zq_d0))] H.size q → (fun q : Nat => s.heap.size ≤ q) q := va_free (wc := [(h0_, .inr (0, zq_d0))]) hD hS hA [0] rfl
  refine va_callv (va_runI (As := []) (rest := [.ref h0_]) F (m0_init l D h0_ H.size) (cwI 0 hts (lw_meth q28) rfl rfl rfl (hts _ q22) (hts _ q26) (hts _ q27) rfl (by decide +kernel) ⟨Nat.le_of_ble_eq_true rfl, Nat.le_of_ble_eq_true rfl⟩) ⟨fun a U g mk q => by obtain ⟨q0, q1, qP, qK, qD⟩ := q; exact ⟨q0, q1, qP, va_K.moved (u := U) (U := U.calling g mk a) (Vm.Alike.refl U.vm) qK, qD⟩, fun U hU hW => ⟨rfl, by rw [hU], by rw [hU]; exact hPc, va_K.moved hW.alike hK, hDc.weaken (fun _ _ _ _ => trivial)⟩⟩ rfl rfl hl.1 rfl (lv_room (Nat.le_of_ble_eq_true rfl)) dL_law_4 (by decide)) hS (fun q _ h => hFc q h) hFc (fun w0 t H1 locs ht hvm hw0 hB hz1 hk1 hS => ?_)
  obtain ⟨a, ca, u⟩ := w0
  obtain ⟨ea, T, h0⟩ := hw0
  obtain ⟨hP0, hK0, hD0⟩ := hB
  have ea : a 0 = h0_ := ea
  have h0 : zq_I0 (fun _ _ => 0) 0 T 0 u := h0
  have hP0 : va_P D zq_cl (zq_w0 a ca u) H1 := by rw [← ht]; exact hP0
  have hK0 : va_K D zq_cl (zq_t0 ca) s := va_K.moved hvm.symm hK0
  have hD0 : va_D (fun q : Nat => s.heap.size ≤ q) (zq_w0 a ca u) := hD0.weaken (fun k q _ h => hFc q.1 h)
  clear hP hD hPc hDc hFc hk1
  generalize H1 = H at hP0 hS ⊢
  refine W.widen (k := 15) (n := 1423) (by decide) (by decide) ?_
  refine lv_astore_n (lv' := [(1, .ref h0_), (0, .ref b)]) hx hb dL_law_7 rfl hl (by decide) rfl (fun ls hl => ?_)
  have hP := hP0
  have hD := hD0
  have hK := hK0
  refine va_new (ci := 1) (fs := zq_d1) (C := RX1) (T := TX1) (N := 13) hx hb hts in_X1 tyX1 tyX1_ok hown (hts _ q186) (hts _ q187) (hts _ q23) hK hP hD hS hA rfl (fun j hj => by rcases (show j = 0 ∨ j = 1 ∨ j = 2 ∨ j = 3 ∨ j = 4 ∨ j = 5 ∨ j = 6 ∨ j = 7 ∨ j = 8 ∨ j = 9 ∨ j = 10 ∨ j = 11 ∨ j = 12 by omega) with rfl | rfl | rfl | rfl | rfl | rfl | rfl | rfl | rfl | rfl | rfl | rfl | rfl <;> rfl) (by decide) (by decide) dL_law_8 (fun h1_ H hP hD hS => ?_)
  refine W.widen (k := 16) (n := 1436) (by decide) (by decide) ?_
  refine lv_dup hx hb dL_law_11 rfl ?_
  have hPa : va_P D zq_cl (zq_w0 a ca u) H := (fun k q hk => hP k q (by rw [List.getElem?_append_left (List.getElem?_eq_some_iff.mp hk).1]; exact hk))
  have hPc : va_P D zq_cl [(h1_, .inr (1, zq_d1))] H := (fun k q hk => hP (15 + k) q (by rw [List.getElem?_append_right (show (zq_w0 a ca u).length ≤ 15 + k from Nat.le_add_right 15 k), show 15 + k - (zq_w0 a ca u).length = k from Nat.add_sub_cancel_left 15 k]; exact hk))
  have hDc : va_D (fun q : Nat => s.heap.size ≤ q) [(h1_, .inr (1, zq_d1))] := zq_Dr hD
  have hFc : ∀ q, va_A [(h1_, .inr (1, zq_d1))] H.size q → (fun q : Nat => s.heap.size ≤ q) q := va_free (wc := [(h1_, .inr (1, zq_d1))]) hDc hS hA [0] rfl
  have hK : va_K D zq_cl [] s := ⟨hKc, fun k q h => by simp at h⟩
  refine va_callv (va_runI (As := []) (rest := [.ref h1_]) F (m1_init l D h1_ H.size) (cwI 0 hts (lw_meth q190) rfl rfl rfl (hts _ q23) (hts _ q188) (hts _ q189) rfl (by decide +kernel) ⟨Nat.le_of_ble_eq_true rfl, Nat.le_of_ble_eq_true rfl⟩) ⟨fun a U g mk q => by obtain ⟨q0, q1, qP, qK, qD⟩ := q; exact ⟨q0, q1, qP, va_K.moved (u := U) (U := U.calling g mk a) (Vm.Alike.refl U.vm) qK, qD⟩, fun U hU hW => ⟨rfl, by rw [hU], by rw [hU]; exact hPc, va_K.moved hW.alike hK, hDc.weaken (fun _ _ _ _ => trivial)⟩⟩ rfl rfl hl.1 rfl (lv_room (Nat.le_of_ble_eq_true rfl)) dL_law_12 (by decide)) hS (fun q _ h => hFc q h) hFc (fun w1 t H1 locs ht hvm hw1 hB hz1 hk1 hS => ?_)
  obtain ⟨g, cg, v⟩ := w1
  obtain ⟨eg, h1⟩ := hw1
  obtain ⟨hP1, hK1, hD1⟩ := hB
  have eg : g 0 = h1_ := eg
  have h1 : zq_I1 (fun _ _ => 0) 0 v := h1
  have hP1 : va_P D zq_cl (zq_w1 g cg v) H1 := by rw [← ht]; exact hP1
  have hK1 : va_K D zq_cl (zq_t1 cg) s := va_K.moved hvm.symm hK1
  have hP2 : va_P D zq_cl (zq_w0 a ca u) H1 := zq_keep2 hD hPa hk1
  have hD2 : va_D (fun q : Nat => s.heap.size ≤ q) (zq_w0 a ca u ++ zq_w1 g cg v) := by
    refine va_D.app hD0 (hD1.weaken (fun k q _ h => hFc q.1 h)) (fun i j x y hi hj exy => ?_)
    have hx1 : x.1 < H.size := (hPa i x hi).lt
    have hy := hD1.2 j y hj
    rcases hy with ⟨k, ee, hk⟩ | hy
    · have hk0 : k < 1 := (List.getElem?_eq_some_iff.mp hk).1
      have g1 : (zq_w0 a ca u ++ [(h1_, .inr (1, zq_d1))])[i]? = some x := by rw [List.getElem?_append_left (List.getElem?_eq_some_iff.mp hi).1]; exact hi
      have g2 : (zq_w0 a ca u ++ [(h1_, .inr (1, zq_d1))])[15 + k]? = some (y.1, ee) := by rw [List.getElem?_append_right (show (zq_w0 a ca u).length ≤ 15 + k from Nat.le_add_right 15 k), show 15 + k - (zq_w0 a ca u).length = k from Nat.add_sub_cancel_left 15 k]; exact hk
      have g3 := hD.1 _ _ _ _ g1 g2 exy
      have g4 : i < 15 := (List.getElem?_eq_some_iff.mp hi).1
      omega
    · omega
  refine W.widen (k := 22) (n := 1530) (by decide) (by decide) ?_
  refine lv_astore_n (lv' := [(2, .ref h1_), (1, .ref h0_), (0, .ref b)]) hx hb dL_law_15 rfl hl (by decide) rfl (fun ls hl => ?_)
  refine lv_iconst (v := (nI 0)) hx hb dL_law_16 (by decide) ?_
  refine lv_istore_n (lv' := [(3, .int (nI 0)), (2, .ref h1_), (1, .ref h0_), (0, .ref b)]) hx hb dL_law_17 rfl hl (by decide) rfl (fun ls hl => ?_)
  rw [← ea, ← eg] at hl
  exact zq_loop l hL C0 D a g ca cg (L + 1) 0 (fun _ _ => 0) 0 T 0 u v (by omega) (by omega) h0 h1 _ _ _ ⟨hK0, hK1, hP2, hP1, hD2, hS, hA⟩ (lv_sub hl [3, 2, 1, 0] rfl)
end
section
set_option maxHeartbeats 4000000 in
theorem lw_walk (l : Launch) (b : Addr) (xs : List Int32) : MetFree l x (headSpec (Jvm.Cond.code x code maxLocals ret :: tables_1) room_1) (lw_P b xs) (fun _ _ _ _ _ => True) lw_Q := by
  refine MetFree.of_bodyS (code := code) (maxLocals := maxLocals) (ret := ret) (by decide) ?_ ?_
  · intro args s m h hn
    obtain ⟨meth, c, h1, h2, h3, h4, h5, h6, -, -⟩ := Cond.code_spec hn (atoms_spec (ws := Jvm.Cond.code x code maxLocals ret :: tables_1) h _ List.mem_cons_self)
    exact ⟨meth, c, h1, h2, h3, h4, h5, h6⟩
  · intro p e s m args below meth c s₁ B hml0 hP _
    obtain ⟨rfl, hx, hbd, hgv⟩ := hP
    obtain ⟨scr, harrAt, hlist, hof, hsmall⟩ := hx
    obtain ⟨hcb, hkn, -, -⟩ := State.arrayAt?_spec harrAt
    have hown : s.vm.findClass R_law = some m.cls := findClass_of_methodNamed B.named
    have hts0 : ∀ c ∈ (Jvm.Cond.code x code maxLocals ret :: tables_1), c.before #[Value.ref b] s = true := atoms_spec (ws := Jvm.Cond.code x code maxLocals ret :: tables_1) B.pre
    have hts : ∀ w ∈ lw_tbl, w.before #[Value.ref b] s = true := k2_hts_sels lw_privs (fun w hw => hts0 w (List.mem_cons_of_mem _ hw)) lw_privs_ok
    have hml : c.maxLocals = 4 := B.maxLocals_eq (hts0 _ List.mem_cons_self)
    have X₀ : Stand p l e room_1 s m #[Value.ref b] below meth c s₁ [] 0 0 := Stand.of_body B
    have hh0 : s₁.heap = s.heap := by rw [B.state]; rfl
    have hsz : scr.slots.size = xs.length := by rw [← Array.length_toList, hlist, List.length_map]
    have hval : ∀ j : Nat, j < xs.length → scr.slots[j]? = some (.int (xs.getD j 0)) := fun j hj => by
      rw [← Array.getElem?_toList, hlist]
      simp [hj]
    have hbl : b < s.heap.size := (Array.getElem?_eq_some_iff.mp hcb).1
    have hX : va_X b xs.length (fun j => xs.getD j 0) s s.heap := ⟨scr, hcb, hof, hkn, hsz, hval⟩
    have K : W p l e room_1 s m #[Value.ref b] below meth c s₁.heap [] 0 0 (lw_Z below #[Value.ref b] s) (entryFrame m ([Value.ref b] : List Value).toArray 4) := by
      rw [hh0]
      exact whole_start l hbd ⟨B.exec, B.bytes, B.returns, hml, hown, hts, hX, hbl, B.notSynchronized, hgv⟩
    obtain ⟨t, a1, o, b1, b2, b3⟩ := K s₁ rfl X₀
    exact ⟨t, o, a1, b1, b2, b3⟩
theorem lw_pre_spec {args : Array Value} {s : State} (h : (Jvm.Cond.and given_1 narrow_1).before args s = true) (hr : rest_1_c.before args s = true) : ∃ (b : Addr) (xs : List Int32), lw_P b xs args s := by
  have hs := flat_of_before _ h
  have hq := flat_of_before _ hr
  have hc : (Cond.count 1).before args s = true := hs _ (by decide +kernel)
  have harr : (Cond.arrayOf (.arg 0) .int).before args s = true := hs _ (by decide +kernel)
  have hle : (Cond.le (.length (.arg 0)) (.int 320)).before args s = true := hs _ (by decide +kernel)
  have hlen : (Cond.isInt (.length (.arg 0))).before args s = true := hq _ (by decide +kernel)
  have hall : (Cond.all (.arg 0) (.isInt (.elem (.arg 0) (.index 0)))).before args s = true := hq _ (by decide +kernel)
  obtain ⟨b, xs, hb, hx⟩ := State.ints_of_pre rfl harr hlen hall
  have hsm : xs.length < 2 ^ 31 := hx.choose_spec.2.2.2
  have hev : (Term.length (.arg 0)).eval args s none [] s = some (.int xs.length.toInt32) := hx.length_eval hb
  have hv := Cond.le_ints hev (show (Term.int 320).eval args s none [] s = some (.int 320) from rfl)
  have hd : xs.length.toInt32 ≤ 320 := by
    simpa [Cond.before, Cond.holds, hv] using hle
  have hN : xs.length ≤ 320 := (Int32.ofNat_le_ofNat hsm (by decide)).mp (show Int32.ofNat xs.length ≤ Int32.ofNat 320 from hd)
  exact ⟨b, xs, Cond.one_arg hc (show args[0]? = some (.ref b) from hb), hx, hN, h⟩
theorem lw_comes (l : Launch) : Comes l x (Jvm.Cond.code x code maxLocals ret :: tables_1) room_1 (fun tb e args s => Calls_1 tb e args s ∧ rest_1 tb e args s ∧ Pre_1 tb e args s)
    (fun _ _ args s o t => lw_Q args s o t) := by
  intro p e ha hc hk s m args below hf hfit hheap happ hpre
  obtain ⟨b, xs, hP⟩ := lw_pre_spec hpre.2.2 hpre.2.1
  obtain ⟨k, o, h1, h2, h3, hQ⟩ := lw_walk l b xs p e ha hc hk s m args below hf ((Spec.applies_iff_loose hf).mp happ).1 hP trivial
  exact ⟨k, o, h1, h2, h3, hQ⟩
theorem lw_frame {s t : State} {o : Outcome} {args : Array Value} (h : Framed s o t [] 600000 7290000) :
    Framed s o t (fieldLocs frame_1_writes args s ++ arrayLocs frame_1_arrays args s ++ staticLocs frame_1_statics s) 600000 7290000 := h
theorem lw_limb (L : Cond) (hL : ∀ (args : Array Value) (s t : State), L.after args s (.returned (some (.int 1))) t = true) :
    ArmFor flags0 classFile x code maxLocals ret World_1 tables_1 room_1 Calls_1 rest_1 Pre_1
      (fun tb e a s o t => postC L tb e a s o t ∧ Framed s o t (fieldLocs frame_1_writes a s ++ arrayLocs frame_1_arrays a s ++ staticLocs frame_1_statics s) 600000 7290000) := by
  intro l _ _ _ p e ha hc hk s m args below hf hfit hheap happ hpre
  obtain ⟨k, o, h1, h2, h3, rfl, hF⟩ := lw_comes l p e ha hc hk s m args below hf hfit hheap happ hpre
  exact ⟨k, _, h1, h2, h3, hL args s _, lw_frame hF⟩
theorem i_vc : Claimed_1_1 ∧ Claimed_1_2 := ⟨lw_limb limb_1_1 (fun args s t => by simp [limb_1_1, Cond.after, Cond.holds, Cond.value]), lw_limb limb_1_2 (fun args s t => Cond.after_iff.mpr (by
  first | (rw [show limb_1_2 = Cond.eq .result (.int 1) from rfl, Cond.eq_ints (x := 1) (y := 1) rfl rfl]; simp; done) | (simp [limb_1_2, Cond.value, Term.eval]; done)))⟩
end
